/-! ===== the reference: the list ===== -/
set_option maxRecDepth 100000
theorem kV_X7_nearest : xsV yX7_nearest cX7_nearest 6 (some FieldType.int) 3 := ⟨q2432, qs130, q161, q2433, by decide, by decide, by decide +kernel⟩
theorem kV_X7_nextBehind : xsV yX7_nextBehind cX7_nextBehind 5 (some FieldType.int) 1 := ⟨q2428, qs129, q161, q2429, by decide, by decide, by decide +kernel⟩
theorem nbB_of {n q : Nat} {S : List Int32} (hn : n < 7) (hq : q ∈ rws n) (h1 : ¬ nI q = -3) (h2 : S.getD (rk n q) 0 = 0) : nbB n S (nI q) = true := by
  unfold nbB
  rw [tn_nI hn hq, decide_eq_true h2, decide_eq_true h1]; rfl
theorem nbB_not {n q : Nat} {S : List Int32} (hn : n < 7) (hq : q ∈ rws n) (h2 : ¬ S.getD (rk n q) 0 = 0) : nbB n S (nI q) = false := by
  unfold nbB
  rw [tn_nI hn hq, decide_eq_false h2, Bool.and_false]
theorem nb_t0 {n g r v : Nat} {S : List Int32} {x : Int32} (hv : 2 ≤ v) (h : nbB n S (nrs n g r v false) = true) (hx : x = nrs n g r v false) : x = nbF n g r S v := by
  obtain ⟨w, rfl⟩ : ∃ w, v = w + 1 := ⟨v - 1, by omega⟩
  unfold nbF
  rw [if_neg (by omega), if_pos h, hx]
theorem nb_t1 {n g r v : Nat} {S : List Int32} {x : Int32} (hv : 2 ≤ v) (h0 : nbB n S (nrs n g r v false) = false) (h : nbB n S (nrs n g r v true) = true) (hx : x = nrs n g r v true) : x = nbF n g r S v := by
  obtain ⟨w, rfl⟩ : ∃ w, v = w + 1 := ⟨v - 1, by omega⟩
  unfold nbF
  rw [if_neg (by omega), if_neg (by rw [h0]; decide), if_pos h, hx]
theorem nb_s {n g r v : Nat} {S : List Int32} (hv : 2 ≤ v) (h0 : nbB n S (nrs n g r v false) = false) (h1 : nbB n S (nrs n g r v true) = false) : nbF n g r S (v - 1) = nbF n g r S v := by
  obtain ⟨w, rfl⟩ : ∃ w, v = w + 1 := ⟨v - 1, by omega⟩
  conv => rhs; unfold nbF
  rw [if_neg (by omega), if_neg (by rw [h0]; decide), if_neg (by rw [h1]; decide)]; rfl
theorem x_rep0 {k : Nat} (h : k < 120) : (List.replicate 120 (0 : Int32)).getD k 0 = 0 := by
  rw [List.getD_eq_getElem?_getD, List.getElem?_replicate, if_pos h]; rfl
section M23
variable {E : xE} {G T : xH} {a : Nat → xC} {c : Nat → Value} {n : Nat}
theorem M_nextBehind {r g : Nat} {S : List Int32} (hv : kV c n a) (ha : kA n a) (hf3 : c 3 = .long (lN g)) (hg : g < 2 ^ 57) (hr : r ∈ rws n) (hn5 : n < 6) (h73 : a 73 = cI 2 S) (hS : S.length = 120) : xMet E yX7_nextBehind cX7_nextBehind 5 (some FieldType.int) 5 0 0 [.ref 54, .int (nI r)] (kG a T) (xrv (some (.int (nbF n g r S n))) (kG a T)) := by
  obtain ⟨hO, hf0, h1n, hn6, h63, h64⟩ := id hv
  refine xMet.of (lv := [some (.ref 54), some (.int (nI r)), none, none, none]) rfl rfl (Nat.le_of_ble_eq_true rfl) ?_
  refine xj_aload_n dX7_nextBehind_0 rfl rfl ?_
  refine xj_get dX7_nextBehind_1 K7 0 (by decide) q1929 (kG_a (by decide) hO) (congrArg some hf0) ?_
  refine xj_istn2 dX7_nextBehind_4 rfl ?_
  have lp : ∀ (K : Nat) (v : Nat), v < K → (v ≤ n) → (nbF n g r S v = nbF n g r S n) → xJ E (yX7_nextBehind, cX7_nextBehind, 5, (some FieldType.int), []) (xR 5 0 0) (xrv (some (.int (nbF n g r S n))) (kG a T)) 0 0 5 [some (.ref 54), some (.int (nI r)), some (.int (nI v)), none, none] [] (kG a T) := by
    intro K
    induction K with
    | zero => intro v h; exact absurd h (Nat.not_lt_zero _)
    | succ K ih_lp =>
      intro v hK hvn hs
      refine xj_iload_n dX7_nextBehind_5 rfl ?_
      refine xj_ic1 dX7_nextBehind_6 ?_
      refine xj_icmp_le (tgt := 62) dX7_nextBehind_7 rfl (fun c7 => ?_) (fun c7 => ?_)
      · refine xj_bipush (v := -3) dX7_nextBehind_62 rfl ?_
        exact xj_ireturn dX7_nextBehind_64 rfl rfl (xrv_i (by rw [← hs]; have h1 : v ≤ 1 := Nat.le_of_not_lt fun h => absurd c7 (nI_ge (a := 1) h (by omega)); match v, h1 with | 0, _ => rfl | 1, _ => rfl))
      · have hv2 : 2 ≤ v := Nat.lt_of_not_le fun h => c7 (nI_le (b := 1) h (by decide))
        have hpl : plc n r v n 0 < n := by have := (f_plc n (by omega) r hr (v - 1) (by omega)).1; rwa [show v - 1 + 1 = v by omega] at this
        have hb3 : nbB n S (nrs n g r v false) = false → nbB n S (nrs n g r v true) = false → xJ E (yX7_nextBehind, cX7_nextBehind, 5, (some FieldType.int), []) (xR 5 0 0) (xrv (some (.int (nbF n g r S n))) (kG a T)) 0 0 12 [some (.ref 54), some (.int (nI r)), some (.int (nI v)), some (.int 3), none] [] (kG a T) := by
          intro hno hno2
          refine xj_iload_n dX7_nextBehind_12 rfl ?_
          refine xj_ic2 dX7_nextBehind_13 ?_
          refine xj_icmp_ge (tgt := 56) dX7_nextBehind_14 rfl (fun c14 => ?_) (fun c14 => absurd (by decide) c14)
          refine xj_iinc2 (cst := (-1)) dX7_nextBehind_56 rfl rfl ?_
          rw [nI_m1 (by omega)]
          refine xj_goto (tgt := 5) dX7_nextBehind_59 rfl ?_
          exact xj_fg3 (ih_lp (v - 1) (by omega) (by omega) (by rw [← hs]; exact nb_s hv2 hno hno2))
        have hb1 : nbB n S (nrs n g r v false) = false → xJ E (yX7_nextBehind, cX7_nextBehind, 5, (some FieldType.int), []) (xR 5 0 0) (xrv (some (.int (nbF n g r S n))) (kG a T)) 0 0 12 [some (.ref 54), some (.int (nI r)), some (.int (nI v)), some (.int 1), none] [] (kG a T) := by
          intro hno
          refine xj_iload_n dX7_nextBehind_12 rfl ?_
          refine xj_ic2 dX7_nextBehind_13 ?_
          refine xj_icmp_ge (tgt := 56) dX7_nextBehind_14 rfl (fun c14 => absurd c14 (by decide)) (fun c14 => ?_)
          refine xj_aload_n dX7_nextBehind_17 rfl rfl ?_
          refine xj_iload_n dX7_nextBehind_18 rfl ?_
          refine xj_iload_n dX7_nextBehind_19 rfl ?_
          refine xj_iload_n dX7_nextBehind_20 rfl ?_
          have hx := nrF_row (g := g) (b := sg true) (by omega) hr hpl 8 (sg true)
          obtain ⟨y, hy⟩ : ∃ y, y = nrs n g r v true := ⟨_, rfl⟩
          refine xj_cV dX7_nextBehind_21 q2430 kV_X7_nearest (M_nearest (u := true) hv ha hf3 hg hr (by omega) (by omega)) (kG_a (by decide) hO) rfl rfl rfl rfl (Nat.le_of_ble_eq_true rfl) ⟨(Nat.le_of_ble_eq_true rfl), (Nat.le_of_ble_eq_true rfl)⟩ (Nat.le_of_ble_eq_true rfl) (Nat.le_of_ble_eq_true rfl) ?_
          rw [← hy]
          refine xj_ist4 dX7_nextBehind_24 rfl ?_
          refine xj_iload dX7_nextBehind_26 rfl ?_
          refine xj_bipush (v := -3) dX7_nextBehind_28 rfl ?_
          refine xj_icmp_eq (tgt := 50) dX7_nextBehind_30 rfl (fun c30 => ?_) (fun c30 => ?_)
          · refine xj_iinc3 (cst := 2) dX7_nextBehind_50 rfl rfl ?_
            rw [show (1 : Int32) + 2 = 3 from rfl]
            refine xj_goto (tgt := 12) dX7_nextBehind_53 rfl ?_
            exact xj_fg4 (hb3 hno (by first | (rw [← hy, c30]; rfl) | (rw [← hy, hjq]; exact nbB_not (by omega) hq c44)))
          · obtain ⟨q, hq, hjq⟩ : ∃ q ∈ rws n, y = nI q := by
              rcases hx with h | h
              · exact absurd (hy.trans h) c30
              · obtain ⟨q, hq, h⟩ := h; exact ⟨q, hq, hy.trans h⟩
            have hrq := f_rk5 n hn5 q hq
            refine xj_aload_n dX7_nextBehind_33 rfl rfl ?_
            refine xj_get dX7_nextBehind_34 K7 34 (by decide) q1963 (kG_a (by decide) hO) rfl ?_
            refine xj_aload_n dX7_nextBehind_37 rfl rfl ?_
            refine xj_iload dX7_nextBehind_38 rfl ?_
            rw [hjq]
            refine xj_cV dX7_nextBehind_40 q2148 kV_X7_rank (M_rank hv.V (R31 (by omega) hq)) (kG_a (by decide) hO) rfl rfl rfl rfl (Nat.le_of_ble_eq_true rfl) ⟨(Nat.le_of_ble_eq_true rfl), (Nat.le_of_ble_eq_true rfl)⟩ (Nat.le_of_ble_eq_true rfl) (Nat.le_of_ble_eq_true rfl) ?_
            refine xj_zald dX7_nextBehind_43 (kG_a (by decide) h73) rfl (by omega) (gD_at (by omega)) ?_
            refine xj_if_ne (tgt := 50) dX7_nextBehind_44 rfl (fun c44 => ?_) (fun c44 => ?_)
            · refine xj_iinc3 (cst := 2) dX7_nextBehind_50 rfl rfl ?_
              rw [show (1 : Int32) + 2 = 3 from rfl]
              refine xj_goto (tgt := 12) dX7_nextBehind_53 rfl ?_
              exact xj_fg4 (hb3 hno (by first | (rw [← hy, c30]; rfl) | (rw [← hy, hjq]; exact nbB_not (by omega) hq c44)))
            · refine xj_iload dX7_nextBehind_47 rfl ?_
              exact xj_ireturn dX7_nextBehind_49 rfl rfl (xrv_i (by rw [← hs]; exact nb_t1 hv2 hno (by rw [← hy, hjq]; exact nbB_of (by omega) hq (by rw [← hjq]; exact c30) c44) (by rw [← hy, hjq])))
        refine xj_icm1 dX7_nextBehind_10 ?_
        refine xj_istn3 dX7_nextBehind_11 rfl ?_
        refine xj_iload_n dX7_nextBehind_12 rfl ?_
        refine xj_ic2 dX7_nextBehind_13 ?_
        refine xj_icmp_ge (tgt := 56) dX7_nextBehind_14 rfl (fun c14 => absurd c14 (by decide)) (fun c14 => ?_)
        refine xj_aload_n dX7_nextBehind_17 rfl rfl ?_
        refine xj_iload_n dX7_nextBehind_18 rfl ?_
        refine xj_iload_n dX7_nextBehind_19 rfl ?_
        refine xj_iload_n dX7_nextBehind_20 rfl ?_
        have hx := nrF_row (g := g) (b := sg false) (by omega) hr hpl 8 (sg false)
        obtain ⟨y, hy⟩ : ∃ y, y = nrs n g r v false := ⟨_, rfl⟩
        refine xj_cV dX7_nextBehind_21 q2430 kV_X7_nearest (M_nearest (u := false) hv ha hf3 hg hr (by omega) (by omega)) (kG_a (by decide) hO) rfl rfl rfl rfl (Nat.le_of_ble_eq_true rfl) ⟨(Nat.le_of_ble_eq_true rfl), (Nat.le_of_ble_eq_true rfl)⟩ (Nat.le_of_ble_eq_true rfl) (Nat.le_of_ble_eq_true rfl) ?_
        rw [← hy]
        refine xj_ist4 dX7_nextBehind_24 rfl ?_
        refine xj_iload dX7_nextBehind_26 rfl ?_
        refine xj_bipush (v := -3) dX7_nextBehind_28 rfl ?_
        refine xj_icmp_eq (tgt := 50) dX7_nextBehind_30 rfl (fun c30 => ?_) (fun c30 => ?_)
        · refine xj_iinc3 (cst := 2) dX7_nextBehind_50 rfl rfl ?_
          rw [show (-1 : Int32) + 2 = 1 from rfl]
          refine xj_goto (tgt := 12) dX7_nextBehind_53 rfl ?_
          exact xj_fg4 (hb1 (by first | (rw [← hy, c30]; rfl) | (rw [← hy, hjq]; exact nbB_not (by omega) hq c44)))
        · obtain ⟨q, hq, hjq⟩ : ∃ q ∈ rws n, y = nI q := by
            rcases hx with h | h
            · exact absurd (hy.trans h) c30
            · obtain ⟨q, hq, h⟩ := h; exact ⟨q, hq, hy.trans h⟩
          have hrq := f_rk5 n hn5 q hq
          refine xj_aload_n dX7_nextBehind_33 rfl rfl ?_
          refine xj_get dX7_nextBehind_34 K7 34 (by decide) q1963 (kG_a (by decide) hO) rfl ?_
          refine xj_aload_n dX7_nextBehind_37 rfl rfl ?_
          refine xj_iload dX7_nextBehind_38 rfl ?_
          rw [hjq]
          refine xj_cV dX7_nextBehind_40 q2148 kV_X7_rank (M_rank hv.V (R31 (by omega) hq)) (kG_a (by decide) hO) rfl rfl rfl rfl (Nat.le_of_ble_eq_true rfl) ⟨(Nat.le_of_ble_eq_true rfl), (Nat.le_of_ble_eq_true rfl)⟩ (Nat.le_of_ble_eq_true rfl) (Nat.le_of_ble_eq_true rfl) ?_
          refine xj_zald dX7_nextBehind_43 (kG_a (by decide) h73) rfl (by omega) (gD_at (by omega)) ?_
          refine xj_if_ne (tgt := 50) dX7_nextBehind_44 rfl (fun c44 => ?_) (fun c44 => ?_)
          · refine xj_iinc3 (cst := 2) dX7_nextBehind_50 rfl rfl ?_
            rw [show (-1 : Int32) + 2 = 1 from rfl]
            refine xj_goto (tgt := 12) dX7_nextBehind_53 rfl ?_
            exact xj_fg4 (hb1 (by first | (rw [← hy, c30]; rfl) | (rw [← hy, hjq]; exact nbB_not (by omega) hq c44)))
          · refine xj_iload dX7_nextBehind_47 rfl ?_
            exact xj_ireturn dX7_nextBehind_49 rfl rfl (xrv_i (by rw [← hs]; exact nb_t0 hv2 (by rw [← hy, hjq]; exact nbB_of (by omega) hq (by rw [← hjq]; exact c30) c44) (by rw [← hy, hjq])))
  exact lp (n + 1) n (by omega) (by omega) rfl
theorem M_listed {i : Int32} {g : Nat} {L0 S0 : List Int32} (hv : kV c n a) (ha : kA n a) (hf3 : c 3 = .long (lN g)) (hg : g < 2 ^ 57) (h72 : a 72 = cI 0 L0) (h73 : a 73 = cI 2 S0) (hL0 : L0.length = 120) (hS0 : S0.length = 120) : xMet E yX7_listed cX7_listed 4 (some FieldType.int) 6 0 0 [.ref 54, .int i] (kG a T) (kR (some (.int (o_listed n g i))) T (fun b => kfr [72, 73] a b ∧ ∃ L S : List Int32, b 72 = cI 0 L ∧ b 73 = cI 2 S ∧ L.length = 120 ∧ S.length = 120)) := by
  obtain ⟨hO, hf0, h1n, hn6, h63, h64⟩ := id hv
  refine xMet.of (lv := [some (.ref 54), some (.int i), none, none]) rfl rfl (Nat.le_of_ble_eq_true rfl) ?_
  refine xj_iload_n dX7_listed_0 rfl ?_
  refine xj_if_ge (tgt := 6) dX7_listed_1 rfl (fun c1 => ?_) (fun c1 => ?_)
  · have c1 := i32_nlt0 c1
    refine xj_aload_n dX7_listed_6 rfl rfl ?_
    refine xj_get dX7_listed_7 K7 0 (by decide) q1929 (kG_a (by decide) hO) (congrArg some hf0) ?_
    refine xj_bipush (v := 6) dX7_listed_10 rfl ?_
    refine xj_icmp_ne (tgt := 18) dX7_listed_12 rfl (fun c12 => ?_) (fun c12 => ?_)
    · have hn5 : n < 6 := by
        have : n ≠ 6 := fun q => c12 (by rw [q]; rfl)
        omega
      refine xj_ic0 dX7_listed_18 ?_
      refine xj_istn2 dX7_listed_19 rfl ?_
      refine xj_eq rfl rfl (show _ = kG (lG a L0 S0) T by unfold lG; rw [au_id (i := 72) h72, au_id (i := 73) h73]) ?_
      have l1 : ∀ (K : Nat) (p : Nat) (S : List Int32), 120 - p < K → (p ≤ 120) → (S.length = 120) → (∀ j, j < p → S[j]? = some 0) → xJ E (yX7_listed, cX7_listed, 4, (some FieldType.int), []) (xR 6 0 0) (kR (some (.int (o_listed n g i))) T (fun b => kfr [72, 73] a b ∧ ∃ L S : List Int32, b 72 = cI 0 L ∧ b 73 = cI 2 S ∧ L.length = 120 ∧ S.length = 120)) 0 0 20 [some (.ref 54), some (.int i), some (.int (nI p)), none] [] (kG (lG a L0 S) T) := by
        intro K
        induction K with
        | zero => intro p S h; exact absurd h (Nat.not_lt_zero _)
        | succ K ih_l1 =>
          intro p S hK hp hS hS1
          refine xj_iload_n dX7_listed_20 rfl ?_
          refine xj_bipush (v := 120) dX7_listed_21 rfl ?_
          refine xj_icmp_ge (tgt := 39) dX7_listed_23 rfl (fun c23 => ?_) (fun c23 => ?_)
          · have hp1 : 120 ≤ p := Nat.le_of_not_lt fun h => absurd c23 (nI_ge (a := p) (b := 120) h (by omega))
            have e1 := repl_ext hS (fun j hj => hS1 j (by omega))
            subst e1
            have hv2 : kV c n (lG a L0 (List.replicate 120 0)) := hv.u hO rfl rfl rfl
            refine xj_ic0 dX7_listed_39 ?_
            refine xj_istn2 dX7_listed_40 rfl ?_
            refine xj_aload_n dX7_listed_41 rfl rfl ?_
            refine xj_ic0 dX7_listed_42 ?_
            refine xj_cV dX7_listed_43 q2120 kV_X7_rowBy (M_rowBy hv2.V (i := 0) (wy_in n (by omega)).1) (kG_a (by decide) hO) rfl rfl rfl rfl (Nat.le_of_ble_eq_true rfl) ⟨(Nat.le_of_ble_eq_true rfl), (Nat.le_of_ble_eq_true rfl)⟩ (Nat.le_of_ble_eq_true rfl) (Nat.le_of_ble_eq_true rfl) ?_
            refine xj_istn3 dX7_listed_46 rfl ?_
            have lr : ∀ (K : Nat) (f : Nat) (r : Int32) (l : List Nat) (L : List Int32) (S : List Int32), f < K → (lnl L l) → (S.length = 120) → (zc S + l.length = 120) → (f + l.length = 121) → (r = -3 ∨ ∃ q ∈ rws n, r = nI q ∧ S.getD (rk n q) 0 = 0) → (lsF n g i f r l S = lsA n g i) → xJ E (yX7_listed, cX7_listed, 4, (some FieldType.int), []) (xR 6 0 0) (kR (some (.int (o_listed n g i))) T (fun b => kfr [72, 73] a b ∧ ∃ L S : List Int32, b 72 = cI 0 L ∧ b 73 = cI 2 S ∧ L.length = 120 ∧ S.length = 120)) 0 0 47 [some (.ref 54), some (.int i), some (.int (nI l.length)), some (.int r)] [] (kG (lG a L S) T) := by
              intro K
              induction K with
              | zero => intro f r l L S h; exact absurd h (Nat.not_lt_zero _)
              | succ K ih_lr =>
                intro f r l L S hK hL hS hz hfl hr hs
                have hll := hL.2.1
                have hL120 := hL.1
                obtain ⟨f, rfl⟩ : ∃ f0, f = f0 + 1 := ⟨f - 1, by omega⟩
                have hs : (if r = -3 ∨ i < nI l.length then l else lsF n g i f (nbF n g (tn r) (S.set (rk n (tn r)) 1) n) (l ++ [tn r]) (S.set (rk n (tn r)) 1)) = lsA n g i := hs
                refine xj_iload_n dX7_listed_47 rfl ?_
                refine xj_bipush (v := -3) dX7_listed_48 rfl ?_
                refine xj_icmp_eq (tgt := 88) dX7_listed_50 rfl (fun c50 => ?_) (fun c50 => ?_)
                · rw [if_pos (by first | exact Or.inl c50 | exact Or.inr c55)] at hs
                  subst hs
                  refine xj_iload_n dX7_listed_88 rfl ?_
                  refine xj_iload_n dX7_listed_89 rfl ?_
                  refine xj_icmp_ge (tgt := 102) dX7_listed_90 rfl (fun c90 => ?_) (fun c90 => ?_)
                  · refine xj_bipush (v := -3) dX7_listed_102 rfl ?_
                    exact xj_ireturn dX7_listed_104 rfl rfl (by first | exact kR_i (by unfold o_listed; rw [if_neg c1, if_neg (by omega), if_pos (nI_lt hkl (by omega)), show tn (nI k) = k from nI_clamp hk31, x_getD hvk]) ⟨fun j hj => by simp only [List.mem_cons, List.not_mem_nil, or_false, not_or] at hj; unfold lG; rw [au_n _ _ hj.2, au_n _ _ hj.1], L, S, rfl, rfl, hL.1, hS⟩ | exact kR_i (by unfold o_listed; rw [if_neg c1, if_neg (by omega), if_neg (i32_le c90)]) ⟨fun j hj => by simp only [List.mem_cons, List.not_mem_nil, or_false, not_or] at hj; unfold lG; rw [au_n _ _ hj.2, au_n _ _ hj.1], L, S, rfl, rfl, hL.1, hS⟩)
                  · obtain ⟨k, hk31, rfl⟩ := nI_of (x := i) c1
                    have hkl : k < (lsA n g (nI k)).length := Nat.lt_of_not_le fun h => c90 (nI_le h (by omega))
                    obtain ⟨v, hvk⟩ : ∃ v, (lsA n g (nI k))[k]? = some v := ⟨_, List.getElem?_eq_getElem hkl⟩
                    refine xj_aload_n dX7_listed_93 rfl rfl ?_
                    refine xj_get dX7_listed_94 K7 33 (by decide) q1962 (kG_a (by decide) hO) rfl ?_
                    refine xj_iload_n dX7_listed_97 rfl ?_
                    refine xj_iald dX7_listed_98 (kG_a (by decide) rfl) rfl (by omega) (hL.2.2 k v hvk) ?_
                    refine xj_goto (tgt := 104) dX7_listed_99 rfl ?_
                    exact xj_ireturn dX7_listed_104 rfl rfl (by first | exact kR_i (by unfold o_listed; rw [if_neg c1, if_neg (by omega), if_pos (nI_lt hkl (by omega)), show tn (nI k) = k from nI_clamp hk31, x_getD hvk]) ⟨fun j hj => by simp only [List.mem_cons, List.not_mem_nil, or_false, not_or] at hj; unfold lG; rw [au_n _ _ hj.2, au_n _ _ hj.1], L, S, rfl, rfl, hL.1, hS⟩ | exact kR_i (by unfold o_listed; rw [if_neg c1, if_neg (by omega), if_neg (i32_le c90)]) ⟨fun j hj => by simp only [List.mem_cons, List.not_mem_nil, or_false, not_or] at hj; unfold lG; rw [au_n _ _ hj.2, au_n _ _ hj.1], L, S, rfl, rfl, hL.1, hS⟩)
                · refine xj_iload_n dX7_listed_53 rfl ?_
                  refine xj_iload_n dX7_listed_54 rfl ?_
                  refine xj_icmp_gt (tgt := 88) dX7_listed_55 rfl (fun c55 => ?_) (fun c55 => ?_)
                  · rw [if_pos (by first | exact Or.inl c50 | exact Or.inr c55)] at hs
                    subst hs
                    refine xj_iload_n dX7_listed_88 rfl ?_
                    refine xj_iload_n dX7_listed_89 rfl ?_
                    refine xj_icmp_ge (tgt := 102) dX7_listed_90 rfl (fun c90 => ?_) (fun c90 => ?_)
                    · refine xj_bipush (v := -3) dX7_listed_102 rfl ?_
                      exact xj_ireturn dX7_listed_104 rfl rfl (by first | exact kR_i (by unfold o_listed; rw [if_neg c1, if_neg (by omega), if_pos (nI_lt hkl (by omega)), show tn (nI k) = k from nI_clamp hk31, x_getD hvk]) ⟨fun j hj => by simp only [List.mem_cons, List.not_mem_nil, or_false, not_or] at hj; unfold lG; rw [au_n _ _ hj.2, au_n _ _ hj.1], L, S, rfl, rfl, hL.1, hS⟩ | exact kR_i (by unfold o_listed; rw [if_neg c1, if_neg (by omega), if_neg (i32_le c90)]) ⟨fun j hj => by simp only [List.mem_cons, List.not_mem_nil, or_false, not_or] at hj; unfold lG; rw [au_n _ _ hj.2, au_n _ _ hj.1], L, S, rfl, rfl, hL.1, hS⟩)
                    · obtain ⟨k, hk31, rfl⟩ := nI_of (x := i) c1
                      have hkl : k < (lsA n g (nI k)).length := Nat.lt_of_not_le fun h => c90 (nI_le h (by omega))
                      obtain ⟨v, hvk⟩ : ∃ v, (lsA n g (nI k))[k]? = some v := ⟨_, List.getElem?_eq_getElem hkl⟩
                      refine xj_aload_n dX7_listed_93 rfl rfl ?_
                      refine xj_get dX7_listed_94 K7 33 (by decide) q1962 (kG_a (by decide) hO) rfl ?_
                      refine xj_iload_n dX7_listed_97 rfl ?_
                      refine xj_iald dX7_listed_98 (kG_a (by decide) rfl) rfl (by omega) (hL.2.2 k v hvk) ?_
                      refine xj_goto (tgt := 104) dX7_listed_99 rfl ?_
                      exact xj_ireturn dX7_listed_104 rfl rfl (by first | exact kR_i (by unfold o_listed; rw [if_neg c1, if_neg (by omega), if_pos (nI_lt hkl (by omega)), show tn (nI k) = k from nI_clamp hk31, x_getD hvk]) ⟨fun j hj => by simp only [List.mem_cons, List.not_mem_nil, or_false, not_or] at hj; unfold lG; rw [au_n _ _ hj.2, au_n _ _ hj.1], L, S, rfl, rfl, hL.1, hS⟩ | exact kR_i (by unfold o_listed; rw [if_neg c1, if_neg (by omega), if_neg (i32_le c90)]) ⟨fun j hj => by simp only [List.mem_cons, List.not_mem_nil, or_false, not_or] at hj; unfold lG; rw [au_n _ _ hj.2, au_n _ _ hj.1], L, S, rfl, rfl, hL.1, hS⟩)
                  · rw [if_neg (fun h => h.elim c50 c55)] at hs
                    obtain ⟨q, hq, rfl, hS0q⟩ := hr.resolve_left c50
                    have hrq := f_rk5 n hn5 q hq
                    have htq := tn_nI (by omega) hq
                    rw [htq] at hs
                    have hzs := zc_set S (rk n q) (by rw [gD_at (by omega), hS0q])
                    have hq31 := R31 (by omega) hq
                    have hlt : l.length < 120 := by omega
                    refine xj_aload_n dX7_listed_58 rfl rfl ?_
                    refine xj_get dX7_listed_59 K7 33 (by decide) q1962 (kG_a (by decide) hO) rfl ?_
                    refine xj_iload_n dX7_listed_62 rfl ?_
                    refine xj_iload_n dX7_listed_63 rfl ?_
                    refine xj_iast dX7_listed_64 (kG_a (by decide) rfl) rfl (by omega) (by omega) ?_
                    refine xj_eq rfl rfl (kG_set (by decide)) ?_
                    rw [lG_72]
                    have hv2 : kV c n (lG a (L.set l.length (nI q)) S) := hv.u hO rfl rfl rfl
                    refine xj_aload_n dX7_listed_65 rfl rfl ?_
                    refine xj_get dX7_listed_66 K7 34 (by decide) q1963 (kG_a (by decide) hO) rfl ?_
                    refine xj_aload_n dX7_listed_69 rfl rfl ?_
                    refine xj_iload_n dX7_listed_70 rfl ?_
                    refine xj_cV dX7_listed_71 q2148 kV_X7_rank (M_rank hv2.V hq31) (kG_a (by decide) hO) rfl rfl rfl rfl (Nat.le_of_ble_eq_true rfl) ⟨(Nat.le_of_ble_eq_true rfl), (Nat.le_of_ble_eq_true rfl)⟩ (Nat.le_of_ble_eq_true rfl) (Nat.le_of_ble_eq_true rfl) ?_
                    refine xj_ic1 dX7_listed_74 ?_
                    refine xj_zast dX7_listed_75 (kG_a (by decide) rfl) rfl (by omega) (by omega) rfl ?_
                    refine xj_eq rfl rfl (kG_set (by decide)) ?_
                    rw [lG_73]
                    have hv3 : kV c n (lG a (L.set l.length (nI q)) (S.set (rk n q) 1)) := hv.u hO rfl rfl rfl
                    have ha3 : kA n (lG a (L.set l.length (nI q)) (S.set (rk n q) 1)) := ha.u rfl rfl rfl
                    refine xj_iinc2 (cst := 1) dX7_listed_76 rfl rfl ?_
                    rw [nI_1, show nI (l.length + 1) = nI (l ++ [q]).length by rw [List.length_append]; rfl]
                    refine xj_aload_n dX7_listed_79 rfl rfl ?_
                    refine xj_iload_n dX7_listed_80 rfl ?_
                    refine xj_cV dX7_listed_81 q2426 kV_X7_nextBehind (M_nextBehind (S := S.set (rk n q) 1) hv3 ha3 hf3 hg hq hn5 rfl (by rw [List.length_set]; exact hS)) (kG_a (by decide) hO) rfl rfl rfl rfl (Nat.le_of_ble_eq_true rfl) ⟨(Nat.le_of_ble_eq_true rfl), (Nat.le_of_ble_eq_true rfl)⟩ (Nat.le_of_ble_eq_true rfl) (Nat.le_of_ble_eq_true rfl) ?_
                    refine xj_istn3 dX7_listed_84 rfl ?_
                    refine xj_goto (tgt := 47) dX7_listed_85 rfl ?_
                    exact ih_lr f (nbF n g q (S.set (rk n q) 1) n) (l ++ [q]) (L.set l.length (nI q)) (S.set (rk n q) 1) (by omega) (lnl_push hL hlt) (by rw [List.length_set]; exact hS) (by rw [List.length_append, List.length_singleton]; omega) (by rw [List.length_append, List.length_singleton]; omega) (nbF_row (by omega) hq n (Nat.le_refl _)) hs
            exact lr 122 121 (nI (rb n 0)) [] L0 (List.replicate 120 0) (by omega) ⟨hL0, Nat.zero_le _, fun i x h => by cases h⟩ List.length_replicate (by rw [zc_repl]; rfl) rfl (Or.inr ⟨rb n 0, rb_mem (by omega) h1n (wy_in n (by omega)).1, rfl, x_rep0 (f_rk5 n hn5 _ (rb_mem (by omega) h1n (wy_in n (by omega)).1))⟩) rfl
          · have hp1 : p < 120 := Nat.lt_of_not_le fun h => c23 (nI_le (a := 120) h (by omega))
            refine xj_aload_n dX7_listed_26 rfl rfl ?_
            refine xj_get dX7_listed_27 K7 34 (by decide) q1963 (kG_a (by decide) hO) rfl ?_
            refine xj_iload_n dX7_listed_30 rfl ?_
            refine xj_ic0 dX7_listed_31 ?_
            refine xj_zast dX7_listed_32 (kG_a (by decide) rfl) rfl (by omega) (by omega) rfl ?_
            refine xj_eq rfl rfl (kG_set (by decide)) ?_
            rw [lG_73]
            refine xj_iinc2 (cst := 1) dX7_listed_33 rfl rfl ?_
            rw [nI_1]
            refine xj_goto (tgt := 20) dX7_listed_36 rfl ?_
            exact ih_l1 (p + 1) _ (by omega) (by omega) (by rw [List.length_set]; exact hS) (fun j hj => by
              by_cases e : p = j
              · subst e; exact List.getElem?_set_self (by omega)
              · rw [List.getElem?_set_ne e]; exact hS1 j (by omega))
      exact l1 121 0 S0 (by omega) (by omega) hS0 (fun j hj => absurd hj (Nat.not_lt_zero _))
    · refine xj_bipush (v := -4) dX7_listed_15 rfl ?_
      exact xj_ireturn dX7_listed_17 rfl rfl (kR_i (by unfold o_listed; rw [if_neg c1, if_pos ((nI_eq (by omega) (by decide)).mp (show nI n = nI 6 from c12))]) ⟨kfr.refl _ _, L0, S0, h72, h73, hL0, hS0⟩)
  · refine xj_icm1 dX7_listed_4 ?_
    exact xj_ireturn dX7_listed_5 rfl rfl (kR_i (by unfold o_listed; rw [if_pos (i32_lt0 c1)]) ⟨kfr.refl _ _, L0, S0, h72, h73, hL0, hS0⟩)
end M23
