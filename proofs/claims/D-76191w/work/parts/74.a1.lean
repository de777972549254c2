/-! ===== the class: rows (1) ===== -/
set_option maxRecDepth 100000
theorem kS_X0_change : xsS yX0_change cX0_change 4 none 3 := ⟨q671, q151, q672, by decide, by decide, by decide +kernel⟩
theorem c_b8 : ∀ d, d < 10 → (nI d).toInt8.toInt32 = nI d := by decide +kernel
theorem f_prod : ∀ n, n < 7 → 1 ≤ n → lpN (fun k m => m * k) 2 (n + 1 - 2) 1 = wy n := by decide +kernel
def rk2 (n R : Nat) : Nat := lpN (fun p v => v * (n - p) + lpN (fun q s => s + (if dgt n R p ≤ dgt n R q then 0 else 1)) (p + 1) (n - (p + 1)) 0) 0 n 0
theorem f_rk2 : ∀ n, n < 7 → ∀ R ∈ rws n, Nat.beq (rk2 n R) (rk n R) = true := by decide +kernel
theorem rk2_eq {n R : Nat} (hn : n < 7) (hr : R ∈ rws n) : rk2 n R = rk n R := Nat.eq_of_beq_eq_true (f_rk2 n hn R hr)
section A1
variable {E : xE} {G : xH} {d e : Nat → Value} {n : Nat}
theorem A_isIn {v x y : Int32}  : xMet E yX0_isIn cX0_isIn 3 (some FieldType.boolean) 0 0 0 [.int v, .int x, .int y] G (xrv (some (.int (b1 (inC v x y)))) G) := by
  refine xMet.of (lv := [some (.int v), some (.int x), some (.int y)]) rfl rfl (Nat.le_of_ble_eq_true rfl) ?_
  refine xj_iload_n dX0_isIn_0 rfl ?_
  refine xj_iload_n dX0_isIn_1 rfl ?_
  refine xj_icmp_lt (tgt := 14) dX0_isIn_2 rfl (fun c2 => ?_) (fun c2 => ?_)
  · refine xj_ic0 dX0_isIn_14 ?_
    exact xj_ireturn dX0_isIn_15 rfl rfl (xrv_i (by rw [← c_inC]; first | (rw [if_pos c2]; done) | (rw [if_neg c2, if_pos c7]; done) | (rw [if_neg c2, if_neg c7]; done)))
  · refine xj_iload_n dX0_isIn_5 rfl ?_
    refine xj_iload_n dX0_isIn_6 rfl ?_
    refine xj_icmp_gt (tgt := 14) dX0_isIn_7 rfl (fun c7 => ?_) (fun c7 => ?_)
    · refine xj_ic0 dX0_isIn_14 ?_
      exact xj_ireturn dX0_isIn_15 rfl rfl (xrv_i (by rw [← c_inC]; first | (rw [if_pos c2]; done) | (rw [if_neg c2, if_pos c7]; done) | (rw [if_neg c2, if_neg c7]; done)))
    · refine xj_ic1 dX0_isIn_10 ?_
      refine xj_goto (tgt := 15) dX0_isIn_11 rfl ?_
      exact xj_ireturn dX0_isIn_15 rfl rfl (xrv_i (by rw [← c_inC]; first | (rw [if_pos c2]; done) | (rw [if_neg c2, if_pos c7]; done) | (rw [if_neg c2, if_neg c7]; done)))
theorem A_firstOf {lo hi : Nat}  (h1 : 1 ≤ lo) (hlh : lo < hi) (hhn : hi ≤ n) (hn6 : n ≤ 6) : xMet E yX0_firstOf cX0_firstOf 5 (some FieldType.int) 0 0 0 [.int (nI lo), .int (nI hi), .int (nI n)] G (xrv (some (.int (nI (fsA n lo hi)))) G) := by
  refine xMet.of (lv := [some (.int (nI lo)), some (.int (nI hi)), some (.int (nI n)), none, none]) rfl rfl (Nat.le_of_ble_eq_true rfl) ?_
  refine xj_ic0 dX0_firstOf_0 ?_
  refine xj_istn3 dX0_firstOf_1 rfl ?_
  refine xj_ic1 dX0_firstOf_2 ?_
  refine xj_ist4 dX0_firstOf_3 rfl ?_
  have lp : ∀ (K : Nat) (i : Nat) (k : Nat), lo - i < K → (1 ≤ i ∧ i ≤ lo) → (lpN (fun a k => k + (2 ^ (n - a) - 1)) i (lo - i) k = lpN (fun a k => k + (2 ^ (n - a) - 1)) 1 (lo - 1) 0) → xJ E (yX0_firstOf, cX0_firstOf, 5, (some FieldType.int), []) (xR 0 0 0) (xrv (some (.int (nI (fsA n lo hi)))) G) 0 0 5 [some (.int (nI lo)), some (.int (nI hi)), some (.int (nI n)), some (.int (nI k)), some (.int (nI i))] [] G := by
    intro K
    induction K with
    | zero => intro i k h; exact absurd h (Nat.not_lt_zero _)
    | succ K ih_lp =>
      intro i k hK hi1 hs
      refine xj_iload dX0_firstOf_5 rfl ?_
      refine xj_iload_n dX0_firstOf_7 rfl ?_
      refine xj_icmp_ge (tgt := 28) dX0_firstOf_8 rfl (fun c8 => ?_) (fun c8 => ?_)
      · have hil : lo ≤ i := Nat.le_of_not_lt fun h => absurd c8 (nI_ge h (by omega))
        rw [lp_end _ hil] at hs
        have hpw : 1 ≤ 2 ^ (hi - lo - 1) := Nat.one_le_two_pow
        refine xj_iload_n dX0_firstOf_28 rfl ?_
        refine xj_ic1 dX0_firstOf_29 ?_
        refine xj_iload_n dX0_firstOf_30 rfl ?_
        refine xj_iload_n dX0_firstOf_31 rfl ?_
        refine xj_isub dX0_firstOf_32 ?_
        refine xj_ic1 dX0_firstOf_33 ?_
        refine xj_isub dX0_firstOf_34 ?_
        refine xj_ishl dX0_firstOf_35 ?_
        refine xj_top (c_pw lo (by omega) hi (by omega) hlh) ?_
        refine xj_iadd dX0_firstOf_36 ?_
        rw [nI_add]
        refine xj_ic1 dX0_firstOf_37 ?_
        refine xj_isub dX0_firstOf_38 ?_
        exact xj_ireturn dX0_firstOf_39 rfl rfl (xrv_i (by rw [nI_sub1 (by omega), hs]; rfl))
      · have hil : i < lo := Nat.lt_of_not_le fun h => c8 (nI_le h (by omega))
        have hpw : 1 ≤ 2 ^ (n - i) := Nat.one_le_two_pow
        refine xj_iload_n dX0_firstOf_11 rfl ?_
        refine xj_ic1 dX0_firstOf_12 ?_
        refine xj_iload_n dX0_firstOf_13 rfl ?_
        refine xj_iload dX0_firstOf_14 rfl ?_
        refine xj_isub dX0_firstOf_16 ?_
        refine xj_ishl dX0_firstOf_17 ?_
        rw [pk_sub (by omega), c_shl (n - i) (by omega)]
        refine xj_ic1 dX0_firstOf_18 ?_
        refine xj_isub dX0_firstOf_19 ?_
        rw [nI_sub1 hpw]
        refine xj_iadd dX0_firstOf_20 ?_
        rw [nI_add]
        refine xj_istn3 dX0_firstOf_21 rfl ?_
        refine xj_iinc4 (cst := 1) dX0_firstOf_22 rfl rfl ?_
        rw [nI_1]
        refine xj_goto (tgt := 5) dX0_firstOf_25 rfl ?_
        exact ih_lp (i + 1) _ (by omega) (by omega) (by rw [← hs, lp_step _ hil])
  exact lp (lo + 1) 1 0 (by omega) (by omega) rfl
theorem A_ones {m : Nat}  (hm : m < 2 ^ 64) : xMet E yX0_ones cX0_ones 5 (some FieldType.int) 0 0 0 [.long (lN m)] G (xrv (some (.int (nI (pc64 m)))) G) := by
  refine xMet.of (lv := [some (.long (lN m)), none, none, none, none]) rfl rfl (Nat.le_of_ble_eq_true rfl) ?_
  refine xj_ic0 dX0_ones_0 ?_
  refine xj_istn2 dX0_ones_1 rfl ?_
  refine xj_lload_n dX0_ones_2 rfl ?_
  refine xj_lstn3 dX0_ones_3 rfl ?_
  have lp : ∀ (K : Nat) (x : Nat) (s : Nat), x < K → (x < 2 ^ 64) → (s + pc64 x = pc64 m) → xJ E (yX0_ones, cX0_ones, 5, (some FieldType.int), []) (xR 0 0 0) (xrv (some (.int (nI (pc64 m)))) G) 0 0 4 [some (.long (lN m)), none, some (.int (nI s)), some (.long (lN x)), none] [] G := by
    intro K
    induction K with
    | zero => intro x s h; exact absurd h (Nat.not_lt_zero _)
    | succ K ih_lp =>
      intro x s hK hx hs
      refine xj_lload_n dX0_ones_4 rfl ?_
      refine xj_lc0 dX0_ones_5 ?_
      refine xj_lcmp dX0_ones_6 ?_
      refine xj_if_eq (tgt := 22) dX0_ones_7 rfl (fun c7 => ?_) (fun c7 => ?_)
      · have hx0 : x = 0 := (lN_0 hx).mp ((lg_cmp_eq _ _).mp c7)
        subst hx0
        refine xj_iload_n dX0_ones_22 rfl ?_
        exact xj_ireturn dX0_ones_23 rfl rfl (xrv_i (by rw [← hs]; rfl))
      · have hx0 : 0 < x := Nat.pos_of_ne_zero fun h => c7 ((lg_cmp_eq _ _).mpr (by rw [h]; rfl))
        have hpp := pc64_pred x x (Nat.le_refl _) hx0 hx
        have hlt := and_pred_lt hx0
        refine xj_iinc2 (cst := 1) dX0_ones_10 rfl rfl ?_
        rw [nI_1]
        refine xj_lload_n dX0_ones_13 rfl ?_
        refine xj_lload_n dX0_ones_14 rfl ?_
        refine xj_lc1 dX0_ones_15 ?_
        refine xj_lsub dX0_ones_16 ?_
        rw [wb_pred hx0 hx]
        refine xj_land dX0_ones_17 ?_
        rw [wb_and hx (by omega)]
        refine xj_lstn3 dX0_ones_18 rfl ?_
        refine xj_goto (tgt := 4) dX0_ones_19 rfl ?_
        exact ih_lp _ (s + 1) (by omega) (by omega) (by omega)
  exact lp (m + 1) m 0 (by omega) hm (by omega)
theorem A_lowestOf {m : Nat}  (h0 : 0 < m) (hm : m < 2 ^ 64) : xMet E yX0_lowestOf cX0_lowestOf 3 (some FieldType.int) 0 0 0 [.long (lN m)] G (xrv (some (.int (nI (lwb m)))) G) := by
  have hok := lwb_ok h0 hm
  refine xMet.of (lv := [some (.long (lN m)), none, none]) rfl rfl (Nat.le_of_ble_eq_true rfl) ?_
  refine xj_ic0 dX0_lowestOf_0 ?_
  refine xj_istn2 dX0_lowestOf_1 rfl ?_
  have lp : ∀ (K : Nat) (f : Nat) (k : Nat), f < K → (k + f = 64) → (lob m f k = lwb m) → xJ E (yX0_lowestOf, cX0_lowestOf, 3, (some FieldType.int), []) (xR 0 0 0) (xrv (some (.int (nI (lwb m)))) G) 0 0 2 [some (.long (lN m)), none, some (.int (nI k))] [] G := by
    intro K
    induction K with
    | zero => intro f k h; exact absurd h (Nat.not_lt_zero _)
    | succ K ih_lp =>
      intro f k hK hk hs
      obtain ⟨f, rfl⟩ : ∃ f0, f = f0 + 1 := ⟨f - 1, by
        have : f ≠ 0 := fun h => by subst h; have : k = lwb m := hs; omega
        omega⟩
      have hs : (if m.testBit k then k else lob m f (k + 1)) = lwb m := hs
      refine xj_lload_n dX0_lowestOf_2 rfl ?_
      refine xj_iload_n dX0_lowestOf_3 rfl ?_
      refine xj_lushr dX0_lowestOf_4 ?_
      refine xj_lc1 dX0_lowestOf_5 ?_
      refine xj_land dX0_lowestOf_6 ?_
      refine xj_topl (x_bit hm (by omega)) ?_
      refine xj_lc0 dX0_lowestOf_7 ?_
      refine xj_lcmp dX0_lowestOf_8 ?_
      refine xj_if_ne (tgt := 18) dX0_lowestOf_9 rfl (fun c9 => ?_) (fun c9 => ?_)
      · refine xj_iload_n dX0_lowestOf_18 rfl ?_
        exact xj_ireturn dX0_lowestOf_19 rfl rfl (xrv_i (by have hb : m.testBit k = true := (by cases h : m.testBit k with | true => rfl | false => rw [h] at c9; exact absurd ((lg_cmp_eq _ _).mpr rfl) c9); rw [if_pos hb] at hs; rw [hs]))
      · have hb : m.testBit k = false := by
          cases h : m.testBit k with
          | false => rfl
          | true => rw [h] at c9; exact absurd ((lg_cmp_eq _ _).mp c9) (by decide)
        rw [hb, if_neg (by decide)] at hs
        refine xj_iinc2 (cst := 1) dX0_lowestOf_12 rfl rfl ?_
        rw [nI_1]
        refine xj_goto (tgt := 2) dX0_lowestOf_15 rfl ?_
        exact ih_lp f (k + 1) (by omega) (by omega) hs
  exact lp 65 64 0 (by omega) (by omega) rfl
theorem A_change {r p q : Nat} {L : List Int32}  (hL : G[r]? = some (cI 1 L)) (hp : p < L.length) (hq : q < L.length) (hl31 : L.length < 2147483648) (hbp : (L.getD p 0).toInt8.toInt32 = L.getD p 0) (hbq : (L.getD q 0).toInt8.toInt32 = L.getD q 0) : xMet E yX0_change cX0_change 4 none 0 0 0 [.ref r, .int (nI p), .int (nI q)] G (xrv none (G.set r (cI 1 (chL L p q)))) := by
  refine xMet.of (lv := [some (.ref r), some (.int (nI p)), some (.int (nI q)), none]) rfl rfl (Nat.le_of_ble_eq_true rfl) ?_
  refine xj_aload_n dX0_change_0 rfl rfl ?_
  refine xj_iload_n dX0_change_1 rfl ?_
  refine xj_bald dX0_change_2 hL rfl (by omega) (gD_at hp) ?_
  refine xj_istn3 dX0_change_3 rfl ?_
  refine xj_aload_n dX0_change_4 rfl rfl ?_
  refine xj_iload_n dX0_change_5 rfl ?_
  refine xj_aload_n dX0_change_6 rfl rfl ?_
  refine xj_iload_n dX0_change_7 rfl ?_
  refine xj_bald dX0_change_8 hL rfl (by omega) (gD_at hq) ?_
  refine xj_bast dX0_change_9 hL rfl (by omega) hp hbq ?_
  refine xj_aload_n dX0_change_10 rfl rfl ?_
  refine xj_iload_n dX0_change_11 rfl ?_
  refine xj_iload_n dX0_change_12 rfl ?_
  refine xj_bast dX0_change_13 (gset_self hL) rfl (by omega) (by rw [List.length_set]; exact hq) hbp ?_
  exact xj_return dX0_change_14 rfl ⟨rfl, gset_set⟩
theorem A_swap {r p R : Nat} {L : List Int32}  (hL : G[r]? = some (cI 1 L)) (hR : rwL n R L) (hRm : R ∈ rws n) (hn7 : n < 7) (hl31 : L.length < 2147483648) (hp : p + 1 < n) : xMet E yX0_swap cX0_swap 2 none 1 0 0 [.ref r, .int (nI p)] G (xrv none (G.set r (cI 1 (chL L p (p + 1))))) := by
  have hlen := hR.len (by omega)
  refine xMet.of (lv := [some (.ref r), some (.int (nI p))]) rfl rfl (Nat.le_of_ble_eq_true rfl) ?_
  refine xj_aload_n dX0_swap_0 rfl rfl ?_
  refine xj_iload_n dX0_swap_1 rfl ?_
  refine xj_iload_n dX0_swap_2 rfl ?_
  refine xj_ic1 dX0_swap_3 ?_
  refine xj_iadd dX0_swap_4 ?_
  rw [nI_1]
  refine xj_cS dX0_swap_5 q670 kS_X0_change (A_change hL (by omega) (by omega) hl31 (by rw [x_getD (hR p (by omega))]; exact c_b8 _ (dgt_lt n R p)) (by rw [x_getD (hR (p + 1) (by omega))]; exact c_b8 _ (dgt_lt n R (p + 1)))) rfl rfl (Nat.le_of_ble_eq_true rfl) ⟨(Nat.le_of_ble_eq_true rfl), (Nat.le_of_ble_eq_true rfl)⟩ (Nat.le_of_ble_eq_true rfl) (Nat.le_of_ble_eq_true rfl) ?_
  exact xj_return dX0_swap_8 rfl ⟨rfl, rfl⟩
theorem A_isDrop {r p R : Nat} {L : List Int32}  (hL : G[r]? = some (cI 1 L)) (hR : rwL n R L) (hn7 : n < 7) (hp : p + 1 < n) : xMet E yX0_isDrop cX0_isDrop 2 (some FieldType.boolean) 0 0 0 [.ref r, .int (nI p)] G (xrv (some (.int (b1 (isD n R p)))) G) := by
  refine xMet.of (lv := [some (.ref r), some (.int (nI p))]) rfl rfl (Nat.le_of_ble_eq_true rfl) ?_
  refine xj_aload_n dX0_isDrop_0 rfl rfl ?_
  refine xj_iload_n dX0_isDrop_1 rfl ?_
  refine xj_bald dX0_isDrop_2 hL rfl (by omega) (hR p (by omega)) ?_
  refine xj_aload_n dX0_isDrop_3 rfl rfl ?_
  refine xj_iload_n dX0_isDrop_4 rfl ?_
  refine xj_ic1 dX0_isDrop_5 ?_
  refine xj_iadd dX0_isDrop_6 ?_
  rw [nI_1]
  refine xj_bald dX0_isDrop_7 hL rfl (by omega) (hR (p + 1) hp) ?_
  refine xj_sI_icmp_le (tgt := 15) (M := 16) dX0_isDrop_8 rfl (fun c8 k => by
      refine xj_ic0 dX0_isDrop_15 ?_
      exact k) (fun c8 k => by
      refine xj_ic1 dX0_isDrop_11 ?_
      refine xj_goto (tgt := 16) dX0_isDrop_12 rfl ?_
      exact k) ?_
  exact xj_ireturn dX0_isDrop_16 rfl b1_10 (xrv_i (by have h1 := dgt_lt n R p; have h2 := dgt_lt n R (p + 1); rw [c_le (by omega) (by omega), b1_nof]; unfold isD; congr 1; by_cases h : dgt n R p ≤ dgt n R (p + 1) <;> simp [h] <;> omega))
theorem A_told {r R : Nat} {L : List Int32}  (hv : cV d e n G) (hL : G[r]? = some (cI 1 L)) (hR : rwL n R L) (hRl : R < 10 ^ n) : xMet E yX0_told cX0_told 4 (some FieldType.int) 0 0 0 [.ref 0, .ref r] G (xrv (some (.int (nI R))) G) := by
  obtain ⟨hO, hN, hn0, h1n, hn6⟩ := id hv
  refine xMet.of (lv := [some (.ref 0), some (.ref r), none, none]) rfl rfl (Nat.le_of_ble_eq_true rfl) ?_
  refine xj_ic0 dX0_told_0 ?_
  refine xj_istn2 dX0_told_1 rfl ?_
  refine xj_ic0 dX0_told_2 ?_
  refine xj_istn3 dX0_told_3 rfl ?_
  have lp : ∀ (K : Nat) (p : Nat), n - p < K → (p ≤ n) → xJ E (yX0_told, cX0_told, 4, (some FieldType.int), []) (xR 0 0 0) (xrv (some (.int (nI R))) G) 0 0 4 [some (.ref 0), some (.ref r), some (.int (nI (mkN (dgt n R) p))), some (.int (nI p))] [] G := by
    intro K
    induction K with
    | zero => intro p h; exact absurd h (Nat.not_lt_zero _)
    | succ K ih_lp =>
      intro p hK hp
      refine xj_iload_n dX0_told_4 rfl ?_
      refine xj_aload_n dX0_told_5 rfl rfl ?_
      refine xj_get dX0_told_6 K0 4 (by decide) q473 hO rfl ?_
      refine xj_getN dX0_told_9 K3 0 (by decide) q321 hN (congrArg some hn0) ?_
      refine xj_icmp_ge (tgt := 30) dX0_told_12 rfl (fun c12 => ?_) (fun c12 => ?_)
      · have hpn : p = n := by have := Nat.le_of_not_lt fun h => absurd c12 (nI_ge h (by omega)); omega
        refine xj_iload_n dX0_told_30 rfl ?_
        exact xj_ireturn dX0_told_31 rfl rfl (xrv_i (by rw [hpn, mkN_dgt hRl]))
      · have hpn : p < n := Nat.lt_of_not_le fun h => c12 (nI_le h (by omega))
        refine xj_bipush (v := 10) dX0_told_15 rfl ?_
        refine xj_iload_n dX0_told_17 rfl ?_
        refine xj_imul dX0_told_18 ?_
        refine xj_top (pk_mul 10 _) ?_
        refine xj_aload_n dX0_told_19 rfl rfl ?_
        refine xj_iload_n dX0_told_20 rfl ?_
        refine xj_bald dX0_told_21 hL rfl (by omega) (hR p hpn) ?_
        refine xj_iadd dX0_told_22 ?_
        rw [nI_add]
        refine xj_istn2 dX0_told_23 rfl ?_
        refine xj_iinc3 (cst := 1) dX0_told_24 rfl rfl ?_
        rw [nI_1]
        refine xj_goto (tgt := 4) dX0_told_27 rfl ?_
        exact ih_lp (p + 1) (by omega) (by omega)
  exact lp (n + 1) 0 (by omega) (by omega)
theorem A_first {r : Nat} {L : List Int32}  (hv : cV d e n G) (hL : G[r]? = some (cI 1 L)) (hr0 : r ≠ 0) (hr4 : r ≠ 4) (hln : n ≤ L.length) : xMet E yX0_first cX0_first 3 none 0 0 0 [.ref 0, .ref r] G (xre (fun v G' => v = none ∧ ∃ L' : List Int32, L'.length = L.length ∧ rwL n (rb n 0) L' ∧ G' = G.set r (cI 1 L'))) := by
  obtain ⟨hO, hN, hn0, h1n, hn6⟩ := id hv
  refine xMet.of (lv := [some (.ref 0), some (.ref r), none]) rfl rfl (Nat.le_of_ble_eq_true rfl) ?_
  refine xj_ic0 dX0_first_0 ?_
  refine xj_istn2 dX0_first_1 rfl ?_
  refine xj_eq rfl rfl (show G = G.set r (cI 1 L) from (gset_id hL).symm) ?_
  have lp : ∀ (K : Nat) (p : Nat) (M : List Int32), n - p < K → (p ≤ n) → (M.length = L.length) → (∀ i, i < p → M[i]? = some (nI (i + 1))) → xJ E (yX0_first, cX0_first, 3, none, []) (xR 0 0 0) (xre (fun v G' => v = none ∧ ∃ L' : List Int32, L'.length = L.length ∧ rwL n (rb n 0) L' ∧ G' = G.set r (cI 1 L'))) 0 0 2 [some (.ref 0), some (.ref r), some (.int (nI p))] [] (G.set r (cI 1 M)) := by
    intro K
    induction K with
    | zero => intro p M h; exact absurd h (Nat.not_lt_zero _)
    | succ K ih_lp =>
      intro p M hK hp hM hMp
      have hv2 : cV d e n (G.set r (cI 1 M)) := hv.set hr0 hr4
      obtain ⟨hO2, hN2, -⟩ := id hv2
      refine xj_iload_n dX0_first_2 rfl ?_
      refine xj_aload_n dX0_first_3 rfl rfl ?_
      refine xj_get dX0_first_4 K0 4 (by decide) q473 hO2 rfl ?_
      refine xj_getN dX0_first_7 K3 0 (by decide) q321 hN2 (congrArg some hn0) ?_
      refine xj_icmp_ge (tgt := 26) dX0_first_10 rfl (fun c10 => ?_) (fun c10 => ?_)
      · exact xj_return dX0_first_26 rfl ⟨rfl, M, hM, fun i hi => by rw [hMp i (by have := Nat.le_of_not_lt fun h => absurd c10 (nI_ge h (by omega)); omega), f_id1 n (by omega) h1n i hi], rfl⟩
      · have hpn : p < n := Nat.lt_of_not_le fun h => c10 (nI_le h (by omega))
        refine xj_aload_n dX0_first_13 rfl rfl ?_
        refine xj_iload_n dX0_first_14 rfl ?_
        refine xj_iload_n dX0_first_15 rfl ?_
        refine xj_ic1 dX0_first_16 ?_
        refine xj_iadd dX0_first_17 ?_
        rw [nI_1]
        refine xj_i2b dX0_first_18 ?_
        refine xj_top (c_b8 (p + 1) (by omega)) ?_
        refine xj_bast dX0_first_19 (gset_self hL) rfl (by omega) (by omega) (c_b8 (p + 1) (by omega)) ?_
        rw [gset_set]
        refine xj_iinc2 (cst := 1) dX0_first_20 rfl rfl ?_
        rw [nI_1]
        refine xj_goto (tgt := 2) dX0_first_23 rfl ?_
        exact ih_lp (p + 1) _ (by omega) (by omega) (by rw [List.length_set]; exact hM) (fun i hi => by
          by_cases e : p = i
          · subst e; exact List.getElem?_set_self (by omega)
          · rw [List.getElem?_set_ne e]; exact hMp i (by omega))
  exact lp (n + 1) 0 L (by omega) (by omega) rfl (fun i hi => absurd hi (Nat.not_lt_zero _))
theorem A_manyRows  (hv : cV d e n G) : xMet E yX0_manyRows cX0_manyRows 3 (some FieldType.int) 0 0 0 [.ref 0] G (xrv (some (.int (nI (wy n)))) G) := by
  obtain ⟨hO, hN, hn0, h1n, hn6⟩ := id hv
  refine xMet.of (lv := [some (.ref 0), none, none]) rfl rfl (Nat.le_of_ble_eq_true rfl) ?_
  refine xj_ic1 dX0_manyRows_0 ?_
  refine xj_istn1 dX0_manyRows_1 rfl ?_
  refine xj_ic2 dX0_manyRows_2 ?_
  refine xj_istn2 dX0_manyRows_3 rfl ?_
  have lp : ∀ (K : Nat) (k : Nat) (x : Nat), n + 1 - k < K → (2 ≤ k ∧ k ≤ n + 2) → (lpN (fun k m => m * k) k (n + 1 - k) x = wy n) → xJ E (yX0_manyRows, cX0_manyRows, 3, (some FieldType.int), []) (xR 0 0 0) (xrv (some (.int (nI (wy n)))) G) 0 0 4 [some (.ref 0), some (.int (nI x)), some (.int (nI k))] [] G := by
    intro K
    induction K with
    | zero => intro k x h; exact absurd h (Nat.not_lt_zero _)
    | succ K ih_lp =>
      intro k x hK hk hs
      refine xj_iload_n dX0_manyRows_4 rfl ?_
      refine xj_aload_n dX0_manyRows_5 rfl rfl ?_
      refine xj_get dX0_manyRows_6 K0 4 (by decide) q473 hO rfl ?_
      refine xj_getN dX0_manyRows_9 K3 0 (by decide) q321 hN (congrArg some hn0) ?_
      refine xj_icmp_gt (tgt := 25) dX0_manyRows_12 rfl (fun c12 => ?_) (fun c12 => ?_)
      · refine xj_iload_n dX0_manyRows_25 rfl ?_
        exact xj_ireturn dX0_manyRows_26 rfl rfl (xrv_i (by have hkn : n < k := Nat.lt_of_not_le fun h => absurd c12 (nI_nlt h (by omega)); rw [lp_end _ (by omega)] at hs; rw [hs]))
      · have hkn : k ≤ n := Nat.le_of_not_lt fun h => c12 (nI_lt h (by omega))
        refine xj_iload_n dX0_manyRows_15 rfl ?_
        refine xj_iload_n dX0_manyRows_16 rfl ?_
        refine xj_imul dX0_manyRows_17 ?_
        refine xj_top (pk_mul x k) ?_
        refine xj_istn1 dX0_manyRows_18 rfl ?_
        refine xj_iinc2 (cst := 1) dX0_manyRows_19 rfl rfl ?_
        rw [nI_1]
        refine xj_goto (tgt := 4) dX0_manyRows_22 rfl ?_
        exact ih_lp (k + 1) _ (by omega) (by omega) (by rw [lp_step _ (show k < n + 1 by omega)] at hs; exact hs)
  exact lp (n + 2) 2 1 (by omega) (by omega) (f_prod n (by omega) h1n)
theorem A_rankOf {r R : Nat} {L : List Int32}  (hv : cV d e n G) (hL : G[r]? = some (cI 1 L)) (hR : rwL n R L) (hRm : R ∈ rws n) : xMet E yX0_rankOf cX0_rankOf 6 (some FieldType.int) 0 0 0 [.ref 0, .ref r] G (xrv (some (.int (nI (rk n R)))) G) := by
  obtain ⟨hO, hN, hn0, h1n, hn6⟩ := id hv
  have hn7 : n < 7 := by omega
  refine xMet.of (lv := [some (.ref 0), some (.ref r), none, none, none, none]) rfl rfl (Nat.le_of_ble_eq_true rfl) ?_
  refine xj_ic0 dX0_rankOf_0 ?_
  refine xj_istn2 dX0_rankOf_1 rfl ?_
  refine xj_ic0 dX0_rankOf_2 ?_
  refine xj_istn3 dX0_rankOf_3 rfl ?_
  have lp : ∀ (K : Nat) (p : Nat) (v : Nat), n - p < K → (p ≤ n) → (lpN (fun p v => v * (n - p) + lpN (fun q s => s + (if dgt n R p ≤ dgt n R q then 0 else 1)) (p + 1) (n - (p + 1)) 0) p (n - p) v = rk n R) → xJ E (yX0_rankOf, cX0_rankOf, 6, (some FieldType.int), []) (xR 0 0 0) (xrv (some (.int (nI (rk n R)))) G) 0 0 4 [some (.ref 0), some (.ref r), some (.int (nI v)), some (.int (nI p)), none, none] [] G := by
    intro K
    induction K with
    | zero => intro p v h; exact absurd h (Nat.not_lt_zero _)
    | succ K ih_lp =>
      intro p v hK hp hs0
      refine xj_iload_n dX0_rankOf_4 rfl ?_
      refine xj_aload_n dX0_rankOf_5 rfl rfl ?_
      refine xj_get dX0_rankOf_6 K0 4 (by decide) q473 hO rfl ?_
      refine xj_getN dX0_rankOf_9 K3 0 (by decide) q321 hN (congrArg some hn0) ?_
      refine xj_icmp_ge (tgt := 82) dX0_rankOf_12 rfl (fun c12 => ?_) (fun c12 => ?_)
      · refine xj_iload_n dX0_rankOf_82 rfl ?_
        exact xj_ireturn dX0_rankOf_83 rfl rfl (xrv_i (by rw [← hs0, lp_end _ (Nat.le_of_not_lt fun h => absurd c12 (nI_ge h (by omega)))]))
      · have hpn : p < n := Nat.lt_of_not_le fun h => c12 (nI_le h (by omega))
        refine xj_ic0 dX0_rankOf_15 ?_
        refine xj_ist4 dX0_rankOf_16 rfl ?_
        refine xj_iload_n dX0_rankOf_18 rfl ?_
        refine xj_ic1 dX0_rankOf_19 ?_
        refine xj_iadd dX0_rankOf_20 ?_
        rw [nI_1]
        refine xj_ist5 dX0_rankOf_21 rfl ?_
        have lq : ∀ (K : Nat) (q : Nat) (s : Nat), n - q < K → (p < q ∧ q ≤ n) → (lpN (fun p v => v * (n - p) + lpN (fun q s => s + (if dgt n R p ≤ dgt n R q then 0 else 1)) (p + 1) (n - (p + 1)) 0) (p + 1) (n - (p + 1)) (v * (n - p) + lpN (fun q s => s + (if dgt n R p ≤ dgt n R q then 0 else 1)) q (n - q) s) = rk n R) → xJ E (yX0_rankOf, cX0_rankOf, 6, (some FieldType.int), []) (xR 0 0 0) (xrv (some (.int (nI (rk n R)))) G) 0 0 23 [some (.ref 0), some (.ref r), some (.int (nI v)), some (.int (nI p)), some (.int (nI s)), some (.int (nI q))] [] G := by
          intro K
          induction K with
          | zero => intro q s h; exact absurd h (Nat.not_lt_zero _)
          | succ K ih_lq =>
            intro q s hK hq hs
            refine xj_iload dX0_rankOf_23 rfl ?_
            refine xj_aload_n dX0_rankOf_25 rfl rfl ?_
            refine xj_get dX0_rankOf_26 K0 4 (by decide) q473 hO rfl ?_
            refine xj_getN dX0_rankOf_29 K3 0 (by decide) q321 hN (congrArg some hn0) ?_
            refine xj_icmp_ge (tgt := 61) dX0_rankOf_32 rfl (fun c32 => ?_) (fun c32 => ?_)
            · have hqn : n ≤ q := Nat.le_of_not_lt fun h => absurd c32 (nI_ge h (by omega))
              rw [lp_end _ hqn] at hs
              refine xj_iload_n dX0_rankOf_61 rfl ?_
              refine xj_aload_n dX0_rankOf_62 rfl rfl ?_
              refine xj_get dX0_rankOf_63 K0 4 (by decide) q473 hO rfl ?_
              refine xj_getN dX0_rankOf_66 K3 0 (by decide) q321 hN (congrArg some hn0) ?_
              refine xj_iload_n dX0_rankOf_69 rfl ?_
              refine xj_isub dX0_rankOf_70 ?_
              rw [pk_sub (by omega)]
              refine xj_imul dX0_rankOf_71 ?_
              refine xj_top (pk_mul v (n - p)) ?_
              refine xj_iload dX0_rankOf_72 rfl ?_
              refine xj_iadd dX0_rankOf_74 ?_
              rw [nI_add]
              refine xj_istn2 dX0_rankOf_75 rfl ?_
              refine xj_iinc3 (cst := 1) dX0_rankOf_76 rfl rfl ?_
              rw [nI_1]
              refine xj_goto (tgt := 4) dX0_rankOf_79 rfl ?_
              exact xj_fg4 (xj_fg5 (ih_lp (p + 1) _ (by omega) (by omega) hs))
            · have hqn : q < n := Nat.lt_of_not_le fun h => c32 (nI_le h (by omega))
              have h1 := dgt_lt n R p
              have h2 := dgt_lt n R q
              refine xj_iload dX0_rankOf_35 rfl ?_
              refine xj_aload_n dX0_rankOf_37 rfl rfl ?_
              refine xj_iload dX0_rankOf_38 rfl ?_
              refine xj_bald dX0_rankOf_40 hL rfl (by omega) (hR q hqn) ?_
              refine xj_aload_n dX0_rankOf_41 rfl rfl ?_
              refine xj_iload_n dX0_rankOf_42 rfl ?_
              refine xj_bald dX0_rankOf_43 hL rfl (by omega) (hR p hpn) ?_
              refine xj_sI_icmp_ge (tgt := 51) (M := 52) dX0_rankOf_44 rfl (fun c44 k => by
                  refine xj_ic0 dX0_rankOf_51 ?_
                  exact k) (fun c44 k => by
                  refine xj_ic1 dX0_rankOf_47 ?_
                  refine xj_goto (tgt := 52) dX0_rankOf_48 rfl ?_
                  exact k) ?_
              refine xj_top (y := nI (if dgt n R p ≤ dgt n R q then 0 else 1)) (by rw [c_le (by omega) (by omega)]; split <;> rfl) ?_
              refine xj_iadd dX0_rankOf_52 ?_
              rw [nI_add]
              refine xj_ist4 dX0_rankOf_53 rfl ?_
              refine xj_iinc5 (cst := 1) dX0_rankOf_55 rfl rfl ?_
              rw [nI_1]
              refine xj_goto (tgt := 23) dX0_rankOf_58 rfl ?_
              exact ih_lq (q + 1) _ (by omega) (by omega) (by rw [← hs, lp_step _ hqn])
        exact lq (n + 1) (p + 1) 0 (by omega) (by omega) (by rw [← hs0, lp_step _ hpn])
  exact lp (n + 1) 0 0 (by omega) (by omega) (rk2_eq hn7 hRm)
end A1
