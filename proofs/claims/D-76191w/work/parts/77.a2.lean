/-! ===== the class: rows (2) ===== -/
set_option maxRecDepth 100000
theorem kV_X0_arcAt : xsV yX0_arcAt cX0_arcAt 7 (some FieldType.int) 2 := ⟨q750, qs24, q151, q751, by decide, by decide, by decide +kernel⟩
theorem kS_X0_firstOf : xsS yX0_firstOf cX0_firstOf 5 (some FieldType.int) 3 := ⟨q395, q151, q396, by decide, by decide, by decide +kernel⟩
theorem kS_X0_isDrop : xsS yX0_isDrop cX0_isDrop 2 (some FieldType.boolean) 2 := ⟨q656, q151, q657, by decide, by decide, by decide +kernel⟩
theorem kS_X0_pair : xsS yX0_pair cX0_pair 2 (some FieldType.long) 2 := ⟨q609, q151, q610, by decide, by decide, by decide +kernel⟩
theorem kV_X0_swapped : xsV yX0_swapped cX0_swapped 6 (some FieldType.long) 1 := ⟨q606, qs9, q151, q607, by decide, by decide, by decide +kernel⟩
theorem qMminS : Cond.static Lib.Math.min.name ∈ lw_all := q739
theorem qMminC : Cond.code Lib.Math.min.name Lib.Math.min.code 2 (some .int) ∈ lw_all := q740
theorem qMmaxS : Cond.static Lib.Math.max.name ∈ lw_all := q742
theorem qMmaxC : Cond.code Lib.Math.max.name Lib.Math.max.code 2 (some .int) ∈ lw_all := q743
theorem qMI : Cond.initialized "java/lang/Math" ∈ lw_all := q166

section A2
variable {E : xE} {G : xH} {d e : Nat → Value} {n : Nat}
theorem A_copy {r r2 R : Nat} {L0 L : List Int32}  (hv : cV d e n G) (hL0 : G[r]? = some (cI 1 L0)) (hL : G[r2]? = some (cI 1 L)) (hR : rwL n R L0) (hl : n ≤ L.length) : xMet E yX0_copy cX0_copy 3 none 0 0 0 [.ref 0, .ref r, .ref r2] G (xre (fun v G' => v = none ∧ ∃ L' : List Int32, L'.length = L.length ∧ rwL n R L' ∧ G' = G.set r2 (cI 1 L'))) := by
  obtain ⟨hO, hN, hn0, h1n, hn6⟩ := id hv
  have hl0 := hR.len h1n
  refine xMet.of (lv := [some (.ref 0), some (.ref r), some (.ref r2)]) rfl rfl (Nat.le_of_ble_eq_true rfl) ?_
  refine xj_aload_n dX0_copy_0 rfl rfl ?_
  refine xj_ic0 dX0_copy_1 ?_
  refine xj_aload_n dX0_copy_2 rfl rfl ?_
  refine xj_ic0 dX0_copy_3 ?_
  refine xj_aload_n dX0_copy_4 rfl rfl ?_
  refine xj_get dX0_copy_5 K0 4 (by decide) q473 hO rfl ?_
  refine xj_getN dX0_copy_8 K3 0 (by decide) q321 hN (congrArg some hn0) ?_
  refine xj_copy (t := 1) (sp := 0) (dp := 0) (N := n) dX0_copy_11 q732 q734 q733 q165 hL0 hL rfl rfl rfl rfl rfl (by decide) (by decide) (by omega) (by omega) (by omega) (fun i hi => by rw [Nat.zero_add, x_getD (hR i hi)]; exact c_fit8 _ (dgt_lt n R i)) (Nat.le_of_ble_eq_true rfl) ⟨Nat.le_of_ble_eq_true rfl, Nat.le_of_ble_eq_true rfl⟩ ?_
  exact xj_return dX0_copy_14 rfl ⟨rfl, _, cpL_len _ _ _ _ _, rwL_cp hR hl, rfl⟩
theorem A_dropSet {r R : Nat} {L : List Int32}  (hv : cV d e n G) (hL : G[r]? = some (cI 1 L)) (hR : rwL n R L) (hRm : R ∈ rws n) : xMet E yX0_dropSet cX0_dropSet 4 (some FieldType.int) 1 0 0 [.ref 0, .ref r] G (xrv (some (.int (nI (drp n R)))) G) := by
  obtain ⟨hO, hN, hn0, h1n, hn6⟩ := id hv
  refine xMet.of (lv := [some (.ref 0), some (.ref r), none, none]) rfl rfl (Nat.le_of_ble_eq_true rfl) ?_
  refine xj_ic0 dX0_dropSet_0 ?_
  refine xj_istn2 dX0_dropSet_1 rfl ?_
  refine xj_ic0 dX0_dropSet_2 ?_
  refine xj_istn3 dX0_dropSet_3 rfl ?_
  have lp : ∀ (K : Nat) (p : Nat) (s : Nat), n - 1 - p < K → (p ≤ n - 1) → (lpN (fun p s => s ||| (if dgt n R (p + 1) < dgt n R p then 2 ^ p else 0)) p (n - 1 - p) s = drp n R) → xJ E (yX0_dropSet, cX0_dropSet, 4, (some FieldType.int), []) (xR 1 0 0) (xrv (some (.int (nI (drp n R)))) G) 0 0 4 [some (.ref 0), some (.ref r), some (.int (nI s)), some (.int (nI p))] [] G := by
    intro K
    induction K with
    | zero => intro p s h; exact absurd h (Nat.not_lt_zero _)
    | succ K ih_lp =>
      intro p s hK hp hs
      refine xj_iload_n dX0_dropSet_4 rfl ?_
      refine xj_ic1 dX0_dropSet_5 ?_
      refine xj_iadd dX0_dropSet_6 ?_
      refine xj_aload_n dX0_dropSet_7 rfl rfl ?_
      refine xj_get dX0_dropSet_8 K0 4 (by decide) q473 hO rfl ?_
      refine xj_getN dX0_dropSet_11 K3 0 (by decide) q321 hN (congrArg some hn0) ?_
      rw [nI_1]
      refine xj_icmp_ge (tgt := 41) dX0_dropSet_14 rfl (fun c14 => ?_) (fun c14 => ?_)
      · refine xj_iload_n dX0_dropSet_41 rfl ?_
        exact xj_ireturn dX0_dropSet_42 rfl rfl (xrv_i (by rw [← hs, lp_end _ (by have := Nat.le_of_not_lt fun h => absurd c14 (nI_ge h (by omega)); omega)]))
      · have hpn : p < n - 1 := Nat.lt_of_not_le fun h => c14 (nI_le (by omega) (by omega))
        refine xj_iload_n dX0_dropSet_17 rfl ?_
        refine xj_aload_n dX0_dropSet_18 rfl rfl ?_
        refine xj_iload_n dX0_dropSet_19 rfl ?_
        refine xj_cS dX0_dropSet_20 q655 kS_X0_isDrop (A_isDrop hL hR (by omega) (by omega)) rfl rfl (Nat.le_of_ble_eq_true rfl) ⟨(Nat.le_of_ble_eq_true rfl), (Nat.le_of_ble_eq_true rfl)⟩ (Nat.le_of_ble_eq_true rfl) (Nat.le_of_ble_eq_true rfl) ?_
        refine xj_sI_if_eq (tgt := 32) (M := 33) dX0_dropSet_23 rfl (fun c23 k => by
            refine xj_ic0 dX0_dropSet_32 ?_
            exact k) (fun c23 k => by
            refine xj_ic1 dX0_dropSet_26 ?_
            refine xj_iload_n dX0_dropSet_27 rfl ?_
            refine xj_ishl dX0_dropSet_28 ?_
            refine xj_goto (tgt := 33) dX0_dropSet_29 rfl ?_
            exact k) ?_
        refine xj_top (c_drp (by omega)) ?_
        refine xj_ior dX0_dropSet_33 ?_
        rw [nI_or]
        refine xj_istn2 dX0_dropSet_34 rfl ?_
        refine xj_iinc3 (cst := 1) dX0_dropSet_35 rfl rfl ?_
        rw [nI_1]
        refine xj_goto (tgt := 4) dX0_dropSet_38 rfl ?_
        exact ih_lp (p + 1) _ (by omega) (by omega) (by rw [← hs, lp_step _ hpn]; congr 1; unfold isD; congr 1; simp)
  exact lp n 0 0 (by omega) (by omega) rfl
theorem A_placeOf {r R v : Nat} {L : List Int32}  (hL : G[r]? = some (cI 1 L)) (hR : rwL n R L) (hn7 : n < 7) (hv31 : v < 2 ^ 31) (hpl : plc n R v n 0 < n) : xMet E yX0_placeOf cX0_placeOf 3 (some FieldType.int) 0 0 0 [.ref r, .int (nI v)] G (xrv (some (.int (nI (plc n R v n 0)))) G) := by
  refine xMet.of (lv := [some (.ref r), some (.int (nI v)), none]) rfl rfl (Nat.le_of_ble_eq_true rfl) ?_
  refine xj_ic0 dX0_placeOf_0 ?_
  refine xj_istn2 dX0_placeOf_1 rfl ?_
  have lp : ∀ (K : Nat) (k : Nat) (p : Nat), k < K → (p + k = n) → (plc n R v k p = plc n R v n 0) → xJ E (yX0_placeOf, cX0_placeOf, 3, (some FieldType.int), []) (xR 0 0 0) (xrv (some (.int (nI (plc n R v n 0)))) G) 0 0 2 [some (.ref r), some (.int (nI v)), some (.int (nI p))] [] G := by
    intro K
    induction K with
    | zero => intro k p h; exact absurd h (Nat.not_lt_zero _)
    | succ K ih_lp =>
      intro k p hK hk hs
      obtain ⟨k, rfl⟩ : ∃ k0, k = k0 + 1 := ⟨k - 1, by
        have : k ≠ 0 := fun h => by subst h; have : p = plc n R v n 0 := hs; omega
        omega⟩
      have hs : (if dgt n R p = v then p else plc n R v k (p + 1)) = plc n R v n 0 := hs
      have hdl := dgt_lt n R p
      refine xj_aload_n dX0_placeOf_2 rfl rfl ?_
      refine xj_iload_n dX0_placeOf_3 rfl ?_
      refine xj_bald dX0_placeOf_4 hL rfl (by omega) (hR p (by omega)) ?_
      refine xj_iload_n dX0_placeOf_5 rfl ?_
      refine xj_icmp_eq (tgt := 15) dX0_placeOf_6 rfl (fun c6 => ?_) (fun c6 => ?_)
      · refine xj_iload_n dX0_placeOf_15 rfl ?_
        exact xj_ireturn dX0_placeOf_16 rfl rfl (xrv_i (by rw [if_pos ((nI_eq (by omega) hv31).mp c6)] at hs; rw [hs]))
      · rw [if_neg (fun h => c6 (by rw [h]))] at hs
        refine xj_iinc2 (cst := 1) dX0_placeOf_9 rfl rfl ?_
        rw [nI_1]
        refine xj_goto (tgt := 2) dX0_placeOf_12 rfl ?_
        exact ih_lp k (p + 1) (by omega) (by omega) hs
  exact lp (n + 1) n 0 (by omega) (by omega) rfl
theorem A_pair {lo hi : Nat}  (h1 : 1 ≤ lo) (h2 : lo < 7) (h3 : 1 ≤ hi) (h4 : hi < 7) : xMet E yX0_pair cX0_pair 2 (some FieldType.long) 0 0 0 [.int (nI lo), .int (nI hi)] G (xrv (some (.long (lN (2 ^ pr lo hi)))) G) := by
  have hc := c_pr lo h2 hi h4 h1 h3
  refine xMet.of (lv := [some (.int (nI lo)), some (.int (nI hi))]) rfl rfl (Nat.le_of_ble_eq_true rfl) ?_
  refine xj_lc1 dX0_pair_0 ?_
  refine xj_bipush (v := 6) dX0_pair_1 rfl ?_
  refine xj_iload_n dX0_pair_3 rfl ?_
  refine xj_ic1 dX0_pair_4 ?_
  refine xj_isub dX0_pair_5 ?_
  refine xj_imul dX0_pair_6 ?_
  refine xj_iload_n dX0_pair_7 rfl ?_
  refine xj_iadd dX0_pair_8 ?_
  refine xj_ic1 dX0_pair_9 ?_
  refine xj_isub dX0_pair_10 ?_
  rw [hc.1]
  refine xj_lshl dX0_pair_11 ?_
  exact xj_lreturn dX0_pair_12 rfl (xrv_l (l_one_shl (by omega)))
theorem A_swapped {r R : Nat} {L : List Int32}  (hv : cV d e n G) (hL : G[r]? = some (cI 1 L)) (hR : rwL n R L) (hRm : R ∈ rws n) : xMet E yX0_swapped cX0_swapped 6 (some FieldType.long) 1 0 0 [.ref 0, .ref r] G (xrv (some (.long (lN (iv6 n R)))) G) := by
  obtain ⟨hO, hN, hn0, h1n, hn6⟩ := id hv
  refine xMet.of (lv := [some (.ref 0), some (.ref r), none, none, none, none]) rfl rfl (Nat.le_of_ble_eq_true rfl) ?_
  refine xj_lc0 dX0_swapped_0 ?_
  refine xj_lstn2 dX0_swapped_1 rfl ?_
  refine xj_ic0 dX0_swapped_2 ?_
  refine xj_ist4 dX0_swapped_3 rfl ?_
  have lp : ∀ (K : Nat) (p : Nat) (s : Nat), n - p < K → (p ≤ n) → (s < 2 ^ 36) → (lpN (fun p s => lpN (fun q s => s ||| (if dgt n R p ≤ dgt n R q then 0 else 2 ^ pr (dgt n R q) (dgt n R p))) (p + 1) (n - (p + 1)) s) p (n - p) s = iv6 n R) → xJ E (yX0_swapped, cX0_swapped, 6, (some FieldType.long), []) (xR 1 0 0) (xrv (some (.long (lN (iv6 n R)))) G) 0 0 5 [some (.ref 0), some (.ref r), some (.long (lN s)), none, some (.int (nI p)), none] [] G := by
    intro K
    induction K with
    | zero => intro p s h; exact absurd h (Nat.not_lt_zero _)
    | succ K ih_lp =>
      intro p s hK hp hs36 hs0
      refine xj_iload dX0_swapped_5 rfl ?_
      refine xj_aload_n dX0_swapped_7 rfl rfl ?_
      refine xj_get dX0_swapped_8 K0 4 (by decide) q473 hO rfl ?_
      refine xj_getN dX0_swapped_11 K3 0 (by decide) q321 hN (congrArg some hn0) ?_
      refine xj_icmp_ge (tgt := 76) dX0_swapped_14 rfl (fun c14 => ?_) (fun c14 => ?_)
      · refine xj_lload_n dX0_swapped_76 rfl ?_
        exact xj_lreturn dX0_swapped_77 rfl (xrv_l (by rw [← hs0, lp_end _ (Nat.le_of_not_lt fun h => absurd c14 (nI_ge h (by omega)))]))
      · have hpn : p < n := Nat.lt_of_not_le fun h => c14 (nI_le h (by omega))
        refine xj_iload dX0_swapped_17 rfl ?_
        refine xj_ic1 dX0_swapped_19 ?_
        refine xj_iadd dX0_swapped_20 ?_
        rw [nI_1]
        refine xj_ist5 dX0_swapped_21 rfl ?_
        have lq : ∀ (K : Nat) (q : Nat) (s : Nat), n - q < K → (p < q ∧ q ≤ n) → (s < 2 ^ 36) → (lpN (fun p s => lpN (fun q s => s ||| (if dgt n R p ≤ dgt n R q then 0 else 2 ^ pr (dgt n R q) (dgt n R p))) (p + 1) (n - (p + 1)) s) (p + 1) (n - (p + 1)) (lpN (fun q s => s ||| (if dgt n R p ≤ dgt n R q then 0 else 2 ^ pr (dgt n R q) (dgt n R p))) q (n - q) s) = iv6 n R) → xJ E (yX0_swapped, cX0_swapped, 6, (some FieldType.long), []) (xR 1 0 0) (xrv (some (.long (lN (iv6 n R)))) G) 0 0 23 [some (.ref 0), some (.ref r), some (.long (lN s)), none, some (.int (nI p)), some (.int (nI q))] [] G := by
          intro K
          induction K with
          | zero => intro q s h; exact absurd h (Nat.not_lt_zero _)
          | succ K ih_lq =>
            intro q s hK hq hs36 hs
            refine xj_iload dX0_swapped_23 rfl ?_
            refine xj_aload_n dX0_swapped_25 rfl rfl ?_
            refine xj_get dX0_swapped_26 K0 4 (by decide) q473 hO rfl ?_
            refine xj_getN dX0_swapped_29 K3 0 (by decide) q321 hN (congrArg some hn0) ?_
            refine xj_icmp_ge (tgt := 70) dX0_swapped_32 rfl (fun c32 => ?_) (fun c32 => ?_)
            · have hqn : n ≤ q := Nat.le_of_not_lt fun h => absurd c32 (nI_ge h (by omega))
              rw [lp_end _ hqn] at hs
              refine xj_iinc4 (cst := 1) dX0_swapped_70 rfl rfl ?_
              rw [nI_1]
              refine xj_goto (tgt := 5) dX0_swapped_73 rfl ?_
              exact xj_fg5 (ih_lp (p + 1) _ (by omega) (by omega) hs36 hs)
            · have hqn : q < n := Nat.lt_of_not_le fun h => c32 (nI_le h (by omega))
              have h1 := f_dig n (by omega) R hRm p hpn
              have h2 := f_dig n (by omega) R hRm q hqn
              have hpr := (c_pr (dgt n R q) (by omega) (dgt n R p) (by omega) h2.1 h1.1).2
              refine xj_lload_n dX0_swapped_35 rfl ?_
              refine xj_aload_n dX0_swapped_36 rfl rfl ?_
              refine xj_iload dX0_swapped_37 rfl ?_
              refine xj_bald dX0_swapped_39 hL rfl (by omega) (hR p hpn) ?_
              refine xj_aload_n dX0_swapped_40 rfl rfl ?_
              refine xj_iload dX0_swapped_41 rfl ?_
              refine xj_bald dX0_swapped_43 hL rfl (by omega) (hR q hqn) ?_
              refine xj_icmp_le (tgt := 61) dX0_swapped_44 rfl (fun c44 => ?_) (fun c44 => ?_)
              · refine xj_lc0 dX0_swapped_61 ?_
                refine xj_topl (y := lN (if dgt n R p ≤ dgt n R q then 0 else 2 ^ pr (dgt n R q) (dgt n R p))) (by first | (rw [if_pos ((nI_leI (by omega) (by omega)).mp c44)]; rfl) | (rw [if_neg (fun h => c44 ((nI_leI (by omega) (by omega)).mpr h))])) ?_
                have hlt36 : (if dgt n R p ≤ dgt n R q then 0 else 2 ^ pr (dgt n R q) (dgt n R p)) < 2 ^ 36 := by
                  split
                  · decide
                  · exact Nat.pow_lt_pow_right (by decide) hpr
                refine xj_lor dX0_swapped_62 ?_
                rw [wb_or (Nat.lt_trans hs36 (by decide)) (Nat.lt_trans hlt36 (by decide))]
                refine xj_lstn2 dX0_swapped_63 rfl ?_
                refine xj_iinc5 (cst := 1) dX0_swapped_64 rfl rfl ?_
                rw [nI_1]
                refine xj_goto (tgt := 23) dX0_swapped_67 rfl ?_
                exact ih_lq (q + 1) _ (by omega) (by omega) (Nat.or_lt_two_pow hs36 hlt36) (by rw [← hs, lp_step _ hqn])
              · refine xj_aload_n dX0_swapped_47 rfl rfl ?_
                refine xj_iload dX0_swapped_48 rfl ?_
                refine xj_bald dX0_swapped_50 hL rfl (by omega) (hR q hqn) ?_
                refine xj_aload_n dX0_swapped_51 rfl rfl ?_
                refine xj_iload dX0_swapped_52 rfl ?_
                refine xj_bald dX0_swapped_54 hL rfl (by omega) (hR p hpn) ?_
                refine xj_cS dX0_swapped_55 q608 kS_X0_pair (A_pair h2.1 (by omega) h1.1 (by omega)) rfl rfl (Nat.le_of_ble_eq_true rfl) ⟨(Nat.le_of_ble_eq_true rfl), (Nat.le_of_ble_eq_true rfl)⟩ (Nat.le_of_ble_eq_true rfl) (Nat.le_of_ble_eq_true rfl) ?_
                refine xj_goto (tgt := 62) dX0_swapped_58 rfl ?_
                refine xj_topl (y := lN (if dgt n R p ≤ dgt n R q then 0 else 2 ^ pr (dgt n R q) (dgt n R p))) (by first | (rw [if_pos ((nI_leI (by omega) (by omega)).mp c44)]; rfl) | (rw [if_neg (fun h => c44 ((nI_leI (by omega) (by omega)).mpr h))])) ?_
                have hlt36 : (if dgt n R p ≤ dgt n R q then 0 else 2 ^ pr (dgt n R q) (dgt n R p)) < 2 ^ 36 := by
                  split
                  · decide
                  · exact Nat.pow_lt_pow_right (by decide) hpr
                refine xj_lor dX0_swapped_62 ?_
                rw [wb_or (Nat.lt_trans hs36 (by decide)) (Nat.lt_trans hlt36 (by decide))]
                refine xj_lstn2 dX0_swapped_63 rfl ?_
                refine xj_iinc5 (cst := 1) dX0_swapped_64 rfl rfl ?_
                rw [nI_1]
                refine xj_goto (tgt := 23) dX0_swapped_67 rfl ?_
                exact ih_lq (q + 1) _ (by omega) (by omega) (Nat.or_lt_two_pow hs36 hlt36) (by rw [← hs, lp_step _ hqn])
        exact lq (n + 1) (p + 1) s (by omega) (by omega) hs36 (by rw [← hs0, lp_step _ hpn])
  exact lp (n + 1) 0 0 (by omega) (by omega) (by decide) rfl
theorem A_isBelow {r r2 R R2 : Nat} {L L2 : List Int32}  (hv : cV d e n G) (hL : G[r]? = some (cI 1 L)) (hR : rwL n R L) (hRm : R ∈ rws n) (hL2 : G[r2]? = some (cI 1 L2)) (hR2 : rwL n R2 L2) (hRm2 : R2 ∈ rws n) : xMet E yX0_isBelow cX0_isBelow 3 (some FieldType.boolean) 2 0 0 [.ref 0, .ref r, .ref r2] G (xrv (some (.int (b1 (sub6 n R R2)))) G) := by
  obtain ⟨hO, hN, hn0, h1n, hn6⟩ := id hv
  have hi1 := iv6_lt (by omega) hRm
  have hi2 := iv6_lt (by omega) hRm2
  refine xMet.of (lv := [some (.ref 0), some (.ref r), some (.ref r2)]) rfl rfl (Nat.le_of_ble_eq_true rfl) ?_
  refine xj_aload_n dX0_isBelow_0 rfl rfl ?_
  refine xj_aload_n dX0_isBelow_1 rfl rfl ?_
  refine xj_cV dX0_isBelow_2 q604 kV_X0_swapped (A_swapped hv hL hR hRm) hO rfl rfl rfl rfl (Nat.le_of_ble_eq_true rfl) ⟨(Nat.le_of_ble_eq_true rfl), (Nat.le_of_ble_eq_true rfl)⟩ (Nat.le_of_ble_eq_true rfl) (Nat.le_of_ble_eq_true rfl) ?_
  refine xj_aload_n dX0_isBelow_5 rfl rfl ?_
  refine xj_aload_n dX0_isBelow_6 rfl rfl ?_
  refine xj_cV dX0_isBelow_7 q604 kV_X0_swapped (A_swapped hv hL2 hR2 hRm2) hO rfl rfl rfl rfl (Nat.le_of_ble_eq_true rfl) ⟨(Nat.le_of_ble_eq_true rfl), (Nat.le_of_ble_eq_true rfl)⟩ (Nat.le_of_ble_eq_true rfl) (Nat.le_of_ble_eq_true rfl) ?_
  refine xj_ldc2 dX0_isBelow_10 q611 ?_
  refine xj_lxor dX0_isBelow_13 ?_
  refine xj_land dX0_isBelow_14 ?_
  rw [wb_andn (Nat.lt_trans hi1 (by decide)) (Nat.lt_trans hi2 (by decide))]
  refine xj_lc0 dX0_isBelow_15 ?_
  refine xj_lcmp dX0_isBelow_16 ?_
  refine xj_if_ne (tgt := 24) dX0_isBelow_17 rfl (fun c17 => ?_) (fun c17 => ?_)
  · refine xj_ic0 dX0_isBelow_24 ?_
    exact xj_ireturn dX0_isBelow_25 rfl rfl (xrv_i (by unfold sub6; first | (rw [show (iv6 n R &&& iv6 n R2 == iv6 n R) = true from beq_iff_eq.mpr ((andn_0 (Nat.lt_trans hi1 (by decide))).mp ((lN_0 (andn_lt (Nat.lt_trans hi1 (by decide)))).mp ((lg_cmp_eq _ _).mp c17)))]; rfl) | (rw [show (iv6 n R &&& iv6 n R2 == iv6 n R) = false from beq_eq_false_iff_ne.mpr (fun h => c17 ((lg_cmp_eq _ _).mpr ((lN_0 (andn_lt (Nat.lt_trans hi1 (by decide)))).mpr ((andn_0 (Nat.lt_trans hi1 (by decide))).mpr h))))]; rfl)))
  · refine xj_ic1 dX0_isBelow_20 ?_
    refine xj_goto (tgt := 25) dX0_isBelow_21 rfl ?_
    exact xj_ireturn dX0_isBelow_25 rfl rfl (xrv_i (by unfold sub6; first | (rw [show (iv6 n R &&& iv6 n R2 == iv6 n R) = true from beq_iff_eq.mpr ((andn_0 (Nat.lt_trans hi1 (by decide))).mp ((lN_0 (andn_lt (Nat.lt_trans hi1 (by decide)))).mp ((lg_cmp_eq _ _).mp c17)))]; rfl) | (rw [show (iv6 n R &&& iv6 n R2 == iv6 n R) = false from beq_eq_false_iff_ne.mpr (fun h => c17 ((lg_cmp_eq _ _).mpr ((lN_0 (andn_lt (Nat.lt_trans hi1 (by decide)))).mpr ((andn_0 (Nat.lt_trans hi1 (by decide))).mpr h))))]; rfl)))
theorem A_arcAt {r R p : Nat} {L : List Int32}  (hv : cV d e n G) (hL : G[r]? = some (cI 1 L)) (hR : rwL n R L) (hRm : R ∈ rws n) (hp : p < n - 1) : xMet E yX0_arcAt cX0_arcAt 7 (some FieldType.int) 1 0 0 [.ref 0, .ref r, .int (nI p)] G (xrv (some (.int (nI (aa n R p)))) G) := by
  obtain ⟨hO, hN, hn0, h1n, hn6⟩ := id hv
  have h1 := f_dig n (by omega) R hRm p (by omega)
  have h2 := f_dig n (by omega) R hRm (p + 1) (by omega)
  have hnd := f_nd n (by omega) R hRm p hp
  have hmn : 1 ≤ (amn (dgt n R p) (dgt n R (p + 1))) ∧ (amn (dgt n R p) (dgt n R (p + 1))) < (amx (dgt n R p) (dgt n R (p + 1))) ∧ (amx (dgt n R p) (dgt n R (p + 1))) ≤ n := by unfold amn amx; split <;> omega
  refine xMet.of (lv := [some (.ref 0), some (.ref r), some (.int (nI p)), none, none, none, none]) rfl rfl (Nat.le_of_ble_eq_true rfl) ?_
  refine xj_aload_n dX0_arcAt_0 rfl rfl ?_
  refine xj_iload_n dX0_arcAt_1 rfl ?_
  refine xj_bald dX0_arcAt_2 hL rfl (by omega) (hR p (by omega)) ?_
  refine xj_aload_n dX0_arcAt_3 rfl rfl ?_
  refine xj_iload_n dX0_arcAt_4 rfl ?_
  refine xj_ic1 dX0_arcAt_5 ?_
  refine xj_iadd dX0_arcAt_6 ?_
  rw [nI_1]
  refine xj_bald dX0_arcAt_7 hL rfl (by omega) (hR (p + 1) (by omega)) ?_
  refine xj_mmin dX0_arcAt_8 q738 qMminS qMI qMminC (Nat.le_of_ble_eq_true rfl) ⟨Nat.le_of_ble_eq_true rfl, Nat.le_of_ble_eq_true rfl⟩ ?_
  refine xj_top (c_min (by omega) (by omega)) ?_
  refine xj_istn3 dX0_arcAt_11 rfl ?_
  refine xj_aload_n dX0_arcAt_12 rfl rfl ?_
  refine xj_iload_n dX0_arcAt_13 rfl ?_
  refine xj_bald dX0_arcAt_14 hL rfl (by omega) (hR p (by omega)) ?_
  refine xj_aload_n dX0_arcAt_15 rfl rfl ?_
  refine xj_iload_n dX0_arcAt_16 rfl ?_
  refine xj_ic1 dX0_arcAt_17 ?_
  refine xj_iadd dX0_arcAt_18 ?_
  rw [nI_1]
  refine xj_bald dX0_arcAt_19 hL rfl (by omega) (hR (p + 1) (by omega)) ?_
  refine xj_mmax dX0_arcAt_20 q741 qMmaxS qMI qMmaxC (Nat.le_of_ble_eq_true rfl) ⟨Nat.le_of_ble_eq_true rfl, Nat.le_of_ble_eq_true rfl⟩ ?_
  refine xj_top (c_max (by omega) (by omega)) ?_
  refine xj_ist4 dX0_arcAt_23 rfl ?_
  refine xj_ic0 dX0_arcAt_25 ?_
  refine xj_ist5 dX0_arcAt_26 rfl ?_
  refine xj_ic0 dX0_arcAt_28 ?_
  refine xj_ist6 dX0_arcAt_29 rfl ?_
  have lp : ∀ (K : Nat) (q : Nat) (s : Nat), p - q < K → (q ≤ p) → (lpN (fun q s => s ||| abt (amn (dgt n R p) (dgt n R (p + 1))) (amx (dgt n R p) (dgt n R (p + 1))) (dgt n R q)) q (p - q) s = alf n R p) → xJ E (yX0_arcAt, cX0_arcAt, 7, (some FieldType.int), []) (xR 1 0 0) (xrv (some (.int (nI (aa n R p)))) G) 0 0 31 [some (.ref 0), some (.ref r), some (.int (nI p)), some (.int (nI (amn (dgt n R p) (dgt n R (p + 1))))), some (.int (nI (amx (dgt n R p) (dgt n R (p + 1))))), some (.int (nI s)), some (.int (nI q))] [] G := by
    intro K
    induction K with
    | zero => intro q s h; exact absurd h (Nat.not_lt_zero _)
    | succ K ih_lp =>
      intro q s hK hq hs
      refine xj_iload dX0_arcAt_31 rfl ?_
      refine xj_iload_n dX0_arcAt_33 rfl ?_
      refine xj_icmp_ge (tgt := 79) dX0_arcAt_34 rfl (fun c34 => ?_) (fun c34 => ?_)
      · have hqp : p ≤ q := Nat.le_of_not_lt fun h => absurd c34 (nI_ge h (by omega))
        rw [lp_end _ hqp] at hs
        subst hs
        refine xj_iload_n dX0_arcAt_79 rfl ?_
        refine xj_iload dX0_arcAt_80 rfl ?_
        refine xj_aload_n dX0_arcAt_82 rfl rfl ?_
        refine xj_get dX0_arcAt_83 K0 4 (by decide) q473 hO rfl ?_
        refine xj_getN dX0_arcAt_86 K3 0 (by decide) q321 hN (congrArg some hn0) ?_
        refine xj_cS dX0_arcAt_89 q394 kS_X0_firstOf (A_firstOf (n := n) (by omega) (by omega) (by omega) hn6) rfl rfl (Nat.le_of_ble_eq_true rfl) ⟨(Nat.le_of_ble_eq_true rfl), (Nat.le_of_ble_eq_true rfl)⟩ (Nat.le_of_ble_eq_true rfl) (Nat.le_of_ble_eq_true rfl) ?_
        refine xj_iload dX0_arcAt_92 rfl ?_
        refine xj_iadd dX0_arcAt_94 ?_
        exact xj_ireturn dX0_arcAt_95 rfl rfl (xrv_i (by rw [nI_add, f_aaf (by omega) hRm hp]))
      · have hqp : q < p := Nat.lt_of_not_le fun h => c34 (nI_le h (by omega))
        have h3 := f_dig n (by omega) R hRm q (by omega)
        refine xj_iload dX0_arcAt_37 rfl ?_
        refine xj_aload_n dX0_arcAt_39 rfl rfl ?_
        refine xj_iload dX0_arcAt_40 rfl ?_
        refine xj_bald dX0_arcAt_42 hL rfl (by omega) (hR q (by omega)) ?_
        refine xj_iload_n dX0_arcAt_43 rfl ?_
        refine xj_sI_icmp_le (tgt := 69) (M := 70) dX0_arcAt_44 rfl (fun c44 k => by
            refine xj_ic0 dX0_arcAt_69 ?_
            exact k) (fun c44 k => by
            refine xj_aload_n dX0_arcAt_47 rfl rfl ?_
            refine xj_iload dX0_arcAt_48 rfl ?_
            refine xj_bald dX0_arcAt_50 hL rfl (by omega) (hR q (by omega)) ?_
            refine xj_iload dX0_arcAt_51 rfl ?_
            refine xj_sI_icmp_ge (tgt := 69) (M := 70) dX0_arcAt_53 rfl (fun c53 k => by
                refine xj_ic0 dX0_arcAt_69 ?_
                exact k) (fun c53 k => by
                refine xj_ic1 dX0_arcAt_56 ?_
                refine xj_aload_n dX0_arcAt_57 rfl rfl ?_
                refine xj_iload dX0_arcAt_58 rfl ?_
                refine xj_bald dX0_arcAt_60 hL rfl (by omega) (hR q (by omega)) ?_
                refine xj_iload_n dX0_arcAt_61 rfl ?_
                refine xj_isub dX0_arcAt_62 ?_
                refine xj_ic1 dX0_arcAt_63 ?_
                refine xj_isub dX0_arcAt_64 ?_
                refine xj_ishl dX0_arcAt_65 ?_
                refine xj_goto (tgt := 70) dX0_arcAt_66 rfl ?_
                exact k) ?_
            exact k) ?_
        refine xj_top (c_abt (amn (dgt n R p) (dgt n R (p + 1))) (by omega) (amx (dgt n R p) (dgt n R (p + 1))) (by omega) (dgt n R q) (by omega)) ?_
        refine xj_ior dX0_arcAt_70 ?_
        rw [nI_or]
        refine xj_ist5 dX0_arcAt_71 rfl ?_
        refine xj_iinc6 (cst := 1) dX0_arcAt_73 rfl rfl ?_
        rw [nI_1]
        refine xj_goto (tgt := 31) dX0_arcAt_76 rfl ?_
        exact ih_lp (q + 1) _ (by omega) (by omega) (by rw [← hs, lp_step _ hqp])
  exact lp (p + 1) 0 0 (by omega) (by omega) rfl
theorem A_diagramOf {r R : Nat} {L : List Int32}  (hv : cV d e n G) (hL : G[r]? = some (cI 1 L)) (hR : rwL n R L) (hRm : R ∈ rws n) : xMet E yX0_diagramOf cX0_diagramOf 5 (some FieldType.long) 2 0 0 [.ref 0, .ref r] G (xrv (some (.long (lN (dgm n R)))) G) := by
  obtain ⟨hO, hN, hn0, h1n, hn6⟩ := id hv
  have hna := na_lt n (by omega)
  refine xMet.of (lv := [some (.ref 0), some (.ref r), none, none, none]) rfl rfl (Nat.le_of_ble_eq_true rfl) ?_
  refine xj_lc0 dX0_diagramOf_0 ?_
  refine xj_lstn2 dX0_diagramOf_1 rfl ?_
  refine xj_ic0 dX0_diagramOf_2 ?_
  refine xj_ist4 dX0_diagramOf_3 rfl ?_
  have lp : ∀ (K : Nat) (p : Nat) (s : Nat), n - 1 - p < K → (p ≤ n - 1) → (s < 2 ^ 57) → (lpN (fun p s => s ||| (if dgt n R (p + 1) < dgt n R p then 2 ^ aa n R p else 0)) p (n - 1 - p) s = dgm n R) → xJ E (yX0_diagramOf, cX0_diagramOf, 5, (some FieldType.long), []) (xR 2 0 0) (xrv (some (.long (lN (dgm n R)))) G) 0 0 5 [some (.ref 0), some (.ref r), some (.long (lN s)), none, some (.int (nI p))] [] G := by
    intro K
    induction K with
    | zero => intro p s h; exact absurd h (Nat.not_lt_zero _)
    | succ K ih_lp =>
      intro p s hK hp hs57 hs
      refine xj_iload dX0_diagramOf_5 rfl ?_
      refine xj_ic1 dX0_diagramOf_7 ?_
      refine xj_iadd dX0_diagramOf_8 ?_
      refine xj_aload_n dX0_diagramOf_9 rfl rfl ?_
      refine xj_get dX0_diagramOf_10 K0 4 (by decide) q473 hO rfl ?_
      refine xj_getN dX0_diagramOf_13 K3 0 (by decide) q321 hN (congrArg some hn0) ?_
      rw [nI_1]
      refine xj_icmp_ge (tgt := 50) dX0_diagramOf_16 rfl (fun c16 => ?_) (fun c16 => ?_)
      · refine xj_lload_n dX0_diagramOf_50 rfl ?_
        exact xj_lreturn dX0_diagramOf_51 rfl (xrv_l (by rw [← hs, lp_end _ (by have := Nat.le_of_not_lt fun h => absurd c16 (nI_ge h (by omega)); omega)]))
      · have hpn : p < n - 1 := Nat.lt_of_not_le fun h => c16 (nI_le (by omega) (by omega))
        have haa := (f_aa n (by omega) R hRm p hpn).1
        refine xj_lload_n dX0_diagramOf_19 rfl ?_
        refine xj_aload_n dX0_diagramOf_20 rfl rfl ?_
        refine xj_iload dX0_diagramOf_21 rfl ?_
        refine xj_cS dX0_diagramOf_23 q655 kS_X0_isDrop (A_isDrop hL hR (by omega) (by omega)) rfl rfl (Nat.le_of_ble_eq_true rfl) ⟨(Nat.le_of_ble_eq_true rfl), (Nat.le_of_ble_eq_true rfl)⟩ (Nat.le_of_ble_eq_true rfl) (Nat.le_of_ble_eq_true rfl) ?_
        refine xj_sL_if_eq (tgt := 41) (M := 42) dX0_diagramOf_26 rfl (fun c26 k => by
            refine xj_lc0 dX0_diagramOf_41 ?_
            exact k) (fun c26 k => by
            refine xj_lc1 dX0_diagramOf_29 ?_
            refine xj_aload_n dX0_diagramOf_30 rfl rfl ?_
            refine xj_aload_n dX0_diagramOf_31 rfl rfl ?_
            refine xj_iload dX0_diagramOf_32 rfl ?_
            refine xj_cV dX0_diagramOf_34 q748 kV_X0_arcAt (A_arcAt hv hL hR hRm hpn) hO rfl rfl rfl rfl (Nat.le_of_ble_eq_true rfl) ⟨(Nat.le_of_ble_eq_true rfl), (Nat.le_of_ble_eq_true rfl)⟩ (Nat.le_of_ble_eq_true rfl) (Nat.le_of_ble_eq_true rfl) ?_
            refine xj_lshl dX0_diagramOf_37 ?_
            refine xj_goto (tgt := 42) dX0_diagramOf_38 rfl ?_
            exact k) ?_
        rw [l_one_shl (by omega)]
        refine xj_topl c_selL ?_
        refine xj_lor dX0_diagramOf_42 ?_
        rw [wb_or (Nat.lt_trans hs57 (by decide)) (Nat.lt_trans (if_lt_pow (k := 57) (by omega)) (by decide))]
        refine xj_lstn2 dX0_diagramOf_43 rfl ?_
        refine xj_iinc4 (cst := 1) dX0_diagramOf_44 rfl rfl ?_
        rw [nI_1]
        refine xj_goto (tgt := 5) dX0_diagramOf_47 rfl ?_
        exact ih_lp (p + 1) _ (by omega) (by omega) (Nat.or_lt_two_pow hs57 (if_lt_pow (by omega))) (by rw [← hs, lp_step _ hpn]; congr 1; unfold isD; congr 1; simp)
  exact lp n 0 0 (by omega) (by omega) (by decide) rfl
end A2
