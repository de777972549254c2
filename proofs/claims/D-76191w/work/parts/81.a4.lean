/-! ===== the class: pairs closed, rows by pairs ===== -/
set_option maxRecDepth 100000
theorem kV_X0_allPairs : xsV yX0_allPairs cX0_allPairs 5 (some FieldType.long) 0 := ⟨q622, qs11, q151, q623, by decide, by decide, by decide +kernel⟩
theorem kV_X0_closedPairs : xsV yX0_closedPairs cX0_closedPairs 9 (some FieldType.long) 1 := ⟨q626, qs12, q151, q627, by decide, by decide, by decide +kernel⟩
theorem kV_X0_rowBy : xsV yX0_rowBy cX0_rowBy 8 none 2 := ⟨q630, qs13, q151, q631, by decide, by decide, by decide +kernel⟩
section A4
variable {E : xE} {G : xH} {d e : Nat → Value} {n : Nat}
theorem A_allPairs  (hv : cV d e n G) : xMet E yX0_allPairs cX0_allPairs 5 (some FieldType.long) 1 0 0 [.ref 0] G (xrv (some (.long (lN (alP n)))) G) := by
  obtain ⟨hO, hN, hn0, h1n, hn6⟩ := id hv
  refine xMet.of (lv := [some (.ref 0), none, none, none, none]) rfl rfl (Nat.le_of_ble_eq_true rfl) ?_
  refine xj_lc0 dX0_allPairs_0 ?_
  refine xj_lstn1 dX0_allPairs_1 rfl ?_
  refine xj_ic1 dX0_allPairs_2 ?_
  refine xj_istn3 dX0_allPairs_3 rfl ?_
  have lp : ∀ (K : Nat) (lo : Nat) (s : Nat), n - lo < K → (1 ≤ lo ∧ lo ≤ n) → (s < 2 ^ 36) → (lpN (fun lo s => lpN (fun hi s => s ||| 2 ^ pr lo hi) (lo + 1) (n + 1 - (lo + 1)) s) lo (n - lo) s = alP n) → xJ E (yX0_allPairs, cX0_allPairs, 5, (some FieldType.long), []) (xR 1 0 0) (xrv (some (.long (lN (alP n)))) G) 0 0 4 [some (.ref 0), some (.long (lN s)), none, some (.int (nI lo)), none] [] G := by
    intro K
    induction K with
    | zero => intro lo s h; exact absurd h (Nat.not_lt_zero _)
    | succ K ih_lp =>
      intro lo s hK hp hs36 hs0
      refine xj_iload_n dX0_allPairs_4 rfl ?_
      refine xj_aload_n dX0_allPairs_5 rfl rfl ?_
      refine xj_get dX0_allPairs_6 K0 4 (by decide) q473 hO rfl ?_
      refine xj_getN dX0_allPairs_9 K3 0 (by decide) q321 hN (congrArg some hn0) ?_
      refine xj_icmp_ge (tgt := 53) dX0_allPairs_12 rfl (fun c12 => ?_) (fun c12 => ?_)
      · refine xj_lload_n dX0_allPairs_53 rfl ?_
        exact xj_lreturn dX0_allPairs_54 rfl (xrv_l (by rw [← hs0, lp_end _ (Nat.le_of_not_lt fun h => absurd c12 (nI_ge h (by omega)))]))
      · have hpn : lo < n := Nat.lt_of_not_le fun h => c12 (nI_le h (by omega))
        refine xj_iload_n dX0_allPairs_15 rfl ?_
        refine xj_ic1 dX0_allPairs_16 ?_
        refine xj_iadd dX0_allPairs_17 ?_
        rw [nI_1]
        refine xj_ist4 dX0_allPairs_18 rfl ?_
        have lq : ∀ (K : Nat) (hi : Nat) (s : Nat), n + 1 - hi < K → (lo < hi ∧ hi ≤ n + 1) → (s < 2 ^ 36) → (lpN (fun lo s => lpN (fun hi s => s ||| 2 ^ pr lo hi) (lo + 1) (n + 1 - (lo + 1)) s) (lo + 1) (n - (lo + 1)) (lpN (fun hi s => s ||| 2 ^ pr lo hi) hi (n + 1 - hi) s) = alP n) → xJ E (yX0_allPairs, cX0_allPairs, 5, (some FieldType.long), []) (xR 1 0 0) (xrv (some (.long (lN (alP n)))) G) 0 0 20 [some (.ref 0), some (.long (lN s)), none, some (.int (nI lo)), some (.int (nI hi))] [] G := by
          intro K
          induction K with
          | zero => intro hi s h; exact absurd h (Nat.not_lt_zero _)
          | succ K ih_lq =>
            intro hi s hK hq hs36 hs
            refine xj_iload dX0_allPairs_20 rfl ?_
            refine xj_aload_n dX0_allPairs_22 rfl rfl ?_
            refine xj_get dX0_allPairs_23 K0 4 (by decide) q473 hO rfl ?_
            refine xj_getN dX0_allPairs_26 K3 0 (by decide) q321 hN (congrArg some hn0) ?_
            refine xj_icmp_gt (tgt := 47) dX0_allPairs_29 rfl (fun c29 => ?_) (fun c29 => ?_)
            · have hhn : n < hi := Nat.lt_of_not_le fun h => absurd c29 (nI_nlt h (by omega))
              rw [lp_end _ (show n + 1 ≤ hi by omega)] at hs
              refine xj_iinc3 (cst := 1) dX0_allPairs_47 rfl rfl ?_
              rw [nI_1]
              refine xj_goto (tgt := 4) dX0_allPairs_50 rfl ?_
              exact xj_fg4 (ih_lp (lo + 1) _ (by omega) (by omega) hs36 hs)
            · have hhn : hi ≤ n := Nat.le_of_not_lt fun h => c29 (nI_lt h (by omega))
              have hpr := pr_lt (lo := lo) (hi := hi) (by omega) (by omega) (by omega) (by omega)
              refine xj_lload_n dX0_allPairs_32 rfl ?_
              refine xj_iload_n dX0_allPairs_33 rfl ?_
              refine xj_iload dX0_allPairs_34 rfl ?_
              refine xj_cS dX0_allPairs_36 q608 kS_X0_pair (A_pair (by omega) (by omega) (by omega) (by omega)) rfl rfl (Nat.le_of_ble_eq_true rfl) ⟨(Nat.le_of_ble_eq_true rfl), (Nat.le_of_ble_eq_true rfl)⟩ (Nat.le_of_ble_eq_true rfl) (Nat.le_of_ble_eq_true rfl) ?_
              refine xj_lor dX0_allPairs_39 ?_
              rw [wb_or (Nat.lt_trans hs36 (by decide)) (Nat.lt_trans (Nat.pow_lt_pow_right (by decide) hpr) (by decide))]
              refine xj_lstn1 dX0_allPairs_40 rfl ?_
              refine xj_iinc4 (cst := 1) dX0_allPairs_41 rfl rfl ?_
              rw [nI_1]
              refine xj_goto (tgt := 20) dX0_allPairs_44 rfl ?_
              exact ih_lq (hi + 1) _ (by omega) (by omega) (Nat.or_lt_two_pow hs36 (Nat.pow_lt_pow_right (by decide) hpr)) (by rw [← hs, lp_step _ (show hi < n + 1 by omega)])
        exact lq (n + 1) (lo + 1) s (by omega) (by omega) hs36 (by rw [← hs0, lp_step _ hpn])
  exact lp (n + 1) 1 0 (by omega) (by omega) (by decide) rfl
theorem A_closedPairs {s0 : Nat}  (hv : cV d e n G) (h36 : s0 < 2 ^ 36) : xMet E yX0_closedPairs cX0_closedPairs 9 (some FieldType.long) 1 0 0 [.ref 0, .long (lN s0)] G (xrv (some (.long (lN (cpN n s0)))) G) := by
  obtain ⟨hO, hN, hn0, h1n, hn6⟩ := id hv
  refine xMet.of (lv := [some (.ref 0), some (.long (lN s0)), none, none, none, none, none, none, none]) rfl rfl (Nat.le_of_ble_eq_true rfl) ?_
  refine xj_lload_n dX0_closedPairs_0 rfl ?_
  refine xj_lstn3 dX0_closedPairs_1 rfl ?_
  refine xj_ic2 dX0_closedPairs_2 ?_
  refine xj_ist5 dX0_closedPairs_3 rfl ?_
  have l1 : ∀ (K : Nat) (w : Nat) (s : Nat), n - w < K → (2 ≤ w ∧ w ≤ n + 1) → (s < 2 ^ 36) → (lpN (cpW n) w (n - w) s = cpN n s0) → xJ E (yX0_closedPairs, cX0_closedPairs, 9, (some FieldType.long), []) (xR 1 0 0) (xrv (some (.long (lN (cpN n s0)))) G) 0 0 5 [some (.ref 0), some (.long (lN s0)), none, some (.long (lN s)), none, some (.int (nI w)), none, none, none] [] G := by
    intro K
    induction K with
    | zero => intro w s h; exact absurd h (Nat.not_lt_zero _)
    | succ K ih_l1 =>
      intro w s hK hw hs36 hs1
      refine xj_iload dX0_closedPairs_5 rfl ?_
      refine xj_aload_n dX0_closedPairs_7 rfl rfl ?_
      refine xj_get dX0_closedPairs_8 K0 4 (by decide) q473 hO rfl ?_
      refine xj_getN dX0_closedPairs_11 K3 0 (by decide) q321 hN (congrArg some hn0) ?_
      refine xj_icmp_ge (tgt := 129) dX0_closedPairs_14 rfl (fun c14 => ?_) (fun c14 => ?_)
      · refine xj_lload_n dX0_closedPairs_129 rfl ?_
        exact xj_lreturn dX0_closedPairs_130 rfl (xrv_l (by rw [← hs1, lp_end _ (Nat.le_of_not_lt fun h => absurd c14 (nI_ge h (by omega)))]))
      · have hwn : w < n := Nat.lt_of_not_le fun h => c14 (nI_le h (by omega))
        refine xj_ic1 dX0_closedPairs_17 ?_
        refine xj_ist6 dX0_closedPairs_18 rfl ?_
        have l2 : ∀ (K : Nat) (lo : Nat) (s : Nat), n + 1 - w - lo < K → (1 ≤ lo ∧ lo ≤ n + 1 - w) → (s < 2 ^ 36) → (lpN (cpW n) (w + 1) (n - (w + 1)) (lpN (cpM w) lo (n + 1 - w - lo) s) = cpN n s0) → xJ E (yX0_closedPairs, cX0_closedPairs, 9, (some FieldType.long), []) (xR 1 0 0) (xrv (some (.long (lN (cpN n s0)))) G) 0 0 20 [some (.ref 0), some (.long (lN s0)), none, some (.long (lN s)), none, some (.int (nI w)), some (.int (nI lo)), none, none] [] G := by
          intro K
          induction K with
          | zero => intro lo s h; exact absurd h (Nat.not_lt_zero _)
          | succ K ih_l2 =>
            intro lo s hK hlo hs36 hs2
            refine xj_iload dX0_closedPairs_20 rfl ?_
            refine xj_iload dX0_closedPairs_22 rfl ?_
            refine xj_iadd dX0_closedPairs_24 ?_
            rw [nI_add]
            refine xj_aload_n dX0_closedPairs_25 rfl rfl ?_
            refine xj_get dX0_closedPairs_26 K0 4 (by decide) q473 hO rfl ?_
            refine xj_getN dX0_closedPairs_29 K3 0 (by decide) q321 hN (congrArg some hn0) ?_
            refine xj_icmp_gt (tgt := 123) dX0_closedPairs_32 rfl (fun c32 => ?_) (fun c32 => ?_)
            · have hlw : n < lo + w := Nat.lt_of_not_le fun h => absurd c32 (nI_nlt h (by omega))
              rw [lp_end _ (show n + 1 - w ≤ lo by omega)] at hs2
              refine xj_iinc5 (cst := 1) dX0_closedPairs_123 rfl rfl ?_
              rw [nI_1]
              refine xj_goto (tgt := 5) dX0_closedPairs_126 rfl ?_
              exact xj_fg6 (ih_l1 (w + 1) _ (by omega) (by omega) hs36 hs2)
            · have hlw : lo + w ≤ n := Nat.le_of_not_lt fun h => c32 (nI_lt h (by omega))
              refine xj_iload dX0_closedPairs_35 rfl ?_
              refine xj_ic1 dX0_closedPairs_37 ?_
              refine xj_iadd dX0_closedPairs_38 ?_
              rw [nI_1]
              refine xj_ist7 dX0_closedPairs_39 rfl ?_
              have l3 : ∀ (K : Nat) (m : Nat) (s : Nat), lo + w - m < K → (lo < m ∧ m ≤ lo + w) → (s < 2 ^ 36) → (lpN (cpW n) (w + 1) (n - (w + 1)) (lpN (cpM w) (lo + 1) (n + 1 - w - (lo + 1)) (lpN (cpI lo w) m (lo + w - m) s)) = cpN n s0) → xJ E (yX0_closedPairs, cX0_closedPairs, 9, (some FieldType.long), []) (xR 1 0 0) (xrv (some (.long (lN (cpN n s0)))) G) 0 0 41 [some (.ref 0), some (.long (lN s0)), none, some (.long (lN s)), none, some (.int (nI w)), some (.int (nI lo)), some (.int (nI m)), none] [] G := by
                intro K
                induction K with
                | zero => intro m s h; exact absurd h (Nat.not_lt_zero _)
                | succ K ih_l3 =>
                  intro m s hK hm hs36 hs3
                  refine xj_iload dX0_closedPairs_41 rfl ?_
                  refine xj_iload dX0_closedPairs_43 rfl ?_
                  refine xj_iload dX0_closedPairs_45 rfl ?_
                  refine xj_iadd dX0_closedPairs_47 ?_
                  rw [nI_add]
                  refine xj_icmp_ge (tgt := 117) dX0_closedPairs_48 rfl (fun c48 => ?_) (fun c48 => ?_)
                  · have hmw : lo + w ≤ m := Nat.le_of_not_lt fun h => absurd c48 (nI_ge h (by omega))
                    rw [lp_end _ hmw] at hs3
                    refine xj_iinc6 (cst := 1) dX0_closedPairs_117 rfl rfl ?_
                    rw [nI_1]
                    refine xj_goto (tgt := 20) dX0_closedPairs_120 rfl ?_
                    exact xj_fg7 (xj_fg8 (ih_l2 (lo + 1) _ (by omega) (by omega) hs36 hs3))
                  · have hmw : m < lo + w := Nat.lt_of_not_le fun h => c48 (nI_le h (by omega))
                    have hp1 := pr_lt (lo := lo) (hi := m) (by omega) (by omega) (by omega) (by omega)
                    have hp2 := pr_lt (lo := m) (hi := lo + w) (by omega) (by omega) (by omega) (by omega)
                    have hp3 := pr_lt (lo := lo) (hi := lo + w) (by omega) (by omega) (by omega) (by omega)
                    refine xj_lload_n dX0_closedPairs_51 rfl ?_
                    refine xj_iload dX0_closedPairs_52 rfl ?_
                    refine xj_iload dX0_closedPairs_54 rfl ?_
                    refine xj_cS dX0_closedPairs_56 q608 kS_X0_pair (A_pair (by omega) (by omega) (by omega) (by omega)) rfl rfl (Nat.le_of_ble_eq_true rfl) ⟨(Nat.le_of_ble_eq_true rfl), (Nat.le_of_ble_eq_true rfl)⟩ (Nat.le_of_ble_eq_true rfl) (Nat.le_of_ble_eq_true rfl) ?_
                    refine xj_land dX0_closedPairs_59 ?_
                    refine xj_lc0 dX0_closedPairs_60 ?_
                    refine xj_lcmp dX0_closedPairs_61 ?_
                    refine xj_top (l_bitC hs36 hp1) ?_
                    refine xj_sI_if_eq (tgt := 86) (M := 87) dX0_closedPairs_62 rfl (fun c62 k => by
                        refine xj_ic0 dX0_closedPairs_86 ?_
                        exact k) (fun c62 k => by
                        refine xj_lload_n dX0_closedPairs_65 rfl ?_
                        refine xj_iload dX0_closedPairs_66 rfl ?_
                        refine xj_iload dX0_closedPairs_68 rfl ?_
                        refine xj_iload dX0_closedPairs_70 rfl ?_
                        refine xj_iadd dX0_closedPairs_72 ?_
                        rw [nI_add]
                        refine xj_cS dX0_closedPairs_73 q608 kS_X0_pair (A_pair (by omega) (by omega) (by omega) (by omega)) rfl rfl (Nat.le_of_ble_eq_true rfl) ⟨(Nat.le_of_ble_eq_true rfl), (Nat.le_of_ble_eq_true rfl)⟩ (Nat.le_of_ble_eq_true rfl) (Nat.le_of_ble_eq_true rfl) ?_
                        refine xj_land dX0_closedPairs_76 ?_
                        refine xj_lc0 dX0_closedPairs_77 ?_
                        refine xj_lcmp dX0_closedPairs_78 ?_
                        refine xj_top (l_bitC hs36 hp2) ?_
                        refine xj_sI_if_eq (tgt := 86) (M := 87) dX0_closedPairs_79 rfl (fun c79 k => by
                            refine xj_ic0 dX0_closedPairs_86 ?_
                            exact k) (fun c79 k => by
                            refine xj_ic1 dX0_closedPairs_82 ?_
                            refine xj_goto (tgt := 87) dX0_closedPairs_83 rfl ?_
                            exact k) ?_
                        exact k) ?_
                    refine xj_top (b1_and _ _) ?_
                    refine xj_ist8 dX0_closedPairs_87 rfl ?_
                    refine xj_lload_n dX0_closedPairs_89 rfl ?_
                    refine xj_iload dX0_closedPairs_90 rfl ?_
                    refine xj_sL_if_eq (tgt := 108) (M := 109) dX0_closedPairs_92 rfl (fun c92 k => by
                        refine xj_lc0 dX0_closedPairs_108 ?_
                        exact k) (fun c92 k => by
                        refine xj_iload dX0_closedPairs_95 rfl ?_
                        refine xj_iload dX0_closedPairs_97 rfl ?_
                        refine xj_iload dX0_closedPairs_99 rfl ?_
                        refine xj_iadd dX0_closedPairs_101 ?_
                        rw [nI_add]
                        refine xj_cS dX0_closedPairs_102 q608 kS_X0_pair (A_pair (by omega) (by omega) (by omega) (by omega)) rfl rfl (Nat.le_of_ble_eq_true rfl) ⟨(Nat.le_of_ble_eq_true rfl), (Nat.le_of_ble_eq_true rfl)⟩ (Nat.le_of_ble_eq_true rfl) (Nat.le_of_ble_eq_true rfl) ?_
                        refine xj_goto (tgt := 109) dX0_closedPairs_105 rfl ?_
                        exact k) ?_
                    refine xj_topl c_selL ?_
                    refine xj_lor dX0_closedPairs_109 ?_
                    rw [wb_or (Nat.lt_trans hs36 (by decide)) (Nat.lt_trans (if_lt_pow (k := 36) hp3) (by decide))]
                    refine xj_lstn3 dX0_closedPairs_110 rfl ?_
                    refine xj_iinc7 (cst := 1) dX0_closedPairs_111 rfl rfl ?_
                    rw [nI_1]
                    refine xj_goto (tgt := 41) dX0_closedPairs_114 rfl ?_
                    exact xj_fg8 (ih_l3 (m + 1) _ (by omega) (by omega) (cpI_lt (m := m) hs36 hp3) (by rw [← hs3, lp_step _ hmw]; rfl))
              exact l3 (w + 1) (lo + 1) s (by omega) (by omega) hs36 (by rw [← hs2, lp_step _ (show lo < n + 1 - w by omega)]; rfl)
        exact l2 (n + 1) 1 s (by omega) (by omega) hs36 (by rw [← hs1, lp_step _ hwn]; rfl)
  exact l1 (n + 1) 2 s0 (by omega) (by omega) h36 rfl
theorem A_rowBy {r J : Nat} {L : List Int32}  (hv : cV d e n G) (hL : G[r]? = some (cI 1 L)) (hr0 : r ≠ 0) (hr4 : r ≠ 4) (hJ : J ∈ rws n) (hln : n ≤ L.length) (hl31 : L.length < 2147483648) : xMet E yX0_rowBy cX0_rowBy 8 none 1 0 0 [.ref 0, .long (lN (iv6 n J)), .ref r] G (xre (fun v G' => v = none ∧ ∃ M : List Int32, M.length = L.length ∧ rwL n J M ∧ G' = G.set r (cI 1 M))) := by
  obtain ⟨hO, hN, hn0, h1n, hn6⟩ := id hv
  have hi36 := iv6_lt (by omega) hJ
  refine xMet.of (lv := [some (.ref 0), some (.long (lN (iv6 n J))), none, some (.ref r), none, none, none, none]) rfl rfl (Nat.le_of_ble_eq_true rfl) ?_
  refine xj_ic1 dX0_rowBy_0 ?_
  refine xj_ist4 dX0_rowBy_1 rfl ?_
  refine xj_eq rfl rfl (show G = G.set r (cI 1 L) from (gset_id hL).symm) ?_
  have lp : ∀ (K : Nat) (v : Nat) (M : List Int32), n - v < K → (v ≤ n) → (M.length = L.length) → (∀ j, j < v → M[cnB n (iv6 n J) (j + 1)]? = some (nI (j + 1))) → xJ E (yX0_rowBy, cX0_rowBy, 8, none, []) (xR 1 0 0) (xre (fun v G' => v = none ∧ ∃ M : List Int32, M.length = L.length ∧ rwL n J M ∧ G' = G.set r (cI 1 M))) 0 0 3 [some (.ref 0), some (.long (lN (iv6 n J))), none, some (.ref r), some (.int (nI (v + 1))), none, none, none] [] (G.set r (cI 1 M)) := by
    intro K
    induction K with
    | zero => intro v M h; exact absurd h (Nat.not_lt_zero _)
    | succ K ih_lp =>
      intro v M hK hv0 hM hMp
      have hv2 : cV d e n (G.set r (cI 1 M)) := hv.set hr0 hr4
      obtain ⟨hO2, hN2, -⟩ := id hv2
      refine xj_iload dX0_rowBy_3 rfl ?_
      refine xj_aload_n dX0_rowBy_5 rfl rfl ?_
      refine xj_get dX0_rowBy_6 K0 4 (by decide) q473 hO2 rfl ?_
      refine xj_getN dX0_rowBy_9 K3 0 (by decide) q321 hN2 (congrArg some hn0) ?_
      refine xj_icmp_gt (tgt := 124) dX0_rowBy_12 rfl (fun c12 => ?_) (fun c12 => ?_)
      · exact xj_return dX0_rowBy_124 rfl ⟨rfl, M, hM, rby_L (by omega) hJ (fun j hj => hMp j (by have : n < v + 1 := Nat.lt_of_not_le fun h => absurd c12 (nI_nlt h (by omega)); omega)), rfl⟩
      · have hvn : v < n := Nat.lt_of_not_le fun h => c12 (nI_lt (by omega) (by omega))
        refine xj_ic0 dX0_rowBy_15 ?_
        refine xj_ist5 dX0_rowBy_16 rfl ?_
        refine xj_ic1 dX0_rowBy_18 ?_
        refine xj_ist6 dX0_rowBy_19 rfl ?_
        have lq : ∀ (K : Nat) (w : Nat) (c : Nat), n + 1 - w < K → (1 ≤ w ∧ w ≤ n + 1) → (lpN (fun w c => c + (if bfr (iv6 n J) w (v + 1) then 1 else 0)) w (n + 1 - w) c = cnB n (iv6 n J) (v + 1)) → xJ E (yX0_rowBy, cX0_rowBy, 8, none, []) (xR 1 0 0) (xre (fun v G' => v = none ∧ ∃ M : List Int32, M.length = L.length ∧ rwL n J M ∧ G' = G.set r (cI 1 M))) 0 0 21 [some (.ref 0), some (.long (lN (iv6 n J))), none, some (.ref r), some (.int (nI (v + 1))), some (.int (nI c)), some (.int (nI w)), none] [] (G.set r (cI 1 M)) := by
          intro K
          induction K with
          | zero => intro w c h; exact absurd h (Nat.not_lt_zero _)
          | succ K ih_lq =>
            intro w c hK hw hc
            refine xj_iload dX0_rowBy_21 rfl ?_
            refine xj_aload_n dX0_rowBy_23 rfl rfl ?_
            refine xj_get dX0_rowBy_24 K0 4 (by decide) q473 hO2 rfl ?_
            refine xj_getN dX0_rowBy_27 K3 0 (by decide) q321 hN2 (congrArg some hn0) ?_
            refine xj_icmp_gt (tgt := 111) dX0_rowBy_30 rfl (fun c30 => ?_) (fun c30 => ?_)
            · have hwn : n < w := Nat.lt_of_not_le fun h => absurd c30 (nI_nlt h (by omega))
              rw [lp_end _ (by omega)] at hc
              subst hc
              have hrb := rby_ok (p := v) (by omega) hJ hvn
              refine xj_aload_n dX0_rowBy_111 rfl rfl ?_
              refine xj_iload dX0_rowBy_112 rfl ?_
              refine xj_iload dX0_rowBy_114 rfl ?_
              refine xj_i2b dX0_rowBy_116 ?_
              refine xj_top (c_b8 (v + 1) (by omega)) ?_
              refine xj_bast dX0_rowBy_117 (gset_self hL) rfl (by omega) (by omega) (c_b8 (v + 1) (by omega)) ?_
              rw [gset_set]
              refine xj_iinc4 (cst := 1) dX0_rowBy_118 rfl rfl ?_
              rw [nI_1]
              refine xj_goto (tgt := 3) dX0_rowBy_121 rfl ?_
              exact xj_fg5 (xj_fg6 (xj_fg7 (ih_lp (v + 1) _ (by omega) (by omega) (by rw [List.length_set]; exact hM) (fun j hj => by
                by_cases e : cnB n (iv6 n J) (v + 1) = cnB n (iv6 n J) (j + 1)
                · rw [← e, List.getElem?_set_self (by omega)]
                  have hrj := rby_ok (p := j) (by omega) hJ (by omega)
                  rw [← e, hrb.2.2] at hrj
                  rw [show j = v by omega]
                · rw [List.getElem?_set_ne e]; exact hMp j (by
                    have : j ≠ v := fun h => e (by rw [h])
                    omega)))))
            · have hwn : w ≤ n := Nat.le_of_not_lt fun h => c30 (nI_lt h (by omega))
              refine xj_iload dX0_rowBy_33 rfl ?_
              refine xj_iload dX0_rowBy_35 rfl ?_
              refine xj_icmp_ge (tgt := 62) dX0_rowBy_37 rfl (fun c37 => ?_) (fun c37 => ?_)
              · refine xj_iload dX0_rowBy_62 rfl ?_
                refine xj_iload dX0_rowBy_64 rfl ?_
                refine xj_sI_icmp_le (tgt := 87) (M := 88) dX0_rowBy_66 rfl (fun c66 k => by
                    refine xj_ic0 dX0_rowBy_87 ?_
                    exact k) (fun c66 k => by
                    refine xj_lload_n dX0_rowBy_69 rfl ?_
                    refine xj_iload dX0_rowBy_70 rfl ?_
                    refine xj_iload dX0_rowBy_72 rfl ?_
                    refine xj_cS dX0_rowBy_74 q608 kS_X0_pair (A_pair (by omega) (by omega) (by omega) (by omega)) rfl rfl (Nat.le_of_ble_eq_true rfl) ⟨(Nat.le_of_ble_eq_true rfl), (Nat.le_of_ble_eq_true rfl)⟩ (Nat.le_of_ble_eq_true rfl) (Nat.le_of_ble_eq_true rfl) ?_
                    refine xj_land dX0_rowBy_77 ?_
                    refine xj_lc0 dX0_rowBy_78 ?_
                    refine xj_lcmp dX0_rowBy_79 ?_
                    refine xj_top (l_bitC hi36 (pr_lt (by omega) (by omega) (by omega) (by omega))) ?_
                    refine xj_sI_if_eq (tgt := 87) (M := 88) dX0_rowBy_80 rfl (fun c80 k => by
                        refine xj_ic0 dX0_rowBy_87 ?_
                        exact k) (fun c80 k => by
                        refine xj_ic1 dX0_rowBy_83 ?_
                        refine xj_goto (tgt := 88) dX0_rowBy_84 rfl ?_
                        exact k) ?_
                    exact k) ?_
                first | refine xj_top (c_bf1 (by omega) (by omega) c37) ?_ | refine xj_top (c_bf2 (by omega) (by omega) c37 c51) ?_ | refine xj_top (c_bf3 (by omega) (by omega) c37 c51) ?_
                refine xj_ist7 dX0_rowBy_88 rfl ?_
                refine xj_iload dX0_rowBy_90 rfl ?_
                refine xj_iload dX0_rowBy_92 rfl ?_
                refine xj_sI_if_eq (tgt := 101) (M := 102) dX0_rowBy_94 rfl (fun c94 k => by
                    refine xj_ic0 dX0_rowBy_101 ?_
                    exact k) (fun c94 k => by
                    refine xj_ic1 dX0_rowBy_97 ?_
                    refine xj_goto (tgt := 102) dX0_rowBy_98 rfl ?_
                    exact k) ?_
                refine xj_top (c_bfr _) ?_
                refine xj_iadd dX0_rowBy_102 ?_
                rw [nI_add]
                refine xj_ist5 dX0_rowBy_103 rfl ?_
                refine xj_iinc6 (cst := 1) dX0_rowBy_105 rfl rfl ?_
                rw [nI_1]
                refine xj_goto (tgt := 21) dX0_rowBy_108 rfl ?_
                exact xj_fg7 (ih_lq (w + 1) _ (by omega) (by omega) (by rw [← hc, lp_step _ (show w < n + 1 by omega)]))
              · refine xj_lload_n dX0_rowBy_40 rfl ?_
                refine xj_iload dX0_rowBy_41 rfl ?_
                refine xj_iload dX0_rowBy_43 rfl ?_
                refine xj_cS dX0_rowBy_45 q608 kS_X0_pair (A_pair (by omega) (by omega) (by omega) (by omega)) rfl rfl (Nat.le_of_ble_eq_true rfl) ⟨(Nat.le_of_ble_eq_true rfl), (Nat.le_of_ble_eq_true rfl)⟩ (Nat.le_of_ble_eq_true rfl) (Nat.le_of_ble_eq_true rfl) ?_
                refine xj_land dX0_rowBy_48 ?_
                refine xj_lc0 dX0_rowBy_49 ?_
                refine xj_lcmp dX0_rowBy_50 ?_
                refine xj_top (l_bitC hi36 (pr_lt (by omega) (by omega) (by omega) (by omega))) ?_
                refine xj_if_ne (tgt := 58) dX0_rowBy_51 rfl (fun c51 => ?_) (fun c51 => ?_)
                · refine xj_ic0 dX0_rowBy_58 ?_
                  refine xj_goto (tgt := 88) dX0_rowBy_59 rfl ?_
                  first | refine xj_top (c_bf1 (by omega) (by omega) c37) ?_ | refine xj_top (c_bf2 (by omega) (by omega) c37 c51) ?_ | refine xj_top (c_bf3 (by omega) (by omega) c37 c51) ?_
                  refine xj_ist7 dX0_rowBy_88 rfl ?_
                  refine xj_iload dX0_rowBy_90 rfl ?_
                  refine xj_iload dX0_rowBy_92 rfl ?_
                  refine xj_sI_if_eq (tgt := 101) (M := 102) dX0_rowBy_94 rfl (fun c94 k => by
                      refine xj_ic0 dX0_rowBy_101 ?_
                      exact k) (fun c94 k => by
                      refine xj_ic1 dX0_rowBy_97 ?_
                      refine xj_goto (tgt := 102) dX0_rowBy_98 rfl ?_
                      exact k) ?_
                  refine xj_top (c_bfr _) ?_
                  refine xj_iadd dX0_rowBy_102 ?_
                  rw [nI_add]
                  refine xj_ist5 dX0_rowBy_103 rfl ?_
                  refine xj_iinc6 (cst := 1) dX0_rowBy_105 rfl rfl ?_
                  rw [nI_1]
                  refine xj_goto (tgt := 21) dX0_rowBy_108 rfl ?_
                  exact xj_fg7 (ih_lq (w + 1) _ (by omega) (by omega) (by rw [← hc, lp_step _ (show w < n + 1 by omega)]))
                · refine xj_ic1 dX0_rowBy_54 ?_
                  refine xj_goto (tgt := 88) dX0_rowBy_55 rfl ?_
                  first | refine xj_top (c_bf1 (by omega) (by omega) c37) ?_ | refine xj_top (c_bf2 (by omega) (by omega) c37 c51) ?_ | refine xj_top (c_bf3 (by omega) (by omega) c37 c51) ?_
                  refine xj_ist7 dX0_rowBy_88 rfl ?_
                  refine xj_iload dX0_rowBy_90 rfl ?_
                  refine xj_iload dX0_rowBy_92 rfl ?_
                  refine xj_sI_if_eq (tgt := 101) (M := 102) dX0_rowBy_94 rfl (fun c94 k => by
                      refine xj_ic0 dX0_rowBy_101 ?_
                      exact k) (fun c94 k => by
                      refine xj_ic1 dX0_rowBy_97 ?_
                      refine xj_goto (tgt := 102) dX0_rowBy_98 rfl ?_
                      exact k) ?_
                  refine xj_top (c_bfr _) ?_
                  refine xj_iadd dX0_rowBy_102 ?_
                  rw [nI_add]
                  refine xj_ist5 dX0_rowBy_103 rfl ?_
                  refine xj_iinc6 (cst := 1) dX0_rowBy_105 rfl rfl ?_
                  rw [nI_1]
                  refine xj_goto (tgt := 21) dX0_rowBy_108 rfl ?_
                  exact xj_fg7 (ih_lq (w + 1) _ (by omega) (by omega) (by rw [← hc, lp_step _ (show w < n + 1 by omega)]))
        exact lq (n + 2) 1 0 (by omega) (by omega) rfl
  exact lp (n + 1) 0 L (by omega) (by omega) rfl (fun j hj => absurd hj (Nat.not_lt_zero _))
theorem A_joined {r r1 r2 R1 R2 J : Nat} {L L1 L2 : List Int32}  (hv : cV d e n G) (hL1 : G[r1]? = some (cI 1 L1)) (hR1 : rwL n R1 L1) (hm1 : R1 ∈ rws n) (hL2 : G[r2]? = some (cI 1 L2)) (hR2 : rwL n R2 L2) (hm2 : R2 ∈ rws n) (hL : G[r]? = some (cI 1 L)) (hr0 : r ≠ 0) (hr4 : r ≠ 4) (hJ : J ∈ rws n) (hln : n ≤ L.length) (hl31 : L.length < 2147483648) (hcp : cpN n (iv6 n R1 ||| iv6 n R2) = iv6 n J) : xMet E yX0_joined cX0_joined 4 none 2 0 0 [.ref 0, .ref r1, .ref r2, .ref r] G (xre (fun v G' => v = none ∧ ∃ M : List Int32, M.length = L.length ∧ rwL n J M ∧ G' = G.set r (cI 1 M))) := by
  obtain ⟨hO, hN, hn0, h1n, hn6⟩ := id hv
  have hi1 := iv6_lt (by omega) hm1
  have hi2 := iv6_lt (by omega) hm2
  refine xMet.of (lv := [some (.ref 0), some (.ref r1), some (.ref r2), some (.ref r)]) rfl rfl (Nat.le_of_ble_eq_true rfl) ?_
  refine xj_aload_n dX0_joined_0 rfl rfl ?_
  refine xj_aload_n dX0_joined_1 rfl rfl ?_
  refine xj_aload_n dX0_joined_2 rfl rfl ?_
  refine xj_aload_n dX0_joined_3 rfl rfl ?_
  refine xj_cV dX0_joined_4 q604 kV_X0_swapped (A_swapped hv hL1 hR1 hm1) hO rfl rfl rfl rfl (Nat.le_of_ble_eq_true rfl) ⟨(Nat.le_of_ble_eq_true rfl), (Nat.le_of_ble_eq_true rfl)⟩ (Nat.le_of_ble_eq_true rfl) (Nat.le_of_ble_eq_true rfl) ?_
  refine xj_aload_n dX0_joined_7 rfl rfl ?_
  refine xj_aload_n dX0_joined_8 rfl rfl ?_
  refine xj_cV dX0_joined_9 q604 kV_X0_swapped (A_swapped hv hL2 hR2 hm2) hO rfl rfl rfl rfl (Nat.le_of_ble_eq_true rfl) ⟨(Nat.le_of_ble_eq_true rfl), (Nat.le_of_ble_eq_true rfl)⟩ (Nat.le_of_ble_eq_true rfl) (Nat.le_of_ble_eq_true rfl) ?_
  refine xj_lor dX0_joined_12 ?_
  rw [wb_or (Nat.lt_trans hi1 (by decide)) (Nat.lt_trans hi2 (by decide))]
  refine xj_cV dX0_joined_13 q624 kV_X0_closedPairs (A_closedPairs hv (Nat.or_lt_two_pow hi1 hi2)) hO rfl rfl rfl rfl (Nat.le_of_ble_eq_true rfl) ⟨(Nat.le_of_ble_eq_true rfl), (Nat.le_of_ble_eq_true rfl)⟩ (Nat.le_of_ble_eq_true rfl) (Nat.le_of_ble_eq_true rfl) ?_
  refine xj_aload_n dX0_joined_16 rfl rfl ?_
  rw [hcp]
  refine xj_dV dX0_joined_17 q628 kV_X0_rowBy (A_rowBy hv hL hr0 hr4 hJ hln hl31) hO rfl rfl rfl rfl (Nat.le_of_ble_eq_true rfl) ⟨(Nat.le_of_ble_eq_true rfl), (Nat.le_of_ble_eq_true rfl)⟩ (Nat.le_of_ble_eq_true rfl) (Nat.le_of_ble_eq_true rfl) ?_
  rintro _ _ ⟨rfl, M, hM1, hM2, rfl⟩
  exact xj_return dX0_joined_20 rfl ⟨rfl, M, hM1, hM2, rfl⟩
theorem A_met {r r1 r2 R1 R2 J : Nat} {L L1 L2 : List Int32}  (hv : cV d e n G) (hL1 : G[r1]? = some (cI 1 L1)) (hR1 : rwL n R1 L1) (hm1 : R1 ∈ rws n) (hL2 : G[r2]? = some (cI 1 L2)) (hR2 : rwL n R2 L2) (hm2 : R2 ∈ rws n) (hL : G[r]? = some (cI 1 L)) (hr0 : r ≠ 0) (hr4 : r ≠ 4) (hJ : J ∈ rws n) (hln : n ≤ L.length) (hl31 : L.length < 2147483648) (hc64 : cpN n (andn (alP n) (iv6 n R1) ||| andn (alP n) (iv6 n R2)) < 2 ^ 64) (hcp : andn (alP n) (cpN n (andn (alP n) (iv6 n R1) ||| andn (alP n) (iv6 n R2))) = iv6 n J) : xMet E yX0_met cX0_met 6 none 2 0 0 [.ref 0, .ref r1, .ref r2, .ref r] G (xre (fun v G' => v = none ∧ ∃ M : List Int32, M.length = L.length ∧ rwL n J M ∧ G' = G.set r (cI 1 M))) := by
  obtain ⟨hO, hN, hn0, h1n, hn6⟩ := id hv
  have hi1 := iv6_lt (by omega) hm1
  have hi2 := iv6_lt (by omega) hm2
  have hal := f_alP n (by omega)
  have ha1 : andn (alP n) (iv6 n R1) < 2 ^ 36 := Nat.lt_of_le_of_lt Nat.and_le_left hal
  have ha2 : andn (alP n) (iv6 n R2) < 2 ^ 36 := Nat.lt_of_le_of_lt Nat.and_le_left hal
  refine xMet.of (lv := [some (.ref 0), some (.ref r1), some (.ref r2), some (.ref r), none, none]) rfl rfl (Nat.le_of_ble_eq_true rfl) ?_
  refine xj_aload_n dX0_met_0 rfl rfl ?_
  refine xj_cV dX0_met_1 q620 kV_X0_allPairs (A_allPairs hv) hO rfl rfl rfl rfl (Nat.le_of_ble_eq_true rfl) ⟨(Nat.le_of_ble_eq_true rfl), (Nat.le_of_ble_eq_true rfl)⟩ (Nat.le_of_ble_eq_true rfl) (Nat.le_of_ble_eq_true rfl) ?_
  refine xj_lst4 dX0_met_4 rfl ?_
  refine xj_aload_n dX0_met_6 rfl rfl ?_
  refine xj_lload dX0_met_7 rfl ?_
  refine xj_aload_n dX0_met_9 rfl rfl ?_
  refine xj_lload dX0_met_10 rfl ?_
  refine xj_aload_n dX0_met_12 rfl rfl ?_
  refine xj_aload_n dX0_met_13 rfl rfl ?_
  refine xj_cV dX0_met_14 q604 kV_X0_swapped (A_swapped hv hL1 hR1 hm1) hO rfl rfl rfl rfl (Nat.le_of_ble_eq_true rfl) ⟨(Nat.le_of_ble_eq_true rfl), (Nat.le_of_ble_eq_true rfl)⟩ (Nat.le_of_ble_eq_true rfl) (Nat.le_of_ble_eq_true rfl) ?_
  refine xj_ldc2 dX0_met_17 q611 ?_
  refine xj_lxor dX0_met_20 ?_
  refine xj_land dX0_met_21 ?_
  rw [wb_andn (Nat.lt_trans hal (by decide)) (Nat.lt_trans hi1 (by decide))]
  refine xj_lload dX0_met_22 rfl ?_
  refine xj_aload_n dX0_met_24 rfl rfl ?_
  refine xj_aload_n dX0_met_25 rfl rfl ?_
  refine xj_cV dX0_met_26 q604 kV_X0_swapped (A_swapped hv hL2 hR2 hm2) hO rfl rfl rfl rfl (Nat.le_of_ble_eq_true rfl) ⟨(Nat.le_of_ble_eq_true rfl), (Nat.le_of_ble_eq_true rfl)⟩ (Nat.le_of_ble_eq_true rfl) (Nat.le_of_ble_eq_true rfl) ?_
  refine xj_ldc2 dX0_met_29 q611 ?_
  refine xj_lxor dX0_met_32 ?_
  refine xj_land dX0_met_33 ?_
  rw [wb_andn (Nat.lt_trans hal (by decide)) (Nat.lt_trans hi2 (by decide))]
  refine xj_lor dX0_met_34 ?_
  rw [wb_or (Nat.lt_trans ha1 (by decide)) (Nat.lt_trans ha2 (by decide))]
  refine xj_cV dX0_met_35 q624 kV_X0_closedPairs (A_closedPairs hv (Nat.or_lt_two_pow ha1 ha2)) hO rfl rfl rfl rfl (Nat.le_of_ble_eq_true rfl) ⟨(Nat.le_of_ble_eq_true rfl), (Nat.le_of_ble_eq_true rfl)⟩ (Nat.le_of_ble_eq_true rfl) (Nat.le_of_ble_eq_true rfl) ?_
  refine xj_ldc2 dX0_met_38 q611 ?_
  refine xj_lxor dX0_met_41 ?_
  refine xj_land dX0_met_42 ?_
  rw [wb_andn (Nat.lt_trans hal (by decide)) hc64, hcp]
  refine xj_aload_n dX0_met_43 rfl rfl ?_
  refine xj_dV dX0_met_44 q628 kV_X0_rowBy (A_rowBy hv hL hr0 hr4 hJ hln hl31) hO rfl rfl rfl rfl (Nat.le_of_ble_eq_true rfl) ⟨(Nat.le_of_ble_eq_true rfl), (Nat.le_of_ble_eq_true rfl)⟩ (Nat.le_of_ble_eq_true rfl) (Nat.le_of_ble_eq_true rfl) ?_
  rintro _ _ ⟨rfl, M, hM1, hM2, rfl⟩
  exact xj_return dX0_met_47 rfl ⟨rfl, M, hM1, hM2, rfl⟩
end A4
