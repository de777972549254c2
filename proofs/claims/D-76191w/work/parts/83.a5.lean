/-! ===== the class: what is gone, rows that go ===== -/
set_option maxRecDepth 100000
theorem kV_X0_diagramOf : xsV yX0_diagramOf cX0_diagramOf 5 (some FieldType.long) 1 := ⟨q790, qs30, q151, q791, by decide, by decide, by decide +kernel⟩
theorem kV_X0_goes : xsV yX0_goes cX0_goes 4 none 2 := ⟨q1233, qs52, q151, q1234, by decide, by decide, by decide +kernel⟩
theorem kV_X0_isGone : xsV yX0_isGone cX0_isGone 2 (some FieldType.boolean) 1 := ⟨q762, qs26, q151, q763, by decide, by decide, by decide +kernel⟩
theorem kS_X0_ones : xsS yX0_ones cX0_ones 5 (some FieldType.int) 1 := ⟨q649, q151, q650, by decide, by decide, by decide +kernel⟩
theorem kV_X0_rankOf : xsV yX0_rankOf cX0_rankOf 6 (some FieldType.int) 1 := ⟨q660, qs17, q151, q661, by decide, by decide, by decide +kernel⟩
theorem kS_X0_swap : xsS yX0_swap cX0_swap 2 none 2 := ⟨q828, q151, q829, by decide, by decide, by decide +kernel⟩
section A5
variable {E : xE} {G : xH} {d e : Nat → Value} {n : Nat}
theorem A_isGone {k g : Nat}  (hv : cV d e n G) (hn3 : e 3 = .long (lN g)) (hg : g < 2 ^ 64) (hk : k < 64) : xMet E yX0_isGone cX0_isGone 2 (some FieldType.boolean) 0 0 0 [.ref 0, .int (nI k)] G (xrv (some (.int (b1 (g.testBit k)))) G) := by
  obtain ⟨hO, hN, hn0, h1n, hn6⟩ := id hv
  refine xMet.of (lv := [some (.ref 0), some (.int (nI k))]) rfl rfl (Nat.le_of_ble_eq_true rfl) ?_
  refine xj_aload_n dX0_isGone_0 rfl rfl ?_
  refine xj_get dX0_isGone_1 K0 4 (by decide) q473 hO rfl ?_
  refine xj_getN dX0_isGone_4 K3 3 (by decide) q327 hN (congrArg some hn3) ?_
  refine xj_iload_n dX0_isGone_7 rfl ?_
  refine xj_lushr dX0_isGone_8 ?_
  refine xj_lc1 dX0_isGone_9 ?_
  refine xj_land dX0_isGone_10 ?_
  refine xj_topl (x_bit hg hk) ?_
  refine xj_lc0 dX0_isGone_11 ?_
  refine xj_lcmp dX0_isGone_12 ?_
  refine xj_top (l_gt0 _) ?_
  refine xj_sI_if_le (tgt := 20) (M := 21) dX0_isGone_13 rfl (fun c13 k => by
      refine xj_ic0 dX0_isGone_20 ?_
      exact k) (fun c13 k => by
      refine xj_ic1 dX0_isGone_16 ?_
      refine xj_goto (tgt := 21) dX0_isGone_17 rfl ?_
      exact k) ?_
  exact xj_ireturn dX0_isGone_21 rfl (by rw [b1_le]; cases g.testBit k <;> rfl) (xrv_i (by rw [b1_le]; rfl))
theorem A_manyGone {g : Nat}  (hv : cV d e n G) (hn3 : e 3 = .long (lN g)) (hg : g < 2 ^ 64) : xMet E yX0_manyGone cX0_manyGone 1 (some FieldType.int) 1 0 0 [.ref 0] G (xrv (some (.int (nI (pc64 g)))) G) := by
  obtain ⟨hO, hN, hn0, h1n, hn6⟩ := id hv
  refine xMet.of (lv := [some (.ref 0)]) rfl rfl (Nat.le_of_ble_eq_true rfl) ?_
  refine xj_aload_n dX0_manyGone_0 rfl rfl ?_
  refine xj_get dX0_manyGone_1 K0 4 (by decide) q473 hO rfl ?_
  refine xj_getN dX0_manyGone_4 K3 3 (by decide) q327 hN (congrArg some hn3) ?_
  refine xj_cS dX0_manyGone_7 q648 kS_X0_ones (A_ones hg) rfl rfl (Nat.le_of_ble_eq_true rfl) ⟨(Nat.le_of_ble_eq_true rfl), (Nat.le_of_ble_eq_true rfl)⟩ (Nat.le_of_ble_eq_true rfl) (Nat.le_of_ble_eq_true rfl) ?_
  exact xj_ireturn dX0_manyGone_10 rfl rfl (xrv_i rfl)
theorem A_isLeast {r R g : Nat} {L : List Int32}  (hv : cV d e n G) (hn3 : e 3 = .long (lN g)) (hg : g < 2 ^ 64) (hL : G[r]? = some (cI 1 L)) (hR : rwL n R L) (hRm : R ∈ rws n) : xMet E yX0_isLeast cX0_isLeast 2 (some FieldType.boolean) 3 0 0 [.ref 0, .ref r] G (xrv (some (.int (b1 (lst n g R)))) G) := by
  obtain ⟨hO, hN, hn0, h1n, hn6⟩ := id hv
  have hd64 : dgm n R < 2 ^ 64 := Nat.lt_trans (dgm_lt (by omega) hRm) (by decide)
  have hda : dgm n R &&& g < 2 ^ 64 := Nat.lt_of_le_of_lt Nat.and_le_right hg
  refine xMet.of (lv := [some (.ref 0), some (.ref r)]) rfl rfl (Nat.le_of_ble_eq_true rfl) ?_
  refine xj_aload_n dX0_isLeast_0 rfl rfl ?_
  refine xj_aload_n dX0_isLeast_1 rfl rfl ?_
  refine xj_cV dX0_isLeast_2 q788 kV_X0_diagramOf (A_diagramOf hv hL hR hRm) hO rfl rfl rfl rfl (Nat.le_of_ble_eq_true rfl) ⟨(Nat.le_of_ble_eq_true rfl), (Nat.le_of_ble_eq_true rfl)⟩ (Nat.le_of_ble_eq_true rfl) (Nat.le_of_ble_eq_true rfl) ?_
  refine xj_aload_n dX0_isLeast_5 rfl rfl ?_
  refine xj_get dX0_isLeast_6 K0 4 (by decide) q473 hO rfl ?_
  refine xj_getN dX0_isLeast_9 K3 3 (by decide) q327 hN (congrArg some hn3) ?_
  refine xj_land dX0_isLeast_12 ?_
  rw [wb_and hd64 hg]
  refine xj_lc0 dX0_isLeast_13 ?_
  refine xj_lcmp dX0_isLeast_14 ?_
  refine xj_if_ne (tgt := 22) dX0_isLeast_15 rfl (fun c15 => ?_) (fun c15 => ?_)
  · refine xj_ic0 dX0_isLeast_22 ?_
    exact xj_ireturn dX0_isLeast_23 rfl rfl (xrv_i (by rw [lst_dgm]; first | (rw [decide_eq_true ((lN_0 hda).mp ((lg_cmp_eq _ _).mp c15))]; rfl) | (rw [decide_eq_false (fun q => c15 ((lg_cmp_eq _ _).mpr ((lN_0 hda).mpr q)))]; rfl)))
  · refine xj_ic1 dX0_isLeast_18 ?_
    refine xj_goto (tgt := 23) dX0_isLeast_19 rfl ?_
    exact xj_ireturn dX0_isLeast_23 rfl rfl (xrv_i (by rw [lst_dgm]; first | (rw [decide_eq_true ((lN_0 hda).mp ((lg_cmp_eq _ _).mp c15))]; rfl) | (rw [decide_eq_false (fun q => c15 ((lg_cmp_eq _ _).mpr ((lN_0 hda).mpr q)))]; rfl)))
theorem A_goes {r R g : Nat} {t : Bool} {L : List Int32}  (hv : cV d e n G) (hn3 : e 3 = .long (lN g)) (hg : g < 2 ^ 64) (hL : G[r]? = some (cI 1 L)) (hr0 : r ≠ 0) (hr4 : r ≠ 4) (hR : rwL n R L) (hRm : R ∈ rws n) (hl31 : L.length < 2147483648) : xMet E yX0_goes cX0_goes 4 none 2 0 0 [.ref 0, .ref r, .int (b1 t)] G (xre (fun v G' => v = none ∧ ∃ M : List Int32, M.length = L.length ∧ rwL n (gos n t g R) M ∧ G' = G.set r (cI 1 M))) := by
  obtain ⟨hO, hN, hn0, h1n, hn6⟩ := id hv
  have hna := na_lt n (by omega)
  refine xMet.of (lv := [some (.ref 0), some (.ref r), some (.int (b1 t)), none]) rfl rfl (Nat.le_of_ble_eq_true rfl) ?_
  refine xj_ic0 dX0_goes_0 ?_
  refine xj_istn3 dX0_goes_1 rfl ?_
  refine xj_eq rfl rfl (show G = G.set r (cI 1 L) from (gset_id hL).symm) ?_
  have lp : ∀ (K : Nat) (S : Nat) (p : Nat) (M : List Int32), gmu n t S * 10 + (n - p) < K → (p ≤ n - 1) → (S ∈ rws n) → (M.length = L.length) → (rwL n S M) → (gos n t g S = gos n t g R) → (pin n S t g (n - 1) 0 = pin n S t g (n - 1 - p) p) → xJ E (yX0_goes, cX0_goes, 4, none, []) (xR 2 0 0) (xre (fun v G' => v = none ∧ ∃ M : List Int32, M.length = L.length ∧ rwL n (gos n t g R) M ∧ G' = G.set r (cI 1 M))) 0 0 2 [some (.ref 0), some (.ref r), some (.int (b1 t)), some (.int (nI p))] [] (G.set r (cI 1 M)) := by
    intro K
    induction K with
    | zero => intro S p M h; exact absurd h (Nat.not_lt_zero _)
    | succ K ih_lp =>
      intro S p M hK hp hSm hM hS hs hpi
      have hv2 : cV d e n (G.set r (cI 1 M)) := hv.set hr0 hr4
      obtain ⟨hO2, hN2, -⟩ := id hv2
      refine xj_iload_n dX0_goes_2 rfl ?_
      refine xj_ic1 dX0_goes_3 ?_
      refine xj_iadd dX0_goes_4 ?_
      refine xj_aload_n dX0_goes_5 rfl rfl ?_
      refine xj_get dX0_goes_6 K0 4 (by decide) q473 hO2 rfl ?_
      refine xj_getN dX0_goes_9 K3 0 (by decide) q321 hN2 (congrArg some hn0) ?_
      rw [nI_1]
      refine xj_icmp_ge (tgt := 53) dX0_goes_12 rfl (fun c12 => ?_) (fun c12 => ?_)
      · exact xj_return dX0_goes_53 rfl (by have hpn : n - 1 ≤ p := (by have : n ≤ p + 1 := Nat.le_of_not_lt fun h => absurd c12 (nI_ge h (by omega)); omega); rw [pin_out hpn] at hpi; rw [gos_none hpi] at hs; exact ⟨rfl, M, hM, hs ▸ hS, rfl⟩)
      · have hpn : p < n - 1 := Nat.lt_of_not_le fun h => c12 (nI_le (by omega) (by omega))
        have hln : n ≤ M.length := hS.len h1n
        have haa := (f_aa n (by omega) S hSm p hpn).1
        refine xj_aload_n dX0_goes_15 rfl rfl ?_
        refine xj_iload_n dX0_goes_16 rfl ?_
        refine xj_cS dX0_goes_17 q655 kS_X0_isDrop (A_isDrop (gset_self hL) hS (by omega) (by omega)) rfl rfl (Nat.le_of_ble_eq_true rfl) ⟨(Nat.le_of_ble_eq_true rfl), (Nat.le_of_ble_eq_true rfl)⟩ (Nat.le_of_ble_eq_true rfl) (Nat.le_of_ble_eq_true rfl) ?_
        refine xj_iload_n dX0_goes_20 rfl ?_
        refine xj_icmp_ne (tgt := 47) dX0_goes_21 rfl (fun c21 => ?_) (fun c21 => ?_)
        · rw [pin_st hpn (by first | exact (fun q => c21 (b1_eqI.mpr q.1)) | exact (fun q => by rw [q.2] at c34; exact absurd c34 (by decide)))] at hpi
          refine xj_iinc3 (cst := 1) dX0_goes_47 rfl rfl ?_
          rw [nI_1]
          refine xj_goto (tgt := 2) dX0_goes_50 rfl ?_
          exact ih_lp S (p + 1) M (by omega) (by omega) hSm hM hS hs hpi
        · refine xj_aload_n dX0_goes_24 rfl rfl ?_
          refine xj_aload_n dX0_goes_25 rfl rfl ?_
          refine xj_aload_n dX0_goes_26 rfl rfl ?_
          refine xj_iload_n dX0_goes_27 rfl ?_
          refine xj_cV dX0_goes_28 q748 kV_X0_arcAt (A_arcAt hv2 (gset_self hL) hS hSm hpn) hO2 rfl rfl rfl rfl (Nat.le_of_ble_eq_true rfl) ⟨(Nat.le_of_ble_eq_true rfl), (Nat.le_of_ble_eq_true rfl)⟩ (Nat.le_of_ble_eq_true rfl) (Nat.le_of_ble_eq_true rfl) ?_
          refine xj_cV dX0_goes_31 q760 kV_X0_isGone (A_isGone hv2 hn3 hg (by omega)) hO2 rfl rfl rfl rfl (Nat.le_of_ble_eq_true rfl) ⟨(Nat.le_of_ble_eq_true rfl), (Nat.le_of_ble_eq_true rfl)⟩ (Nat.le_of_ble_eq_true rfl) (Nat.le_of_ble_eq_true rfl) ?_
          refine xj_if_eq (tgt := 47) dX0_goes_34 rfl (fun c34 => ?_) (fun c34 => ?_)
          · rw [pin_st hpn (by first | exact (fun q => c21 (b1_eqI.mpr q.1)) | exact (fun q => by rw [q.2] at c34; exact absurd c34 (by decide)))] at hpi
            refine xj_iinc3 (cst := 1) dX0_goes_47 rfl rfl ?_
            rw [nI_1]
            refine xj_goto (tgt := 2) dX0_goes_50 rfl ?_
            exact ih_lp S (p + 1) M (by omega) (by omega) hSm hM hS hs hpi
          · have hit := pin_hit (S := g) hpn ⟨b1_eqI.mp c21, b1_nz c34⟩
            rw [← hpi] at hit
            have hlt := gmu_step (t := t) (by omega) hSm hpn (b1_eqI.mp c21)
            rw [gos_some (by omega) hSm hit] at hs
            refine xj_aload_n dX0_goes_37 rfl rfl ?_
            refine xj_iload_n dX0_goes_38 rfl ?_
            refine xj_cS dX0_goes_39 q827 kS_X0_swap (A_swap (gset_self hL) hS hSm (by omega) (by omega) (by omega)) rfl rfl (Nat.le_of_ble_eq_true rfl) ⟨(Nat.le_of_ble_eq_true rfl), (Nat.le_of_ble_eq_true rfl)⟩ (Nat.le_of_ble_eq_true rfl) (Nat.le_of_ble_eq_true rfl) ?_
            rw [gset_set]
            refine xj_ic0 dX0_goes_42 ?_
            refine xj_istn3 dX0_goes_43 rfl ?_
            refine xj_goto (tgt := 2) dX0_goes_44 rfl ?_
            exact ih_lp _ 0 _ (by omega) (by omega) (f_sw (by omega) hSm hpn) (by rw [chL_len]; exact hM) (rwL_sw (by omega) hSm hS (by omega)) hs rfl
  exact lp 200 R 0 L (by have := gmu_lt (t := t) (by omega) hRm; omega) (by omega) hRm rfl hR rfl rfl
theorem A_toldEnd {R g : Nat} {t : Bool} {L : List Int32}  (hv : cV d e n G) (hn3 : e 3 = .long (lN g)) (hg : g < 2 ^ 64) (hL : G[11]? = some (cI 1 L)) (hR : rwL n R L) (hRm : R ∈ rws n) (hl31 : L.length < 2147483648) : xMet E yX0_toldEnd cX0_toldEnd 2 (some FieldType.int) 3 0 0 [.ref 0, .int (b1 t)] G (xre (fun v G' => v = some (.int (nI (gos n t g R))) ∧ ∃ M : List Int32, M.length = L.length ∧ rwL n (gos n t g R) M ∧ G' = G.set 11 (cI 1 M))) := by
  obtain ⟨hO, hN, hn0, h1n, hn6⟩ := id hv
  have hgm : gos n t g R ∈ rws n := gos_mem (by omega) 16 _ (gmu_lt (by omega) hRm) hRm
  refine xMet.of (lv := [some (.ref 0), some (.int (b1 t))]) rfl rfl (Nat.le_of_ble_eq_true rfl) ?_
  refine xj_aload_n dX0_toldEnd_0 rfl rfl ?_
  refine xj_aload_n dX0_toldEnd_1 rfl rfl ?_
  refine xj_get dX0_toldEnd_2 K0 8 (by decide) q477 hO rfl ?_
  refine xj_iload_n dX0_toldEnd_5 rfl ?_
  refine xj_dV dX0_toldEnd_6 q1231 kV_X0_goes (A_goes hv hn3 hg hL (by decide) (by decide) hR hRm hl31) hO rfl rfl rfl rfl (Nat.le_of_ble_eq_true rfl) ⟨(Nat.le_of_ble_eq_true rfl), (Nat.le_of_ble_eq_true rfl)⟩ (Nat.le_of_ble_eq_true rfl) (Nat.le_of_ble_eq_true rfl) ?_
  rintro _ _ ⟨rfl, M, hM1, hM2, rfl⟩
  have hv2 : cV d e n (G.set 11 (cI 1 M)) := hv.set (by decide) (by decide)
  obtain ⟨hO2, hN2, -⟩ := id hv2
  refine xj_aload_n dX0_toldEnd_9 rfl rfl ?_
  refine xj_aload_n dX0_toldEnd_10 rfl rfl ?_
  refine xj_get dX0_toldEnd_11 K0 8 (by decide) q477 hO2 rfl ?_
  refine xj_cV dX0_toldEnd_14 q632 kV_X0_told (A_told hv2 (gset_self hL) hM2 (f_tl n (by omega) _ hgm)) hO2 rfl rfl rfl rfl (Nat.le_of_ble_eq_true rfl) ⟨(Nat.le_of_ble_eq_true rfl), (Nat.le_of_ble_eq_true rfl)⟩ (Nat.le_of_ble_eq_true rfl) (Nat.le_of_ble_eq_true rfl) ?_
  exact xj_ireturn dX0_toldEnd_17 rfl rfl ⟨rfl, M, hM1, hM2, rfl⟩
theorem A_rankOfTold {R : Nat} {L : List Int32}  (hv : cV d e n G) (hL : G[16]? = some (cI 1 L)) (hln : n ≤ L.length) (hRm : R ∈ rws n) (hl31 : L.length < 2147483648) : xMet E yX0_rankOfTold cX0_rankOfTold 2 (some FieldType.int) 2 0 0 [.ref 0, .int (nI R)] G (xre (fun v G' => v = some (.int (nI (rk n R))) ∧ ∃ M : List Int32, M.length = L.length ∧ rwL n R M ∧ G' = G.set 16 (cI 1 M))) := by
  obtain ⟨hO, hN, hn0, h1n, hn6⟩ := id hv
  refine xMet.of (lv := [some (.ref 0), some (.int (nI R))]) rfl rfl (Nat.le_of_ble_eq_true rfl) ?_
  refine xj_aload_n dX0_rankOfTold_0 rfl rfl ?_
  refine xj_iload_n dX0_rankOfTold_1 rfl ?_
  refine xj_aload_n dX0_rankOfTold_2 rfl rfl ?_
  refine xj_get dX0_rankOfTold_3 K0 13 (by decide) q482 hO rfl ?_
  refine xj_dV dX0_rankOfTold_6 q596 kV_X0_read (A_read hv hL (by decide) (by decide) hln hl31) hO rfl rfl rfl rfl (Nat.le_of_ble_eq_true rfl) ⟨(Nat.le_of_ble_eq_true rfl), (Nat.le_of_ble_eq_true rfl)⟩ (Nat.le_of_ble_eq_true rfl) (Nat.le_of_ble_eq_true rfl) ?_
  rintro _ _ ⟨rfl, M, hM1, hM2, rfl⟩
  have hM2 := hM2 R hRm rfl
  have hv2 : cV d e n (G.set 16 (cI 1 M)) := hv.set (by decide) (by decide)
  obtain ⟨hO2, hN2, -⟩ := id hv2
  rw [rowB_of (by omega) hRm]
  refine xj_if_eq (tgt := 23) dX0_rankOfTold_9 rfl (fun c9 => absurd c9 (by decide)) (fun c9 => ?_)
  refine xj_aload_n dX0_rankOfTold_12 rfl rfl ?_
  refine xj_aload_n dX0_rankOfTold_13 rfl rfl ?_
  refine xj_get dX0_rankOfTold_14 K0 13 (by decide) q482 hO2 rfl ?_
  refine xj_cV dX0_rankOfTold_17 q658 kV_X0_rankOf (A_rankOf hv2 (gset_self hL) hM2 hRm) hO2 rfl rfl rfl rfl (Nat.le_of_ble_eq_true rfl) ⟨(Nat.le_of_ble_eq_true rfl), (Nat.le_of_ble_eq_true rfl)⟩ (Nat.le_of_ble_eq_true rfl) (Nat.le_of_ble_eq_true rfl) ?_
  refine xj_goto (tgt := 24) dX0_rankOfTold_20 rfl ?_
  exact xj_ireturn dX0_rankOfTold_24 rfl rfl ⟨rfl, M, hM1, hM2, rfl⟩
end A5
