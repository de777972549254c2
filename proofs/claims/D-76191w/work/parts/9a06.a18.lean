/-! ===== the class: arcs asked, what is gone ===== -/
set_option maxRecDepth 100000
theorem kV_X0_forcedBy : xsV yX0_forcedBy cX0_forcedBy 7 (some FieldType.long) 1 := ⟨q1000, qs37, q151, q1001, by decide, by decide, by decide +kernel⟩
theorem kV_X0_isArc : xsV yX0_isArc cX0_isArc 2 (some FieldType.boolean) 1 := ⟨q758, qs25, q151, q759, by decide, by decide, by decide +kernel⟩
theorem kS_X0_lowestOf : xsS yX0_lowestOf cX0_lowestOf 3 (some FieldType.int) 1 := ⟨q801, q151, q802, by decide, by decide, by decide +kernel⟩
section A18
variable {E : xE} {G : xH} {d e : Nat → Value} {n : Nat}
theorem A_isArc {x : Int32}  (hv : cV d e n G) (hA : cA d n G) : xMet E yX0_isArc cX0_isArc 2 (some FieldType.boolean) 1 0 0 [.ref 0, .int x] G (xrv (some (.int (b1 (inI x (na n))))) G) := by
  obtain ⟨hO, hN, hn0, h1n, hn6⟩ := id hv
  obtain ⟨ar, hd3, hdy, LA, hAr, hLA, hAk⟩ := id hA
  have hna := na_lt n (by omega)
  refine xMet.of (lv := [some (.ref 0), some (.int x)]) rfl rfl (Nat.le_of_ble_eq_true rfl) ?_
  refine xj_iload_n dX0_isArc_0 rfl ?_
  refine xj_ic0 dX0_isArc_1 ?_
  refine xj_aload_n dX0_isArc_2 rfl rfl ?_
  refine xj_get dX0_isArc_3 K0 3 (by decide) q471 hO (congrArg some hd3) ?_
  refine xj_alenR dX0_isArc_6 hAr rfl ?_
  rw [hLA]
  refine xj_ic1 dX0_isArc_7 ?_
  refine xj_isub dX0_isArc_8 ?_
  refine xj_cS dX0_isArc_9 q585 kS_X0_isIn A_isIn rfl rfl (Nat.le_of_ble_eq_true rfl) ⟨(Nat.le_of_ble_eq_true rfl), (Nat.le_of_ble_eq_true rfl)⟩ (Nat.le_of_ble_eq_true rfl) (Nat.le_of_ble_eq_true rfl) ?_
  exact xj_ireturn dX0_isArc_12 rfl (b1_nar _) (xrv_i (by rw [inC_inI (na30 (by omega))]))
theorem A_allArcs  (hv : cV d e n G) (hA : cA d n G) : xMet E yX0_allArcs cX0_allArcs 1 (some FieldType.long) 0 0 0 [.ref 0] G (xrv (some (.long (lN (2 ^ na n - 1)))) G) := by
  obtain ⟨hO, hN, hn0, h1n, hn6⟩ := id hv
  obtain ⟨ar, hd3, hdy, LA, hAr, hLA, hAk⟩ := id hA
  have hna := na_lt n (by omega)
  refine xMet.of (lv := [some (.ref 0)]) rfl rfl (Nat.le_of_ble_eq_true rfl) ?_
  refine xj_lc1 dX0_allArcs_0 ?_
  refine xj_aload_n dX0_allArcs_1 rfl rfl ?_
  refine xj_get dX0_allArcs_2 K0 3 (by decide) q471 hO (congrArg some hd3) ?_
  refine xj_alenR dX0_allArcs_5 hAr rfl ?_
  rw [hLA]
  refine xj_lshl dX0_allArcs_6 ?_
  refine xj_topl (l_one_shl (by omega)) ?_
  refine xj_lc1 dX0_allArcs_7 ?_
  refine xj_lsub dX0_allArcs_8 ?_
  exact xj_lreturn dX0_allArcs_9 rfl (xrv_l (by rw [show (1 : Int64) = lN 1 from rfl, show lN (2 ^ na n) - lN 1 = lN (2 ^ na n) - 1 from rfl, wb_pred (Nat.two_pow_pos _) (Nat.pow_lt_pow_right (by decide) (by omega))]))
theorem A_contract {x : Int32} {g : Nat}  (hv : cV d e n G) (hn3 : e 3 = .long (lN g)) (hg : g < 2 ^ 57) (hA : cA d n G) : xMet E yX0_contract cX0_contract 2 (some FieldType.int) 2 0 0 [.ref 0, .int x] G (xrv (some (.int (o_contract n g x))) (G.set 4 (cO 3 (oFs (cu e 3 (.long (lN (s_contract n g x)))))))) := by
  obtain ⟨hO, hN, hn0, h1n, hn6⟩ := id hv
  obtain ⟨ar, hd3, hdy, LA, hAr, hLA, hAk⟩ := id hA
  have hna := na_lt n (by omega)
  refine xMet.of (lv := [some (.ref 0), some (.int x)]) rfl rfl (Nat.le_of_ble_eq_true rfl) ?_
  refine xj_aload_n dX0_contract_0 rfl rfl ?_
  refine xj_iload_n dX0_contract_1 rfl ?_
  refine xj_cV dX0_contract_2 q756 kV_X0_isArc (A_isArc hv hA) hO rfl rfl rfl rfl (Nat.le_of_ble_eq_true rfl) ⟨(Nat.le_of_ble_eq_true rfl), (Nat.le_of_ble_eq_true rfl)⟩ (Nat.le_of_ble_eq_true rfl) (Nat.le_of_ble_eq_true rfl) ?_
  refine xj_if_ne (tgt := 10) dX0_contract_5 rfl (fun c5 => ?_) (fun c5 => ?_)
  · have hb := b1_nz c5
    obtain ⟨i, hi, hi31, rfl⟩ := inI_t hb
    have ti : tn (nI i) = i := nI_clamp hi31
    obtain ⟨a, w, hda, hLi, hGa⟩ := hAk i hi
    refine xj_aload_n dX0_contract_10 rfl rfl ?_
    refine xj_get dX0_contract_11 K0 4 (by decide) q473 hO rfl ?_
    refine xj_dup dX0_contract_14 rfl ?_
    refine xj_getN dX0_contract_15 K3 3 (by decide) q327 hN (congrArg some hn3) ?_
    refine xj_aload_n dX0_contract_18 rfl rfl ?_
    refine xj_get dX0_contract_19 K0 3 (by decide) q471 hO (congrArg some hd3) ?_
    refine xj_iload_n dX0_contract_22 rfl ?_
    refine xj_aald dX0_contract_23 hAr rfl rfl rfl (by omega) hLi ?_
    refine xj_getN dX0_contract_24 K6 10 (by decide) q425 hGa rfl ?_
    refine xj_lor dX0_contract_27 ?_
    rw [wb_or (Nat.lt_trans hg (by decide)) (Nat.lt_trans (fo_lt (by omega) i) (by decide))]
    refine xj_putN dX0_contract_28 K3 3 (by decide) q327 rfl rfl hN (Nat.le_of_ble_eq_true rfl) ?_
    have hv2 : cV d (cu e 3 (.long (lN (g ||| fo n i)))) n (G.set 4 (cO 3 (oFs (cu e 3 (.long (lN (g ||| fo n i))))))) := ⟨by rw [gset (by decide)]; exact hO, gset_self hN, hn0, h1n, hn6⟩
    have hO2 := hv2.1
    have hlt : g ||| fo n i < 2 ^ 64 := Nat.lt_trans (Nat.or_lt_two_pow hg (fo_lt (by omega) i)) (by decide)
    refine xj_aload_n dX0_contract_31 rfl rfl ?_
    refine xj_cV dX0_contract_32 q811 kV_X0_manyGone (A_manyGone hv2 rfl hlt) hO2 rfl rfl rfl rfl (Nat.le_of_ble_eq_true rfl) ⟨(Nat.le_of_ble_eq_true rfl), (Nat.le_of_ble_eq_true rfl)⟩ (Nat.le_of_ble_eq_true rfl) (Nat.le_of_ble_eq_true rfl) ?_
    exact xj_ireturn dX0_contract_35 rfl rfl ⟨by unfold o_contract; rw [if_pos hb, ti], by unfold s_contract; rw [if_pos hb, ti]; rfl⟩
  · refine xj_icm1 dX0_contract_8 ?_
    exact xj_ireturn dX0_contract_9 rfl rfl ⟨by unfold o_contract; rw [b1_z c5]; rfl, by unfold s_contract; rw [b1_z c5, if_neg (by decide), cu_id hn3]; exact (gset_id hN).symm⟩
theorem A_restore {x : Int32} {g : Nat}  (hv : cV d e n G) (hn3 : e 3 = .long (lN g)) (hg : g < 2 ^ 57) (hA : cA d n G) : xMet E yX0_restore cX0_restore 2 (some FieldType.int) 2 0 0 [.ref 0, .int x] G (xrv (some (.int (o_restore n g x))) (G.set 4 (cO 3 (oFs (cu e 3 (.long (lN (s_restore n g x)))))))) := by
  obtain ⟨hO, hN, hn0, h1n, hn6⟩ := id hv
  obtain ⟨ar, hd3, hdy, LA, hAr, hLA, hAk⟩ := id hA
  have hna := na_lt n (by omega)
  refine xMet.of (lv := [some (.ref 0), some (.int x)]) rfl rfl (Nat.le_of_ble_eq_true rfl) ?_
  refine xj_aload_n dX0_restore_0 rfl rfl ?_
  refine xj_iload_n dX0_restore_1 rfl ?_
  refine xj_cV dX0_restore_2 q756 kV_X0_isArc (A_isArc hv hA) hO rfl rfl rfl rfl (Nat.le_of_ble_eq_true rfl) ⟨(Nat.le_of_ble_eq_true rfl), (Nat.le_of_ble_eq_true rfl)⟩ (Nat.le_of_ble_eq_true rfl) (Nat.le_of_ble_eq_true rfl) ?_
  refine xj_if_ne (tgt := 10) dX0_restore_5 rfl (fun c5 => ?_) (fun c5 => ?_)
  · have hb := b1_nz c5
    obtain ⟨i, hi, hi31, rfl⟩ := inI_t hb
    have ti : tn (nI i) = i := nI_clamp hi31
    obtain ⟨a, w, hda, hLi, hGa⟩ := hAk i hi
    refine xj_aload_n dX0_restore_10 rfl rfl ?_
    refine xj_get dX0_restore_11 K0 4 (by decide) q473 hO rfl ?_
    refine xj_dup dX0_restore_14 rfl ?_
    refine xj_getN dX0_restore_15 K3 3 (by decide) q327 hN (congrArg some hn3) ?_
    refine xj_aload_n dX0_restore_18 rfl rfl ?_
    refine xj_get dX0_restore_19 K0 3 (by decide) q471 hO (congrArg some hd3) ?_
    refine xj_iload_n dX0_restore_22 rfl ?_
    refine xj_aald dX0_restore_23 hAr rfl rfl rfl (by omega) hLi ?_
    refine xj_getN dX0_restore_24 K6 11 (by decide) q426 hGa rfl ?_
    refine xj_ldc2 dX0_restore_27 q611 ?_
    refine xj_lxor dX0_restore_30 ?_
    refine xj_land dX0_restore_31 ?_
    rw [wb_andn (Nat.lt_trans hg (by decide)) (Nat.lt_trans (fcr_lt (by omega) i) (by decide))]
    refine xj_putN dX0_restore_32 K3 3 (by decide) q327 rfl rfl hN (Nat.le_of_ble_eq_true rfl) ?_
    have hv2 : cV d (cu e 3 (.long (lN (andn g (fcr n i))))) n (G.set 4 (cO 3 (oFs (cu e 3 (.long (lN (andn g (fcr n i)))))))) := ⟨by rw [gset (by decide)]; exact hO, gset_self hN, hn0, h1n, hn6⟩
    have hO2 := hv2.1
    have hlt : andn g (fcr n i) < 2 ^ 64 := Nat.lt_trans (andn_lt hg) (by decide)
    refine xj_aload_n dX0_restore_35 rfl rfl ?_
    refine xj_cV dX0_restore_36 q811 kV_X0_manyGone (A_manyGone hv2 rfl hlt) hO2 rfl rfl rfl rfl (Nat.le_of_ble_eq_true rfl) ⟨(Nat.le_of_ble_eq_true rfl), (Nat.le_of_ble_eq_true rfl)⟩ (Nat.le_of_ble_eq_true rfl) (Nat.le_of_ble_eq_true rfl) ?_
    exact xj_ireturn dX0_restore_39 rfl rfl ⟨by unfold o_restore; rw [if_pos hb, ti], by unfold s_restore; rw [if_pos hb, ti]; rfl⟩
  · refine xj_icm1 dX0_restore_8 ?_
    exact xj_ireturn dX0_restore_9 rfl rfl ⟨by unfold o_restore; rw [b1_z c5]; rfl, by unfold s_restore; rw [b1_z c5, if_neg (by decide), cu_id hn3]; exact (gset_id hN).symm⟩
theorem A_forces {x y : Int32}  (hv : cV d e n G) (hA : cA d n G) : xMet E yX0_forces cX0_forces 3 (some FieldType.int) 2 0 0 [.ref 0, .int x, .int y] G (xrv (some (.int (o_forces n x y))) G) := by
  obtain ⟨hO, hN, hn0, h1n, hn6⟩ := id hv
  obtain ⟨ar, hd3, hdy, LA, hAr, hLA, hAk⟩ := id hA
  have hna := na_lt n (by omega)
  refine xMet.of (lv := [some (.ref 0), some (.int x), some (.int y)]) rfl rfl (Nat.le_of_ble_eq_true rfl) ?_
  refine xj_aload_n dX0_forces_0 rfl rfl ?_
  refine xj_iload_n dX0_forces_1 rfl ?_
  refine xj_cV dX0_forces_2 q756 kV_X0_isArc (A_isArc hv hA) hO rfl rfl rfl rfl (Nat.le_of_ble_eq_true rfl) ⟨(Nat.le_of_ble_eq_true rfl), (Nat.le_of_ble_eq_true rfl)⟩ (Nat.le_of_ble_eq_true rfl) (Nat.le_of_ble_eq_true rfl) ?_
  refine xj_if_eq (tgt := 16) dX0_forces_5 rfl (fun c5 => ?_) (fun c5 => ?_)
  · refine xj_icm1 dX0_forces_16 ?_
    exact xj_ireturn dX0_forces_17 rfl rfl (xrv_i (by unfold o_forces; first | (rw [b1_z c5]; rfl) | (rw [b1_z c13, Bool.and_false]; rfl)))
  · refine xj_aload_n dX0_forces_8 rfl rfl ?_
    refine xj_iload_n dX0_forces_9 rfl ?_
    refine xj_cV dX0_forces_10 q756 kV_X0_isArc (A_isArc hv hA) hO rfl rfl rfl rfl (Nat.le_of_ble_eq_true rfl) ⟨(Nat.le_of_ble_eq_true rfl), (Nat.le_of_ble_eq_true rfl)⟩ (Nat.le_of_ble_eq_true rfl) (Nat.le_of_ble_eq_true rfl) ?_
    refine xj_if_ne (tgt := 18) dX0_forces_13 rfl (fun c13 => ?_) (fun c13 => ?_)
    · have hb := b1_nz c5
      have hb2 := b1_nz c13
      obtain ⟨i, hi, hi31, rfl⟩ := inI_t hb
      obtain ⟨j, hj, hj31, rfl⟩ := inI_t hb2
      have ti : tn (nI i) = i := nI_clamp hi31
      have tj : tn (nI j) = j := nI_clamp hj31
      obtain ⟨a, w, hda, hLi, hGa⟩ := hAk i hi
      refine xj_aload_n dX0_forces_18 rfl rfl ?_
      refine xj_get dX0_forces_19 K0 3 (by decide) q471 hO (congrArg some hd3) ?_
      refine xj_iload_n dX0_forces_22 rfl ?_
      refine xj_aald dX0_forces_23 hAr rfl rfl rfl (by omega) hLi ?_
      refine xj_getN dX0_forces_24 K6 10 (by decide) q425 hGa rfl ?_
      refine xj_iload_n dX0_forces_27 rfl ?_
      refine xj_lushr dX0_forces_28 ?_
      refine xj_lc1 dX0_forces_29 ?_
      refine xj_land dX0_forces_30 ?_
      refine xj_topl (x_bit (Nat.lt_trans (fo_lt (by omega) i) (by decide)) (by omega)) ?_
      refine xj_l2i dX0_forces_31 ?_
      exact xj_ireturn dX0_forces_32 rfl rfl (xrv_i (by unfold o_forces; rw [hb, hb2, ti, tj]; cases (fo n i).testBit j <;> rfl))
    · refine xj_icm1 dX0_forces_16 ?_
      exact xj_ireturn dX0_forces_17 rfl rfl (xrv_i (by unfold o_forces; first | (rw [b1_z c5]; rfl) | (rw [b1_z c13, Bool.and_false]; rfl)))
theorem A_forcedBy {S : Nat}  (hv : cV d e n G) (hA : cA d n G) (hS : S < 2 ^ na n) : xMet E yX0_forcedBy cX0_forcedBy 7 (some FieldType.long) 1 0 0 [.ref 0, .long (lN S)] G (xrv (some (.long (lN (clo n S)))) G) := by
  obtain ⟨hO, hN, hn0, h1n, hn6⟩ := id hv
  obtain ⟨ar, hd3, hdy, LA, hAr, hLA, hAk⟩ := id hA
  have hna := na_lt n (by omega)
  refine xMet.of (lv := [some (.ref 0), some (.long (lN S)), none, none, none, none, none]) rfl rfl (Nat.le_of_ble_eq_true rfl) ?_
  refine xj_lc0 dX0_forcedBy_0 ?_
  refine xj_lstn3 dX0_forcedBy_1 rfl ?_
  refine xj_lload_n dX0_forcedBy_2 rfl ?_
  refine xj_lst5 dX0_forcedBy_3 rfl ?_
  have lp : ∀ (K : Nat) (x : Nat) (s : Nat), x < K → (x < 2 ^ na n) → (s < 2 ^ 57) → (s ||| clo n x = clo n S) → xJ E (yX0_forcedBy, cX0_forcedBy, 7, (some FieldType.long), []) (xR 1 0 0) (xrv (some (.long (lN (clo n S)))) G) 0 0 5 [some (.ref 0), some (.long (lN S)), none, some (.long (lN s)), none, some (.long (lN x)), none] [] G := by
    intro K
    induction K with
    | zero => intro x s h; exact absurd h (Nat.not_lt_zero _)
    | succ K ih_lp =>
      intro x s hK hx hs57 hs
      have hx64 : x < 2 ^ 64 := Nat.lt_of_lt_of_le hx (Nat.pow_le_pow_right (by decide) (by omega))
      refine xj_lload dX0_forcedBy_5 rfl ?_
      refine xj_lc0 dX0_forcedBy_7 ?_
      refine xj_lcmp dX0_forcedBy_8 ?_
      refine xj_if_eq (tgt := 40) dX0_forcedBy_9 rfl (fun c9 => ?_) (fun c9 => ?_)
      · refine xj_lload_n dX0_forcedBy_40 rfl ?_
        exact xj_lreturn dX0_forcedBy_41 rfl (xrv_l (by have hx0 : x = 0 := (lN_0 hx64).mp ((lg_cmp_eq _ _).mp c9); rw [hx0, clo_0, Nat.or_zero] at hs; rw [hs]))
      · have hx0 : 0 < x := Nat.pos_of_ne_zero fun h => c9 ((lg_cmp_eq _ _).mpr (by rw [h]; rfl))
        have hlt := and_pred_lt hx0
        obtain ⟨l1, l2, l3⟩ := lwb_ok hx0 hx64
        have hln : lwb x < na n := bit_lt hx l2
        obtain ⟨a, w, hda, hLi, hGa⟩ := hAk (lwb x) hln
        have hst := clo_step hln l2 l3
        refine xj_lload_n dX0_forcedBy_12 rfl ?_
        refine xj_aload_n dX0_forcedBy_13 rfl rfl ?_
        refine xj_get dX0_forcedBy_14 K0 3 (by decide) q471 hO (congrArg some hd3) ?_
        refine xj_lload dX0_forcedBy_17 rfl ?_
        refine xj_cS dX0_forcedBy_19 q800 kS_X0_lowestOf (A_lowestOf hx0 hx64) rfl rfl (Nat.le_of_ble_eq_true rfl) ⟨(Nat.le_of_ble_eq_true rfl), (Nat.le_of_ble_eq_true rfl)⟩ (Nat.le_of_ble_eq_true rfl) (Nat.le_of_ble_eq_true rfl) ?_
        refine xj_aald dX0_forcedBy_22 hAr rfl rfl rfl (by omega) hLi ?_
        refine xj_getN dX0_forcedBy_23 K6 10 (by decide) q425 hGa rfl ?_
        refine xj_lor dX0_forcedBy_26 ?_
        rw [wb_or (Nat.lt_trans hs57 (by decide)) (Nat.lt_trans (fo_lt (by omega) _) (by decide))]
        refine xj_lstn3 dX0_forcedBy_27 rfl ?_
        refine xj_lload dX0_forcedBy_28 rfl ?_
        refine xj_lload dX0_forcedBy_30 rfl ?_
        refine xj_lc1 dX0_forcedBy_32 ?_
        refine xj_lsub dX0_forcedBy_33 ?_
        rw [wb_pred hx0 hx64]
        refine xj_land dX0_forcedBy_34 ?_
        rw [wb_and hx64 (by omega)]
        refine xj_lst5 dX0_forcedBy_35 rfl ?_
        refine xj_goto (tgt := 5) dX0_forcedBy_37 rfl ?_
        exact ih_lp _ _ (by omega) (Nat.lt_trans hlt hx) (Nat.or_lt_two_pow hs57 (fo_lt (by omega) _)) (by rw [Nat.or_assoc, ← hst]; exact hs)
  exact lp (S + 1) S 0 (by omega) hS (by decide) (Nat.zero_or _)
theorem A_comes {S g : Nat} {w : Int32}  (hv : cV d e n G) (hn3 : e 3 = .long (lN g)) (hg : g < 2 ^ 57) (hA : cA d n G) (hS : S < 2 ^ na n) : xMet E yX0_comes cX0_comes 6 (some FieldType.int) 2 0 0 [.ref 0, .long (lN S), .int w] G (xrv (some (.int (nI (pc64 (s_comes n g S w))))) (G.set 4 (cO 3 (oFs (cu e 3 (.long (lN (s_comes n g S w)))))))) := by
  obtain ⟨hO, hN, hn0, h1n, hn6⟩ := id hv
  obtain ⟨ar, hd3, hdy, LA, hAr, hLA, hAk⟩ := id hA
  have hna := na_lt n (by omega)
  refine xMet.of (lv := [some (.ref 0), some (.long (lN S)), none, some (.int w), none, none]) rfl rfl (Nat.le_of_ble_eq_true rfl) ?_
  refine xj_aload_n dX0_comes_0 rfl rfl ?_
  refine xj_lload_n dX0_comes_1 rfl ?_
  refine xj_cV dX0_comes_2 q998 kV_X0_forcedBy (A_forcedBy hv hA hS) hO rfl rfl rfl rfl (Nat.le_of_ble_eq_true rfl) ⟨(Nat.le_of_ble_eq_true rfl), (Nat.le_of_ble_eq_true rfl)⟩ (Nat.le_of_ble_eq_true rfl) (Nat.le_of_ble_eq_true rfl) ?_
  refine xj_lst4 dX0_comes_5 rfl ?_
  refine xj_aload_n dX0_comes_7 rfl rfl ?_
  refine xj_get dX0_comes_8 K0 4 (by decide) q473 hO rfl ?_
  refine xj_iload_n dX0_comes_11 rfl ?_
  refine xj_if_ne (tgt := 20) dX0_comes_12 rfl (fun c12 => ?_) (fun c12 => ?_)
  · refine xj_iload_n dX0_comes_20 rfl ?_
    refine xj_ic1 dX0_comes_21 ?_
    refine xj_icmp_ne (tgt := 38) dX0_comes_22 rfl (fun c22 => ?_) (fun c22 => ?_)
    · have hsc : g &&& clo n S = s_comes n g S w := by unfold s_comes; rw [if_neg c12, if_neg c22]
      refine xj_aload_n dX0_comes_38 rfl rfl ?_
      refine xj_get dX0_comes_39 K0 4 (by decide) q473 hO rfl ?_
      refine xj_getN dX0_comes_42 K3 3 (by decide) q327 hN (congrArg some hn3) ?_
      refine xj_lload dX0_comes_45 rfl ?_
      refine xj_land dX0_comes_47 ?_
      try rw [wb_and (Nat.lt_trans hg (by decide)) (Nat.lt_trans (clo_lt (by omega) S) (by decide))]
      rw [hsc]
      refine xj_putN dX0_comes_48 K3 3 (by decide) q327 rfl rfl hN (Nat.le_of_ble_eq_true rfl) ?_
      have hv2 : cV d (cu e 3 (.long (lN (s_comes n g S w)))) n (G.set 4 (cO 3 (oFs (cu e 3 (.long (lN (s_comes n g S w))))))) := ⟨by rw [gset (by decide)]; exact hO, gset_self hN, hn0, h1n, hn6⟩
      have hO2 := hv2.1
      refine xj_aload_n dX0_comes_51 rfl rfl ?_
      refine xj_cV dX0_comes_52 q811 kV_X0_manyGone (A_manyGone hv2 rfl (Nat.lt_trans (s_comes_lt (by omega) hg) (by decide))) hO2 rfl rfl rfl rfl (Nat.le_of_ble_eq_true rfl) ⟨(Nat.le_of_ble_eq_true rfl), (Nat.le_of_ble_eq_true rfl)⟩ (Nat.le_of_ble_eq_true rfl) (Nat.le_of_ble_eq_true rfl) ?_
      exact xj_ireturn dX0_comes_55 rfl rfl ⟨rfl, rfl⟩
    · have hsc : g ||| clo n S = s_comes n g S w := by unfold s_comes; rw [if_neg c12, if_pos c22]
      refine xj_aload_n dX0_comes_25 rfl rfl ?_
      refine xj_get dX0_comes_26 K0 4 (by decide) q473 hO rfl ?_
      refine xj_getN dX0_comes_29 K3 3 (by decide) q327 hN (congrArg some hn3) ?_
      refine xj_lload dX0_comes_32 rfl ?_
      refine xj_lor dX0_comes_34 ?_
      rw [wb_or (Nat.lt_trans hg (by decide)) (Nat.lt_trans (clo_lt (by omega) S) (by decide))]
      refine xj_goto (tgt := 48) dX0_comes_35 rfl ?_
      try rw [wb_and (Nat.lt_trans hg (by decide)) (Nat.lt_trans (clo_lt (by omega) S) (by decide))]
      rw [hsc]
      refine xj_putN dX0_comes_48 K3 3 (by decide) q327 rfl rfl hN (Nat.le_of_ble_eq_true rfl) ?_
      have hv2 : cV d (cu e 3 (.long (lN (s_comes n g S w)))) n (G.set 4 (cO 3 (oFs (cu e 3 (.long (lN (s_comes n g S w))))))) := ⟨by rw [gset (by decide)]; exact hO, gset_self hN, hn0, h1n, hn6⟩
      have hO2 := hv2.1
      refine xj_aload_n dX0_comes_51 rfl rfl ?_
      refine xj_cV dX0_comes_52 q811 kV_X0_manyGone (A_manyGone hv2 rfl (Nat.lt_trans (s_comes_lt (by omega) hg) (by decide))) hO2 rfl rfl rfl rfl (Nat.le_of_ble_eq_true rfl) ⟨(Nat.le_of_ble_eq_true rfl), (Nat.le_of_ble_eq_true rfl)⟩ (Nat.le_of_ble_eq_true rfl) (Nat.le_of_ble_eq_true rfl) ?_
      exact xj_ireturn dX0_comes_55 rfl rfl ⟨rfl, rfl⟩
  · have hsc : clo n S = s_comes n g S w := by unfold s_comes; rw [if_pos c12]
    refine xj_lload dX0_comes_15 rfl ?_
    refine xj_goto (tgt := 48) dX0_comes_17 rfl ?_
    try rw [wb_and (Nat.lt_trans hg (by decide)) (Nat.lt_trans (clo_lt (by omega) S) (by decide))]
    rw [hsc]
    refine xj_putN dX0_comes_48 K3 3 (by decide) q327 rfl rfl hN (Nat.le_of_ble_eq_true rfl) ?_
    have hv2 : cV d (cu e 3 (.long (lN (s_comes n g S w)))) n (G.set 4 (cO 3 (oFs (cu e 3 (.long (lN (s_comes n g S w))))))) := ⟨by rw [gset (by decide)]; exact hO, gset_self hN, hn0, h1n, hn6⟩
    have hO2 := hv2.1
    refine xj_aload_n dX0_comes_51 rfl rfl ?_
    refine xj_cV dX0_comes_52 q811 kV_X0_manyGone (A_manyGone hv2 rfl (Nat.lt_trans (s_comes_lt (by omega) hg) (by decide))) hO2 rfl rfl rfl rfl (Nat.le_of_ble_eq_true rfl) ⟨(Nat.le_of_ble_eq_true rfl), (Nat.le_of_ble_eq_true rfl)⟩ (Nat.le_of_ble_eq_true rfl) (Nat.le_of_ble_eq_true rfl) ?_
    exact xj_ireturn dX0_comes_55 rfl rfl ⟨rfl, rfl⟩
theorem A_stepsUp {r r2 R T : Nat} {L L2 : List Int32}  (hv : cV d e n G) (hL : G[r]? = some (cI 1 L)) (hr0 : r ≠ 0) (hr4 : r ≠ 4) (hR : rwL n R L) (hRm : R ∈ rws n) (hL2 : G[r2]? = some (cI 1 L2)) (hR2 : rwL n T L2) (hT : T ∈ rws n) (hrr : r ≠ r2) (hl31 : L.length < 2147483648) (hsub : subB n R T = true) (hne : R ≠ T) : xMet E yX0_stepsUp cX0_stepsUp 4 (some FieldType.int) 3 0 0 [.ref 0, .ref r, .ref r2] G (xre (fun v_ G' => v_ = some (.int (nI (aa n R (upP n R T)))) ∧ ∃ M : List Int32, M.length = L.length ∧ rwL n (sw n R (upP n R T)) M ∧ G' = G.set r (cI 1 M))) := by
  obtain ⟨hO, hN, hn0, h1n, hn6⟩ := id hv
  have hok := upP_ok (by omega) hRm hT hsub hne
  have hok1 := hok.1
  refine xMet.of (lv := [some (.ref 0), some (.ref r), some (.ref r2), none]) rfl rfl (Nat.le_of_ble_eq_true rfl) ?_
  refine xj_ic0 dX0_stepsUp_0 ?_
  refine xj_istn3 dX0_stepsUp_1 rfl ?_
  refine xj_eq rfl rfl (show G = G.set r (cI 1 L) from (gset_id hL).symm) ?_
  have lp : ∀ (K : Nat) (p : Nat) (M : List Int32), n - p < K → (p < n - 1) → (M.length = L.length) → (rwL n R M) → (upL n R T (n - 1 - p) p = (upP n R T)) → xJ E (yX0_stepsUp, cX0_stepsUp, 4, (some FieldType.int), []) (xR 3 0 0) (xre (fun v_ G' => v_ = some (.int (nI (aa n R (upP n R T)))) ∧ ∃ M : List Int32, M.length = L.length ∧ rwL n (sw n R (upP n R T)) M ∧ G' = G.set r (cI 1 M))) 0 0 2 [some (.ref 0), some (.ref r), some (.ref r2), some (.int (nI p))] [] (G.set r (cI 1 M)) := by
    intro K
    induction K with
    | zero => intro p M h; exact absurd h (Nat.not_lt_zero _)
    | succ K ih_lp =>
      intro p M hK hp hM hMR hs
      have hM0 : (G.set r (cI 1 M))[r]? = some (cI 1 M) := gset_self hL
      obtain ⟨e1, e2⟩ := f_sws (by omega) hRm hp
      have hsm := f_sw (by omega) hRm hp
      have hS1 := rwL_sw (by omega) hRm hMR (show p + 1 < n by omega)
      refine xj_aload_n dX0_stepsUp_2 rfl rfl ?_
      refine xj_iload_n dX0_stepsUp_3 rfl ?_
      refine xj_cS dX0_stepsUp_4 q655 kS_X0_isDrop (A_isDrop hM0 hMR (by omega) (by omega)) rfl rfl (Nat.le_of_ble_eq_true rfl) ⟨(Nat.le_of_ble_eq_true rfl), (Nat.le_of_ble_eq_true rfl)⟩ (Nat.le_of_ble_eq_true rfl) (Nat.le_of_ble_eq_true rfl) ?_
      refine xj_if_ne (tgt := 36) dX0_stepsUp_7 rfl (fun c7 => ?_) (fun c7 => ?_)
      · obtain ⟨hs2, hp2⟩ := upL_st hp (by first | exact fun h => absurd h.2 (by rw [b1_z c21]; decide) | exact fun h => c7 (by rw [h.1]; rfl)) hs hok.1
        refine xj_iinc3 (cst := 1) dX0_stepsUp_36 rfl rfl ?_
        rw [nI_1]
        refine xj_goto (tgt := 2) dX0_stepsUp_39 rfl ?_
        first | exact ih_lp (p + 1) M (by omega) hp2 hM hMR hs2 | (rw [gset_set]; exact ih_lp (p + 1) _ (by omega) hp2 (by rw [chL_len, chL_len]; exact hM) hS2 hs2)
      · refine xj_aload_n dX0_stepsUp_10 rfl rfl ?_
        refine xj_iload_n dX0_stepsUp_11 rfl ?_
        refine xj_cS dX0_stepsUp_12 q827 kS_X0_swap (A_swap hM0 hMR hRm (by omega) (by omega) (by omega)) rfl rfl (Nat.le_of_ble_eq_true rfl) ⟨(Nat.le_of_ble_eq_true rfl), (Nat.le_of_ble_eq_true rfl)⟩ (Nat.le_of_ble_eq_true rfl) (Nat.le_of_ble_eq_true rfl) ?_
        rw [gset_set]
        have hv3 : cV d e n (G.set r (cI 1 (chL M p (p + 1)))) := hv.set hr0 hr4
        have hO3 := hv3.1
        have k1 : (G.set r (cI 1 (chL M p (p + 1))))[r]? = some (cI 1 (chL M p (p + 1))) := gset_self hL
        have k2 : (G.set r (cI 1 (chL M p (p + 1))))[r2]? = some (cI 1 L2) := by rw [gset hrr]; exact hL2
        refine xj_aload_n dX0_stepsUp_15 rfl rfl ?_
        refine xj_aload_n dX0_stepsUp_16 rfl rfl ?_
        refine xj_aload_n dX0_stepsUp_17 rfl rfl ?_
        refine xj_cV dX0_stepsUp_18 q600 kV_X0_isBelow (A_isBelow hv3 k1 hS1 hsm k2 hR2 hT) hO3 rfl rfl rfl rfl (Nat.le_of_ble_eq_true rfl) ⟨(Nat.le_of_ble_eq_true rfl), (Nat.le_of_ble_eq_true rfl)⟩ (Nat.le_of_ble_eq_true rfl) (Nat.le_of_ble_eq_true rfl) ?_
        rw [sub6_subB (by omega) hsm hT]
        refine xj_if_eq (tgt := 31) dX0_stepsUp_21 rfl (fun c21 => ?_) (fun c21 => ?_)
        · have hS2 := rwL_sw (by omega) hsm hS1 (show p + 1 < n by omega)
          rw [e1] at hS2
          refine xj_aload_n dX0_stepsUp_31 rfl rfl ?_
          refine xj_iload_n dX0_stepsUp_32 rfl ?_
          refine xj_cS dX0_stepsUp_33 q827 kS_X0_swap (A_swap k1 hS1 hsm (by omega) (by rw [chL_len]; omega) (by omega)) rfl rfl (Nat.le_of_ble_eq_true rfl) ⟨(Nat.le_of_ble_eq_true rfl), (Nat.le_of_ble_eq_true rfl)⟩ (Nat.le_of_ble_eq_true rfl) (Nat.le_of_ble_eq_true rfl) ?_
          obtain ⟨hs2, hp2⟩ := upL_st hp (by first | exact fun h => absurd h.2 (by rw [b1_z c21]; decide) | exact fun h => c7 (by rw [h.1]; rfl)) hs hok.1
          refine xj_iinc3 (cst := 1) dX0_stepsUp_36 rfl rfl ?_
          rw [nI_1]
          refine xj_goto (tgt := 2) dX0_stepsUp_39 rfl ?_
          first | exact ih_lp (p + 1) M (by omega) hp2 hM hMR hs2 | (rw [gset_set]; exact ih_lp (p + 1) _ (by omega) hp2 (by rw [chL_len, chL_len]; exact hM) hS2 hs2)
        · have hup := upL_hit hp ⟨b1_z c7, b1_nz c21⟩ hs
          refine xj_aload_n dX0_stepsUp_24 rfl rfl ?_
          refine xj_aload_n dX0_stepsUp_25 rfl rfl ?_
          refine xj_iload_n dX0_stepsUp_26 rfl ?_
          refine xj_cV dX0_stepsUp_27 q748 kV_X0_arcAt (A_arcAt hv3 k1 hS1 hsm (by omega)) hO3 rfl rfl rfl rfl (Nat.le_of_ble_eq_true rfl) ⟨(Nat.le_of_ble_eq_true rfl), (Nat.le_of_ble_eq_true rfl)⟩ (Nat.le_of_ble_eq_true rfl) (Nat.le_of_ble_eq_true rfl) ?_
          exact xj_ireturn dX0_stepsUp_30 rfl rfl (by rw [hup, ← e2]; exact ⟨rfl, _, by rw [chL_len]; exact hM, hS1, rfl⟩)
  exact lp (n + 1) 0 L (by omega) (by omega) rfl hR rfl
end A18
