/-! ===== the reference: stairs, lots ===== -/
set_option maxRecDepth 100000
theorem kV_X7_isStep : xsV yX7_isStep cX7_isStep 3 (some FieldType.boolean) 2 := ⟨q2481, qs135, q161, q2482, by decide, by decide, by decide +kernel⟩
section M14
variable {E : xE} {G : xH} {c : Nat → Value} {n : Nat}
theorem M_seed {x z : Int32} (hv : mV c n G) (hf1 : c 1 = .int z) : xMet E yX7_seed cX7_seed 3 (some FieldType.int) 1 0 0 [.ref 54, .int x] G (xrv (some (.int z)) (G.set 54 (cO 7 (mFs (cu c 1 (.int x)))))) := by
  obtain ⟨hO, hf0, h1n, hn6, hPw, hWy⟩ := id hv
  refine xMet.of (lv := [some (.ref 54), some (.int x), none]) rfl rfl (Nat.le_of_ble_eq_true rfl) ?_
  refine xj_aload_n dX7_seed_0 rfl rfl ?_
  refine xj_get dX7_seed_1 K7 1 (by decide) q1930 hO (congrArg some hf1) ?_
  refine xj_istn2 dX7_seed_4 rfl ?_
  refine xj_aload_n dX7_seed_5 rfl rfl ?_
  refine xj_iload_n dX7_seed_6 rfl ?_
  refine xj_put dX7_seed_7 K7 1 (by decide) q1930 rfl rfl hO (Nat.le_of_ble_eq_true rfl) ?_
  refine xj_iload_n dX7_seed_10 rfl ?_
  exact xj_ireturn dX7_seed_11 rfl rfl ⟨rfl, rfl⟩
theorem M_isStep {l : List (Int32 × Int32)} {i w : Int32} (hv : mV c n G) (hs0 : mS c l G) : xMet E yX7_isStep cX7_isStep 3 (some FieldType.boolean) 1 0 0 [.ref 54, .int i, .int w] G (xrv (some (.int (b1 (stepB l i w)))) G) := by
  obtain ⟨hO, hf0, h1n, hn6, hPw, hWy⟩ := id hv
  obtain ⟨hf36, L, h74, hSL⟩ := id hs0
  obtain ⟨hL30, hl15, hLl⟩ := id hSL
  refine xMet.of (lv := [some (.ref 54), some (.int i), some (.int w)]) rfl rfl (Nat.le_of_ble_eq_true rfl) ?_
  refine xj_iload_n dX7_isStep_0 rfl ?_
  refine xj_i2l dX7_isStep_1 ?_
  refine xj_lc0 dX7_isStep_2 ?_
  refine xj_aload_n dX7_isStep_3 rfl rfl ?_
  refine xj_get dX7_isStep_4 K7 36 (by decide) q1965 hO (congrArg some hf36) ?_
  refine xj_ic1 dX7_isStep_7 ?_
  refine xj_isub dX7_isStep_8 ?_
  refine xj_i2l dX7_isStep_9 ?_
  refine xj_cS dX7_isStep_10 q2085 kS_X7_in M_in rfl rfl (Nat.le_of_ble_eq_true rfl) ⟨(Nat.le_of_ble_eq_true rfl), (Nat.le_of_ble_eq_true rfl)⟩ (Nat.le_of_ble_eq_true rfl) (Nat.le_of_ble_eq_true rfl) ?_
  refine xj_if_eq (tgt := 30) dX7_isStep_13 rfl (fun c13 => ?_) (fun c13 => ?_)
  · refine xj_ic0 dX7_isStep_30 ?_
    exact xj_ireturn dX7_isStep_31 rfl (by rfl) (xrv_i (by unfold stepB; first | (have h1 := b1_z c13; rw [inB_inI (by omega)] at h1; rw [h1]; rfl) | (have h1 := b1_nz c13; rw [inB_inI (by omega)] at h1; have h2 := b1_z c23; rw [inB_c1] at h2; rw [h1, h2]; rfl) | (have h1 := b1_nz c13; rw [inB_inI (by omega)] at h1; have h2 := b1_nz c23; rw [inB_c1] at h2; rw [h1, h2]; rfl)))
  · refine xj_iload_n dX7_isStep_16 rfl ?_
    refine xj_i2l dX7_isStep_17 ?_
    refine xj_lc0 dX7_isStep_18 ?_
    refine xj_lc1 dX7_isStep_19 ?_
    refine xj_cS dX7_isStep_20 q2085 kS_X7_in M_in rfl rfl (Nat.le_of_ble_eq_true rfl) ⟨(Nat.le_of_ble_eq_true rfl), (Nat.le_of_ble_eq_true rfl)⟩ (Nat.le_of_ble_eq_true rfl) (Nat.le_of_ble_eq_true rfl) ?_
    refine xj_if_eq (tgt := 30) dX7_isStep_23 rfl (fun c23 => ?_) (fun c23 => ?_)
    · refine xj_ic0 dX7_isStep_30 ?_
      exact xj_ireturn dX7_isStep_31 rfl (by rfl) (xrv_i (by unfold stepB; first | (have h1 := b1_z c13; rw [inB_inI (by omega)] at h1; rw [h1]; rfl) | (have h1 := b1_nz c13; rw [inB_inI (by omega)] at h1; have h2 := b1_z c23; rw [inB_c1] at h2; rw [h1, h2]; rfl) | (have h1 := b1_nz c13; rw [inB_inI (by omega)] at h1; have h2 := b1_nz c23; rw [inB_c1] at h2; rw [h1, h2]; rfl)))
    · refine xj_ic1 dX7_isStep_26 ?_
      refine xj_goto (tgt := 31) dX7_isStep_27 rfl ?_
      exact xj_ireturn dX7_isStep_31 rfl (by rfl) (xrv_i (by unfold stepB; first | (have h1 := b1_z c13; rw [inB_inI (by omega)] at h1; rw [h1]; rfl) | (have h1 := b1_nz c13; rw [inB_inI (by omega)] at h1; have h2 := b1_z c23; rw [inB_c1] at h2; rw [h1, h2]; rfl) | (have h1 := b1_nz c13; rw [inB_inI (by omega)] at h1; have h2 := b1_nz c23; rw [inB_c1] at h2; rw [h1, h2]; rfl)))
theorem M_step {l : List (Int32 × Int32)} {i w : Int32} (hv : mV c n G) (hs0 : mS c l G) : xMet E yX7_step cX7_step 3 (some FieldType.int) 2 0 0 [.ref 54, .int i, .int w] G (xrv (some (.int (o_step l i w))) G) := by
  obtain ⟨hO, hf0, h1n, hn6, hPw, hWy⟩ := id hv
  obtain ⟨hf36, L, h74, hSL⟩ := id hs0
  obtain ⟨hL30, hl15, hLl⟩ := id hSL
  refine xMet.of (lv := [some (.ref 54), some (.int i), some (.int w)]) rfl rfl (Nat.le_of_ble_eq_true rfl) ?_
  refine xj_aload_n dX7_step_0 rfl rfl ?_
  refine xj_iload_n dX7_step_1 rfl ?_
  refine xj_iload_n dX7_step_2 rfl ?_
  refine xj_cV dX7_step_3 q2479 kV_X7_isStep (M_isStep hv hs0) hO rfl rfl rfl rfl (Nat.le_of_ble_eq_true rfl) ⟨(Nat.le_of_ble_eq_true rfl), (Nat.le_of_ble_eq_true rfl)⟩ (Nat.le_of_ble_eq_true rfl) (Nat.le_of_ble_eq_true rfl) ?_
  refine xj_if_eq (tgt := 22) dX7_step_6 rfl (fun c6 => ?_) (fun c6 => ?_)
  · refine xj_bipush (v := -9) dX7_step_22 rfl ?_
    exact xj_ireturn dX7_step_24 rfl rfl (xrv_i (by unfold o_step; first | (rw [if_pos hb1, e1]; done) | (rw [b1_z c6]; rfl)))
  · have hb1 := b1_nz c6
    obtain ⟨j, b, hj, hj31, hb2, rfl, rfl⟩ := stepB_t hb1
    have e1 : tn (nI j) = j := nI_clamp hj31
    refine xj_aload_n dX7_step_9 rfl rfl ?_
    refine xj_get dX7_step_10 K7 35 (by decide) q1964 hO rfl ?_
    refine xj_ic2 dX7_step_13 ?_
    refine xj_iload_n dX7_step_14 rfl ?_
    refine xj_imul dX7_step_15 ?_
    refine xj_iload_n dX7_step_16 rfl ?_
    refine xj_iadd dX7_step_17 ?_
    refine xj_iald dX7_step_18 h74 (nI_2k j b) (by omega) (mSL_at hSL hj hb2) ?_
    refine xj_goto (tgt := 24) dX7_step_19 rfl ?_
    exact xj_ireturn dX7_step_24 rfl rfl (xrv_i (by unfold o_step; first | (rw [if_pos hb1, e1]; done) | (rw [b1_z c6]; rfl)))
theorem M_alterStep {l : List (Int32 × Int32)} {i w v : Int32} (hv : mV c n G) (hs0 : mS c l G) : xMet E yX7_alterStep cX7_alterStep 5 (some FieldType.int) 2 0 0 [.ref 54, .int i, .int w, .int v] G (xre (fun r G' => r = some (.int (o_step l i w)) ∧ ∃ L : List Int32, mSL L (s_alter l i w v) ∧ G' = G.set 74 (cI 0 L))) := by
  obtain ⟨hO, hf0, h1n, hn6, hPw, hWy⟩ := id hv
  obtain ⟨hf36, L, h74, hSL⟩ := id hs0
  obtain ⟨hL30, hl15, hLl⟩ := id hSL
  refine xMet.of (lv := [some (.ref 54), some (.int i), some (.int w), some (.int v), none]) rfl rfl (Nat.le_of_ble_eq_true rfl) ?_
  refine xj_aload_n dX7_alterStep_0 rfl rfl ?_
  refine xj_iload_n dX7_alterStep_1 rfl ?_
  refine xj_iload_n dX7_alterStep_2 rfl ?_
  refine xj_cV dX7_alterStep_3 q2479 kV_X7_isStep (M_isStep hv hs0) hO rfl rfl rfl rfl (Nat.le_of_ble_eq_true rfl) ⟨(Nat.le_of_ble_eq_true rfl), (Nat.le_of_ble_eq_true rfl)⟩ (Nat.le_of_ble_eq_true rfl) (Nat.le_of_ble_eq_true rfl) ?_
  refine xj_if_ne (tgt := 12) dX7_alterStep_6 rfl (fun c6 => ?_) (fun c6 => ?_)
  · have hb1 := b1_nz c6
    obtain ⟨j, b, hj, hj31, hb2, rfl, rfl⟩ := stepB_t hb1
    have e1 : tn (nI j) = j := nI_clamp hj31
    refine xj_aload_n dX7_alterStep_12 rfl rfl ?_
    refine xj_get dX7_alterStep_13 K7 35 (by decide) q1964 hO rfl ?_
    refine xj_ic2 dX7_alterStep_16 ?_
    refine xj_iload_n dX7_alterStep_17 rfl ?_
    refine xj_imul dX7_alterStep_18 ?_
    refine xj_iload_n dX7_alterStep_19 rfl ?_
    refine xj_iadd dX7_alterStep_20 ?_
    refine xj_iald dX7_alterStep_21 h74 (nI_2k j b) (by omega) (mSL_at hSL hj hb2) ?_
    refine xj_ist4 dX7_alterStep_22 rfl ?_
    refine xj_aload_n dX7_alterStep_24 rfl rfl ?_
    refine xj_get dX7_alterStep_25 K7 35 (by decide) q1964 hO rfl ?_
    refine xj_ic2 dX7_alterStep_28 ?_
    refine xj_iload_n dX7_alterStep_29 rfl ?_
    refine xj_imul dX7_alterStep_30 ?_
    refine xj_iload_n dX7_alterStep_31 rfl ?_
    refine xj_iadd dX7_alterStep_32 ?_
    refine xj_iload_n dX7_alterStep_33 rfl ?_
    refine xj_iast dX7_alterStep_34 h74 (nI_2k j b) (by omega) (by omega) ?_
    refine xj_iload dX7_alterStep_35 rfl ?_
    exact xj_ireturn dX7_alterStep_37 rfl rfl ⟨by unfold o_step; rw [if_pos hb1, e1], _, by unfold s_alter; rw [if_pos hb1, e1]; exact mSL_set hSL hj hb2, rfl⟩
  · refine xj_bipush (v := -9) dX7_alterStep_9 rfl ?_
    exact xj_ireturn dX7_alterStep_11 rfl rfl ⟨by unfold o_step; rw [b1_z c6]; rfl, L, by unfold s_alter; rw [b1_z c6]; exact hSL, (gset_id h74).symm⟩
theorem M_trace {l : List Int32} {i : Int32} (hv : mV c n G) (ht : mT c l G) : xMet E yX7_trace cX7_trace 2 (some FieldType.int) 1 0 0 [.ref 54, .int i] G (xrv (some (.int (o_trace l i))) G) := by
  obtain ⟨hO, hf0, h1n, hn6, hPw, hWy⟩ := id hv
  obtain ⟨hf45, hl30, L, h82, hL30, hLl⟩ := id ht
  refine xMet.of (lv := [some (.ref 54), some (.int i)]) rfl rfl (Nat.le_of_ble_eq_true rfl) ?_
  refine xj_iload_n dX7_trace_0 rfl ?_
  refine xj_i2l dX7_trace_1 ?_
  refine xj_lc0 dX7_trace_2 ?_
  refine xj_aload_n dX7_trace_3 rfl rfl ?_
  refine xj_get dX7_trace_4 K7 45 (by decide) q1974 hO (congrArg some hf45) ?_
  refine xj_ic1 dX7_trace_7 ?_
  refine xj_isub dX7_trace_8 ?_
  refine xj_i2l dX7_trace_9 ?_
  refine xj_cS dX7_trace_10 q2085 kS_X7_in M_in rfl rfl (Nat.le_of_ble_eq_true rfl) ⟨(Nat.le_of_ble_eq_true rfl), (Nat.le_of_ble_eq_true rfl)⟩ (Nat.le_of_ble_eq_true rfl) (Nat.le_of_ble_eq_true rfl) ?_
  refine xj_if_eq (tgt := 25) dX7_trace_13 rfl (fun c13 => ?_) (fun c13 => ?_)
  · refine xj_bipush (v := -3) dX7_trace_25 rfl ?_
    exact xj_ireturn dX7_trace_27 rfl rfl (xrv_i (by unfold o_trace; first | (rw [if_pos hb1, e1]; done) | (have hb1 := b1_z c13; rw [inB_inI (by omega)] at hb1; rw [hb1]; rfl)))
  · have hb1 := b1_nz c13
    rw [inB_inI (by omega)] at hb1
    obtain ⟨j, hj, hj31, rfl⟩ := inI_t hb1
    have e1 : tn (nI j) = j := nI_clamp hj31
    have hlj : l[j]? = some (l.getD j 0) := by rw [List.getD_eq_getElem?_getD, List.getElem?_eq_getElem hj]; rfl
    refine xj_aload_n dX7_trace_16 rfl rfl ?_
    refine xj_get dX7_trace_17 K7 44 (by decide) q1973 hO rfl ?_
    refine xj_iload_n dX7_trace_20 rfl ?_
    refine xj_iald dX7_trace_21 h82 rfl hj31 (hLl j _ hlj) ?_
    refine xj_goto (tgt := 27) dX7_trace_22 rfl ?_
    exact xj_ireturn dX7_trace_27 rfl rfl (xrv_i (by unfold o_trace; first | (rw [if_pos hb1, e1]; done) | (have hb1 := b1_z c13; rw [inB_inI (by omega)] at hb1; rw [hb1]; rfl)))
end M14
