/-! ===== the reference: questions, on ===== -/
set_option maxRecDepth 100000
theorem kV_X7_drops : xsV yX7_drops cX7_drops 4 (some FieldType.int) 1 := ⟨q2142, qs90, q161, q2143, by decide, by decide, by decide +kernel⟩
theorem kV_X7_greatestOf : xsV yX7_greatestOf cX7_greatestOf 2 (some FieldType.int) 1 := ⟨q2372, qs122, q161, q2373, by decide, by decide, by decide +kernel⟩
theorem kV_X7_isArc : xsV yX7_isArc cX7_isArc 2 (some FieldType.boolean) 1 := ⟨q2190, qs98, q161, q2191, by decide, by decide, by decide +kernel⟩
theorem kV_X7_isLeast : xsV yX7_isLeast cX7_isLeast 2 (some FieldType.boolean) 1 := ⟨q2384, qs124, q161, q2385, by decide, by decide, by decide +kernel⟩
theorem kV_X7_manyAlike : xsV yX7_manyAlike cX7_manyAlike 5 (some FieldType.int) 1 := ⟨q2376, qs123, q161, q2377, by decide, by decide, by decide +kernel⟩
theorem kV_X7_rank : xsV yX7_rank cX7_rank 5 (some FieldType.int) 1 := ⟨q2150, qs92, q161, q2151, by decide, by decide, by decide +kernel⟩
theorem kV_X7_turned : xsV yX7_turned cX7_turned 4 (some FieldType.int) 1 := ⟨q2154, qs93, q161, q2155, by decide, by decide, by decide +kernel⟩
theorem lN_inj {a b : Nat} (ha : a < 2 ^ 64) (hb : b < 2 ^ 64) : lN a = lN b ↔ a = b := by
  constructor
  · intro h
    have h2 := congrArg (fun x : Int64 => x.toBitVec.toNat) h
    simp only [wb_tn ha, wb_tn hb] at h2
    exact h2
  · intro h; rw [h]
section M9
variable {E : xE} {G : xH} {c : Nat → Value} {n : Nat}
theorem M_arc {x p : Int32} (hv : mV c n G) (ha : mA n G) : xMet E yX7_arc cX7_arc 3 (some FieldType.int) 2 0 0 [.ref 54, .int x, .int p] G (xrv (some (.int (o_arc n x p))) G) := by
  obtain ⟨hO, hf0, h1n, hn6, hPw, hWy⟩ := id hv
  have hn30 : n - 1 < 2 ^ 30 := by omega
  have hn12 : nI n - 2 = nI (n - 1) - 1 := by rw [← nI_sub1 h1n, Int32.sub_eq_add_neg, Int32.sub_eq_add_neg, Int32.sub_eq_add_neg, Int32.add_assoc]; rfl
  refine xMet.of (lv := [some (.ref 54), some (.int x), some (.int p)]) rfl rfl (Nat.le_of_ble_eq_true rfl) ?_
  refine xj_aload_n dX7_arc_0 rfl rfl ?_
  refine xj_iload_n dX7_arc_1 rfl ?_
  refine xj_cV dX7_arc_2 q2096 kV_X7_isRow (M_isRow hv) hO rfl rfl rfl rfl (Nat.le_of_ble_eq_true rfl) ⟨(Nat.le_of_ble_eq_true rfl), (Nat.le_of_ble_eq_true rfl)⟩ (Nat.le_of_ble_eq_true rfl) (Nat.le_of_ble_eq_true rfl) ?_
  refine xj_if_eq (tgt := 33) dX7_arc_5 rfl (fun c5 => ?_) (fun c5 => ?_)
  · refine xj_icm1 dX7_arc_33 ?_
    exact xj_ireturn dX7_arc_34 rfl rfl (xrv_i (by unfold o_arc; first | (rw [if_pos hbb, e1, e2]; done) | (rw [b1_z c5]; rfl) | (have hb2 := b1_z c21; rw [show nI n - 2 = nI (n - 1) - 1 from hn12, inB_inI hn30] at hb2; rw [hb2, Bool.and_false]; rfl)))
  · refine xj_iload_n dX7_arc_8 rfl ?_
    refine xj_i2l dX7_arc_9 ?_
    refine xj_lc0 dX7_arc_10 ?_
    refine xj_aload_n dX7_arc_11 rfl rfl ?_
    refine xj_get dX7_arc_12 K7 0 (by decide) q1929 hO (congrArg some hf0) ?_
    refine xj_ic2 dX7_arc_15 ?_
    refine xj_isub dX7_arc_16 ?_
    refine xj_i2l dX7_arc_17 ?_
    refine xj_cS dX7_arc_18 q2085 kS_X7_in M_in rfl rfl (Nat.le_of_ble_eq_true rfl) ⟨(Nat.le_of_ble_eq_true rfl), (Nat.le_of_ble_eq_true rfl)⟩ (Nat.le_of_ble_eq_true rfl) (Nat.le_of_ble_eq_true rfl) ?_
    refine xj_if_eq (tgt := 33) dX7_arc_21 rfl (fun c21 => ?_) (fun c21 => ?_)
    · refine xj_icm1 dX7_arc_33 ?_
      exact xj_ireturn dX7_arc_34 rfl rfl (xrv_i (by unfold o_arc; first | (rw [if_pos hbb, e1, e2]; done) | (rw [b1_z c5]; rfl) | (have hb2 := b1_z c21; rw [show nI n - 2 = nI (n - 1) - 1 from hn12, inB_inI hn30] at hb2; rw [hb2, Bool.and_false]; rfl)))
    · have hb1 := b1_nz c5
      have hb2 := b1_nz c21
      rw [show nI n - 2 = nI (n - 1) - 1 from hn12, inB_inI hn30] at hb2
      obtain ⟨r1, hr1, rfl⟩ := rowB_t (by omega) h1n hb1
      have e1 := tn_nI (by omega) hr1
      have hr31 := R31 (by omega) hr1
      have hbb : (rowB n (nI r1) && inI p (n - 1)) = true := by rw [hb1, hb2]; rfl
      obtain ⟨k, hk, hk31, rfl⟩ := inI_t hb2
      have e2 : tn (nI k) = k := nI_clamp hk31
      refine xj_aload_n dX7_arc_24 rfl rfl ?_
      refine xj_iload_n dX7_arc_25 rfl ?_
      refine xj_iload_n dX7_arc_26 rfl ?_
      refine xj_cV dX7_arc_27 q2180 kV_X7_arcAt (M_arcAt hv ha hr1 hk) hO rfl rfl rfl rfl (Nat.le_of_ble_eq_true rfl) ⟨(Nat.le_of_ble_eq_true rfl), (Nat.le_of_ble_eq_true rfl)⟩ (Nat.le_of_ble_eq_true rfl) (Nat.le_of_ble_eq_true rfl) ?_
      refine xj_goto (tgt := 34) dX7_arc_30 rfl ?_
      exact xj_ireturn dX7_arc_34 rfl rfl (xrv_i (by unfold o_arc; first | (rw [if_pos hbb, e1, e2]; done) | (rw [b1_z c5]; rfl) | (have hb2 := b1_z c21; rw [show nI n - 2 = nI (n - 1) - 1 from hn12, inB_inI hn30] at hb2; rw [hb2, Bool.and_false]; rfl)))
theorem M_of {x w : Int32} (hv : mV c n G) : xMet E yX7_of cX7_of 3 (some FieldType.int) 3 0 0 [.ref 54, .int x, .int w] G (xrv (some (.int (o_of n x w))) G) := by
  obtain ⟨hO, hf0, h1n, hn6, hPw, hWy⟩ := id hv
  refine xMet.of (lv := [some (.ref 54), some (.int x), some (.int w)]) rfl rfl (Nat.le_of_ble_eq_true rfl) ?_
  refine xj_aload_n dX7_of_0 rfl rfl ?_
  refine xj_iload_n dX7_of_1 rfl ?_
  refine xj_cV dX7_of_2 q2096 kV_X7_isRow (M_isRow hv) hO rfl rfl rfl rfl (Nat.le_of_ble_eq_true rfl) ⟨(Nat.le_of_ble_eq_true rfl), (Nat.le_of_ble_eq_true rfl)⟩ (Nat.le_of_ble_eq_true rfl) (Nat.le_of_ble_eq_true rfl) ?_
  refine xj_if_eq (tgt := 20) dX7_of_5 rfl (fun c5 => ?_) (fun c5 => ?_)
  · refine xj_icm1 dX7_of_20 ?_
    exact xj_ireturn dX7_of_21 rfl rfl (xrv_i (by unfold o_of; first | (rw [b1_z c5]; rfl) | (have hb2 := b1_z c17; rw [inB_c3] at hb2; rw [hb2, Bool.and_false]; rfl)))
  · refine xj_iload_n dX7_of_8 rfl ?_
    refine xj_i2l dX7_of_9 ?_
    refine xj_lc0 dX7_of_10 ?_
    refine xj_ldc2 dX7_of_11 q2139 ?_
    refine xj_cS dX7_of_14 q2085 kS_X7_in M_in rfl rfl (Nat.le_of_ble_eq_true rfl) ⟨(Nat.le_of_ble_eq_true rfl), (Nat.le_of_ble_eq_true rfl)⟩ (Nat.le_of_ble_eq_true rfl) (Nat.le_of_ble_eq_true rfl) ?_
    refine xj_if_ne (tgt := 22) dX7_of_17 rfl (fun c17 => ?_) (fun c17 => ?_)
    · have hb1 := b1_nz c5
      have hb2 := b1_nz c17
      rw [inB_c3] at hb2
      obtain ⟨r1, hr1, rfl⟩ := rowB_t (by omega) h1n hb1
      have e1 := tn_nI (by omega) hr1
      have hr31 := R31 (by omega) hr1
      have hbb : (rowB n (nI r1) && inI w 4) = true := by rw [hb1, hb2]; rfl
      have hiv := inv_lt (by omega) hr1
      refine xj_iload_n dX7_of_22 rfl ?_
      refine xj_if_ne (tgt := 38) dX7_of_23 rfl (fun c23 => ?_) (fun c23 => ?_)
      · refine xj_iload_n dX7_of_38 rfl ?_
        refine xj_ic1 dX7_of_39 ?_
        refine xj_icmp_ne (tgt := 51) dX7_of_40 rfl (fun c40 => ?_) (fun c40 => ?_)
        · refine xj_iload_n dX7_of_51 rfl ?_
          refine xj_ic2 dX7_of_52 ?_
          refine xj_icmp_ne (tgt := 64) dX7_of_53 rfl (fun c53 => ?_) (fun c53 => ?_)
          · refine xj_aload_n dX7_of_64 rfl rfl ?_
            refine xj_iload_n dX7_of_65 rfl ?_
            refine xj_cV dX7_of_66 q2152 kV_X7_turned (M_turned hv hr31) hO rfl rfl rfl rfl (Nat.le_of_ble_eq_true rfl) ⟨(Nat.le_of_ble_eq_true rfl), (Nat.le_of_ble_eq_true rfl)⟩ (Nat.le_of_ble_eq_true rfl) (Nat.le_of_ble_eq_true rfl) ?_
            exact xj_ireturn dX7_of_69 rfl rfl (xrv_i (by unfold o_of; rw [if_pos hbb, e1]; first | (rw [if_pos c23]; done) | (rw [if_neg c23, if_pos c40]; done) | (rw [if_neg c23, if_neg c40, if_pos c53]; done) | (rw [if_neg c23, if_neg c40, if_neg c53]; done)))
          · refine xj_aload_n dX7_of_56 rfl rfl ?_
            refine xj_iload_n dX7_of_57 rfl ?_
            refine xj_cV dX7_of_58 q2148 kV_X7_rank (M_rank hv hr31) hO rfl rfl rfl rfl (Nat.le_of_ble_eq_true rfl) ⟨(Nat.le_of_ble_eq_true rfl), (Nat.le_of_ble_eq_true rfl)⟩ (Nat.le_of_ble_eq_true rfl) (Nat.le_of_ble_eq_true rfl) ?_
            refine xj_goto (tgt := 69) dX7_of_61 rfl ?_
            exact xj_ireturn dX7_of_69 rfl rfl (xrv_i (by unfold o_of; rw [if_pos hbb, e1]; first | (rw [if_pos c23]; done) | (rw [if_neg c23, if_pos c40]; done) | (rw [if_neg c23, if_neg c40, if_pos c53]; done) | (rw [if_neg c23, if_neg c40, if_neg c53]; done)))
        · refine xj_aload_n dX7_of_43 rfl rfl ?_
          refine xj_iload_n dX7_of_44 rfl ?_
          refine xj_cV dX7_of_45 q2140 kV_X7_drops (M_drops hv hr31) hO rfl rfl rfl rfl (Nat.le_of_ble_eq_true rfl) ⟨(Nat.le_of_ble_eq_true rfl), (Nat.le_of_ble_eq_true rfl)⟩ (Nat.le_of_ble_eq_true rfl) (Nat.le_of_ble_eq_true rfl) ?_
          refine xj_goto (tgt := 69) dX7_of_48 rfl ?_
          exact xj_ireturn dX7_of_69 rfl rfl (xrv_i (by unfold o_of; rw [if_pos hbb, e1]; first | (rw [if_pos c23]; done) | (rw [if_neg c23, if_pos c40]; done) | (rw [if_neg c23, if_neg c40, if_pos c53]; done) | (rw [if_neg c23, if_neg c40, if_neg c53]; done)))
      · refine xj_aload_n dX7_of_26 rfl rfl ?_
        refine xj_iload_n dX7_of_27 rfl ?_
        refine xj_cV dX7_of_28 q2108 kV_X7_swapped (M_swapped hv hr1) hO rfl rfl rfl rfl (Nat.le_of_ble_eq_true rfl) ⟨(Nat.le_of_ble_eq_true rfl), (Nat.le_of_ble_eq_true rfl)⟩ (Nat.le_of_ble_eq_true rfl) (Nat.le_of_ble_eq_true rfl) ?_
        refine xj_i2l dX7_of_31 ?_
        refine xj_topl (nI_l (Nat.lt_trans hiv (by decide))) ?_
        refine xj_cS dX7_of_32 q2124 kS_X7_ones (M_ones (Nat.lt_trans hiv (by decide))) rfl rfl (Nat.le_of_ble_eq_true rfl) ⟨(Nat.le_of_ble_eq_true rfl), (Nat.le_of_ble_eq_true rfl)⟩ (Nat.le_of_ble_eq_true rfl) (Nat.le_of_ble_eq_true rfl) ?_
        refine xj_goto (tgt := 69) dX7_of_35 rfl ?_
        exact xj_ireturn dX7_of_69 rfl rfl (xrv_i (by unfold o_of; rw [if_pos hbb, e1]; first | (rw [if_pos c23]; done) | (rw [if_neg c23, if_pos c40]; done) | (rw [if_neg c23, if_neg c40, if_pos c53]; done) | (rw [if_neg c23, if_neg c40, if_neg c53]; done)))
    · refine xj_icm1 dX7_of_20 ?_
      exact xj_ireturn dX7_of_21 rfl rfl (xrv_i (by unfold o_of; first | (rw [b1_z c5]; rfl) | (have hb2 := b1_z c17; rw [inB_c3] at hb2; rw [hb2, Bool.and_false]; rfl)))
theorem M_alike {x w : Int32} {g : Nat} (hv : mV c n G) (ha : mA n G) (hf3 : c 3 = .long (lN g)) (hg : g < 2 ^ 57) : xMet E yX7_alike cX7_alike 3 (some FieldType.int) 6 0 0 [.ref 54, .int x, .int w] G (xrv (some (.int (o_alike n g x w))) G) := by
  obtain ⟨hO, hf0, h1n, hn6, hPw, hWy⟩ := id hv
  refine xMet.of (lv := [some (.ref 54), some (.int x), some (.int w)]) rfl rfl (Nat.le_of_ble_eq_true rfl) ?_
  refine xj_aload_n dX7_alike_0 rfl rfl ?_
  refine xj_iload_n dX7_alike_1 rfl ?_
  refine xj_cV dX7_alike_2 q2096 kV_X7_isRow (M_isRow hv) hO rfl rfl rfl rfl (Nat.le_of_ble_eq_true rfl) ⟨(Nat.le_of_ble_eq_true rfl), (Nat.le_of_ble_eq_true rfl)⟩ (Nat.le_of_ble_eq_true rfl) (Nat.le_of_ble_eq_true rfl) ?_
  refine xj_if_eq (tgt := 20) dX7_alike_5 rfl (fun c5 => ?_) (fun c5 => ?_)
  · refine xj_icm1 dX7_alike_20 ?_
    exact xj_ireturn dX7_alike_21 rfl rfl (xrv_i (by unfold o_alike; first | (rw [b1_z c5]; rfl) | (have hb2 := b1_z c17; rw [inB_c2] at hb2; rw [hb2, Bool.and_false]; rfl)))
  · refine xj_iload_n dX7_alike_8 rfl ?_
    refine xj_i2l dX7_alike_9 ?_
    refine xj_lc0 dX7_alike_10 ?_
    refine xj_ldc2 dX7_alike_11 q2247 ?_
    refine xj_cS dX7_alike_14 q2085 kS_X7_in M_in rfl rfl (Nat.le_of_ble_eq_true rfl) ⟨(Nat.le_of_ble_eq_true rfl), (Nat.le_of_ble_eq_true rfl)⟩ (Nat.le_of_ble_eq_true rfl) (Nat.le_of_ble_eq_true rfl) ?_
    refine xj_if_ne (tgt := 22) dX7_alike_17 rfl (fun c17 => ?_) (fun c17 => ?_)
    · have hb1 := b1_nz c5
      have hb2 := b1_nz c17
      rw [inB_c2] at hb2
      obtain ⟨r1, hr1, rfl⟩ := rowB_t (by omega) h1n hb1
      have e1 := tn_nI (by omega) hr1
      have hr31 := R31 (by omega) hr1
      have hbb : (rowB n (nI r1) && inI w 3) = true := by rw [hb1, hb2]; rfl
      refine xj_iload_n dX7_alike_22 rfl ?_
      refine xj_if_ne (tgt := 34) dX7_alike_23 rfl (fun c23 => ?_) (fun c23 => ?_)
      · refine xj_iload_n dX7_alike_34 rfl ?_
        refine xj_ic1 dX7_alike_35 ?_
        refine xj_icmp_ne (tgt := 47) dX7_alike_36 rfl (fun c36 => ?_) (fun c36 => ?_)
        · refine xj_aload_n dX7_alike_47 rfl rfl ?_
          refine xj_iload_n dX7_alike_48 rfl ?_
          refine xj_cV dX7_alike_49 q2374 kV_X7_manyAlike (M_manyAlike hv ha hf3 hg hr1) hO rfl rfl rfl rfl (Nat.le_of_ble_eq_true rfl) ⟨(Nat.le_of_ble_eq_true rfl), (Nat.le_of_ble_eq_true rfl)⟩ (Nat.le_of_ble_eq_true rfl) (Nat.le_of_ble_eq_true rfl) ?_
          exact xj_ireturn dX7_alike_52 rfl rfl (xrv_i (by unfold o_alike; rw [if_pos hbb, e1]; first | (rw [if_pos c23]; done) | (rw [if_neg c23, if_pos c36]; done) | (rw [if_neg c23, if_neg c36]; done)))
        · refine xj_aload_n dX7_alike_39 rfl rfl ?_
          refine xj_iload_n dX7_alike_40 rfl ?_
          refine xj_cV dX7_alike_41 q2370 kV_X7_greatestOf (M_greatestOf hv ha hf3 hg hr1) hO rfl rfl rfl rfl (Nat.le_of_ble_eq_true rfl) ⟨(Nat.le_of_ble_eq_true rfl), (Nat.le_of_ble_eq_true rfl)⟩ (Nat.le_of_ble_eq_true rfl) (Nat.le_of_ble_eq_true rfl) ?_
          refine xj_goto (tgt := 52) dX7_alike_44 rfl ?_
          exact xj_ireturn dX7_alike_52 rfl rfl (xrv_i (by unfold o_alike; rw [if_pos hbb, e1]; first | (rw [if_pos c23]; done) | (rw [if_neg c23, if_pos c36]; done) | (rw [if_neg c23, if_neg c36]; done)))
      · refine xj_aload_n dX7_alike_26 rfl rfl ?_
        refine xj_iload_n dX7_alike_27 rfl ?_
        refine xj_cV dX7_alike_28 q2358 kV_X7_leastOf (M_leastOf hv ha hf3 hg hr1) hO rfl rfl rfl rfl (Nat.le_of_ble_eq_true rfl) ⟨(Nat.le_of_ble_eq_true rfl), (Nat.le_of_ble_eq_true rfl)⟩ (Nat.le_of_ble_eq_true rfl) (Nat.le_of_ble_eq_true rfl) ?_
        refine xj_goto (tgt := 52) dX7_alike_31 rfl ?_
        exact xj_ireturn dX7_alike_52 rfl rfl (xrv_i (by unfold o_alike; rw [if_pos hbb, e1]; first | (rw [if_pos c23]; done) | (rw [if_neg c23, if_pos c36]; done) | (rw [if_neg c23, if_neg c36]; done)))
    · refine xj_icm1 dX7_alike_20 ?_
      exact xj_ireturn dX7_alike_21 rfl rfl (xrv_i (by unfold o_alike; first | (rw [b1_z c5]; rfl) | (have hb2 := b1_z c17; rw [inB_c2] at hb2; rw [hb2, Bool.and_false]; rfl)))
theorem M_forces {x y : Int32} (hv : mV c n G) (hf : mF c n G) : xMet E yX7_forces cX7_forces 3 (some FieldType.int) 2 0 0 [.ref 54, .int x, .int y] G (xrv (some (.int (o_forces n x y))) G) := by
  obtain ⟨hO, hf0, h1n, hn6, hPw, hWy⟩ := id hv
  obtain ⟨hf17, L4, hL4, hFo⟩ := id hf
  have hna := na_lt n (by omega)
  refine xMet.of (lv := [some (.ref 54), some (.int x), some (.int y)]) rfl rfl (Nat.le_of_ble_eq_true rfl) ?_
  refine xj_aload_n dX7_forces_0 rfl rfl ?_
  refine xj_iload_n dX7_forces_1 rfl ?_
  refine xj_cV dX7_forces_2 q2188 kV_X7_isArc (M_isArc hv hf17) hO rfl rfl rfl rfl (Nat.le_of_ble_eq_true rfl) ⟨(Nat.le_of_ble_eq_true rfl), (Nat.le_of_ble_eq_true rfl)⟩ (Nat.le_of_ble_eq_true rfl) (Nat.le_of_ble_eq_true rfl) ?_
  refine xj_if_eq (tgt := 16) dX7_forces_5 rfl (fun c5 => ?_) (fun c5 => ?_)
  · refine xj_icm1 dX7_forces_16 ?_
    refine xj_goto (tgt := 38) dX7_forces_17 rfl ?_
    exact xj_ireturn dX7_forces_38 rfl rfl (xrv_i (by unfold o_forces; first | (rw [if_pos hbb, e1, e2, b1_z c30]; rfl) | (rw [if_pos hbb, e1, e2, b1_nz c30]; rfl) | (have hb1 := b1_z c5; rw [inB_inI (na30 (by omega))] at hb1; rw [hb1]; rfl) | (have hb2 := b1_z c13; rw [inB_inI (na30 (by omega))] at hb2; rw [hb2, Bool.and_false]; rfl)))
  · refine xj_aload_n dX7_forces_8 rfl rfl ?_
    refine xj_iload_n dX7_forces_9 rfl ?_
    refine xj_cV dX7_forces_10 q2188 kV_X7_isArc (M_isArc hv hf17) hO rfl rfl rfl rfl (Nat.le_of_ble_eq_true rfl) ⟨(Nat.le_of_ble_eq_true rfl), (Nat.le_of_ble_eq_true rfl)⟩ (Nat.le_of_ble_eq_true rfl) (Nat.le_of_ble_eq_true rfl) ?_
    refine xj_if_ne (tgt := 20) dX7_forces_13 rfl (fun c13 => ?_) (fun c13 => ?_)
    · have hb1 := b1_nz c5
      have hb2 := b1_nz c13
      rw [inB_inI (na30 (by omega))] at hb1 hb2
      obtain ⟨k1, hk1, hk131, rfl⟩ := inI_t hb1
      obtain ⟨k2, hk2, hk231, rfl⟩ := inI_t hb2
      have e1 : tn (nI k1) = k1 := nI_clamp hk131
      have e2 : tn (nI k2) = k2 := nI_clamp hk231
      have hbb : (inI (nI k1) (na n) && inI (nI k2) (na n)) = true := by rw [hb1, hb2]; rfl
      refine xj_aload_n dX7_forces_20 rfl rfl ?_
      refine xj_get dX7_forces_21 K7 16 (by decide) q1945 hO rfl ?_
      refine xj_iload_n dX7_forces_24 rfl ?_
      refine xj_lald dX7_forces_25 hL4 rfl hk131 (hFo k1 hk1) ?_
      refine xj_iload_n dX7_forces_26 rfl ?_
      refine xj_cS dX7_forces_27 q1926 kS_X7_has (M_has (Nat.lt_trans (fo_lt (by omega) k1) (by decide)) (by omega)) rfl rfl (Nat.le_of_ble_eq_true rfl) ⟨(Nat.le_of_ble_eq_true rfl), (Nat.le_of_ble_eq_true rfl)⟩ (Nat.le_of_ble_eq_true rfl) (Nat.le_of_ble_eq_true rfl) ?_
      refine xj_if_eq (tgt := 37) dX7_forces_30 rfl (fun c30 => ?_) (fun c30 => ?_)
      · refine xj_ic0 dX7_forces_37 ?_
        exact xj_ireturn dX7_forces_38 rfl rfl (xrv_i (by unfold o_forces; first | (rw [if_pos hbb, e1, e2, b1_z c30]; rfl) | (rw [if_pos hbb, e1, e2, b1_nz c30]; rfl) | (have hb1 := b1_z c5; rw [inB_inI (na30 (by omega))] at hb1; rw [hb1]; rfl) | (have hb2 := b1_z c13; rw [inB_inI (na30 (by omega))] at hb2; rw [hb2, Bool.and_false]; rfl)))
      · refine xj_ic1 dX7_forces_33 ?_
        refine xj_goto (tgt := 38) dX7_forces_34 rfl ?_
        exact xj_ireturn dX7_forces_38 rfl rfl (xrv_i (by unfold o_forces; first | (rw [if_pos hbb, e1, e2, b1_z c30]; rfl) | (rw [if_pos hbb, e1, e2, b1_nz c30]; rfl) | (have hb1 := b1_z c5; rw [inB_inI (na30 (by omega))] at hb1; rw [hb1]; rfl) | (have hb2 := b1_z c13; rw [inB_inI (na30 (by omega))] at hb2; rw [hb2, Bool.and_false]; rfl)))
    · refine xj_icm1 dX7_forces_16 ?_
      refine xj_goto (tgt := 38) dX7_forces_17 rfl ?_
      exact xj_ireturn dX7_forces_38 rfl rfl (xrv_i (by unfold o_forces; first | (rw [if_pos hbb, e1, e2, b1_z c30]; rfl) | (rw [if_pos hbb, e1, e2, b1_nz c30]; rfl) | (have hb1 := b1_z c5; rw [inB_inI (na30 (by omega))] at hb1; rw [hb1]; rfl) | (have hb2 := b1_z c13; rw [inB_inI (na30 (by omega))] at hb2; rw [hb2, Bool.and_false]; rfl)))
theorem M_rowOf {S : Nat} (hv : mV c n G) (ha : mA n G) (hf17 : c 17 = .int (nI (na n))) (hS : S < 2 ^ 64) : xMet E yX7_rowOf cX7_rowOf 4 (some FieldType.int) 3 0 0 [.ref 54, .long (lN S)] G (xrv (some (.int (o_rowOf n S))) G) := by
  obtain ⟨hO, hf0, h1n, hn6, hPw, hWy⟩ := id hv
  have hna := na_lt n (by omega)
  have hw31 := wayN hn6
  refine xMet.of (lv := [some (.ref 54), some (.long (lN S)), none, none]) rfl rfl (Nat.le_of_ble_eq_true rfl) ?_
  refine xj_lload_n dX7_rowOf_0 rfl ?_
  refine xj_aload_n dX7_rowOf_1 rfl rfl ?_
  refine xj_get dX7_rowOf_2 K7 17 (by decide) q1946 hO (congrArg some hf17) ?_
  refine xj_lushr dX7_rowOf_5 ?_
  refine xj_topl (wb_shr hS (by omega)) ?_
  refine xj_lc0 dX7_rowOf_6 ?_
  refine xj_lcmp dX7_rowOf_7 ?_
  refine xj_if_eq (tgt := 13) dX7_rowOf_8 rfl (fun c8 => ?_) (fun c8 => ?_)
  · have hz : S / 2 ^ na n = 0 := (lN_inj (Nat.lt_of_le_of_lt (Nat.div_le_self _ _) hS) (by decide)).mp ((lg_cmp_eq _ _).mp c8)
    refine xj_ic0 dX7_rowOf_13 ?_
    refine xj_istn3 dX7_rowOf_14 rfl ?_
    have lp : ∀ (K : Nat) (k : Nat) (i : Nat), k < K → (i + k = wy n) → (roF n S k i = o_rowOf n S) → xJ E (yX7_rowOf, cX7_rowOf, 4, (some FieldType.int), []) (xR 3 0 0) (xrv (some (.int (o_rowOf n S))) G) 0 0 15 [some (.ref 54), some (.long (lN S)), none, some (.int (nI i))] [] G := by
      intro K
      induction K with
      | zero => intro k i h; exact absurd h (Nat.not_lt_zero _)
      | succ K ih_lp =>
        intro k i hK hk hs
        refine xj_iload_n dX7_rowOf_15 rfl ?_
        refine xj_aload_n dX7_rowOf_16 rfl rfl ?_
        refine xj_get dX7_rowOf_17 K7 19 (by decide) q1948 hO rfl ?_
        refine xj_aload_n dX7_rowOf_20 rfl rfl ?_
        refine xj_get dX7_rowOf_21 K7 0 (by decide) q1929 hO (congrArg some hf0) ?_
        refine xj_iald dX7_rowOf_24 hWy rfl (by omega) (wayL_at hn6) ?_
        refine xj_icmp_ge (tgt := 54) dX7_rowOf_25 rfl (fun c25 => ?_) (fun c25 => ?_)
        · have hk0 : k = 0 := by have := Nat.le_of_not_lt fun h => absurd c25 (nI_ge (a := i) (b := wy n) h (by omega)); omega
          subst hk0
          refine xj_bipush (v := -3) dX7_rowOf_54 rfl ?_
          exact xj_ireturn dX7_rowOf_56 rfl rfl (xrv_i hs)
        · have hin : i < wy n := Nat.lt_of_not_le fun h => c25 (nI_le h (by omega))
          have hrb := rb_mem (by omega) h1n hin
          obtain ⟨k, rfl⟩ : ∃ k0, k = k0 + 1 := ⟨k - 1, by omega⟩
          have hs : (if dgm n (rb n i) = S then nI (rb n i) else roF n S k (i + 1)) = o_rowOf n S := hs
          refine xj_aload_n dX7_rowOf_28 rfl rfl ?_
          refine xj_aload_n dX7_rowOf_29 rfl rfl ?_
          refine xj_iload_n dX7_rowOf_30 rfl ?_
          refine xj_cV dX7_rowOf_31 q2120 kV_X7_rowBy (M_rowBy hv hin) hO rfl rfl rfl rfl (Nat.le_of_ble_eq_true rfl) ⟨(Nat.le_of_ble_eq_true rfl), (Nat.le_of_ble_eq_true rfl)⟩ (Nat.le_of_ble_eq_true rfl) (Nat.le_of_ble_eq_true rfl) ?_
          refine xj_cV dX7_rowOf_34 q2200 kV_X7_diagramOf (M_diagramOf hv ha hrb) hO rfl rfl rfl rfl (Nat.le_of_ble_eq_true rfl) ⟨(Nat.le_of_ble_eq_true rfl), (Nat.le_of_ble_eq_true rfl)⟩ (Nat.le_of_ble_eq_true rfl) (Nat.le_of_ble_eq_true rfl) ?_
          refine xj_lload_n dX7_rowOf_37 rfl ?_
          refine xj_lcmp dX7_rowOf_38 ?_
          refine xj_if_ne (tgt := 48) dX7_rowOf_39 rfl (fun c39 => ?_) (fun c39 => ?_)
          · refine xj_iinc3 (cst := 1) dX7_rowOf_48 rfl rfl ?_
            rw [nI_1]
            refine xj_goto (tgt := 15) dX7_rowOf_51 rfl ?_
            exact ih_lp k (i + 1) (by omega) (by omega) (by rw [if_neg (fun q => c39 ((lg_cmp_eq _ _).mpr (by rw [q])))] at hs; exact hs)
          · rw [if_pos ((lN_inj (Nat.lt_trans (dgm_lt (by omega) hrb) (by decide)) hS).mp ((lg_cmp_eq _ _).mp c39))] at hs
            refine xj_aload_n dX7_rowOf_42 rfl rfl ?_
            refine xj_iload_n dX7_rowOf_43 rfl ?_
            refine xj_cV dX7_rowOf_44 q2120 kV_X7_rowBy (M_rowBy hv hin) hO rfl rfl rfl rfl (Nat.le_of_ble_eq_true rfl) ⟨(Nat.le_of_ble_eq_true rfl), (Nat.le_of_ble_eq_true rfl)⟩ (Nat.le_of_ble_eq_true rfl) (Nat.le_of_ble_eq_true rfl) ?_
            exact xj_ireturn dX7_rowOf_47 rfl rfl (xrv_i hs)
    exact lp (wy n + 1) (wy n) 0 (by omega) (by omega) (by unfold o_rowOf; rw [if_pos hz])
  · refine xj_icm1 dX7_rowOf_11 ?_
    exact xj_ireturn dX7_rowOf_12 rfl rfl (xrv_i (by unfold o_rowOf; rw [if_neg (fun q => c8 ((lg_cmp_eq _ _).mpr (by rw [q]; rfl)))]))
theorem M_classAt {x : Int32} {g : Nat} (hv : mV c n G) (ha : mA n G) (hf3 : c 3 = .long (lN g)) (hg : g < 2 ^ 57) : xMet E yX7_classAt cX7_classAt 5 (some FieldType.int) 4 0 0 [.ref 54, .int x] G (xrv (some (.int (caF n g (wy n) 0 x))) G) := by
  obtain ⟨hO, hf0, h1n, hn6, hPw, hWy⟩ := id hv
  have hw31 := wayN hn6
  refine xMet.of (lv := [some (.ref 54), some (.int x), none, none, none]) rfl rfl (Nat.le_of_ble_eq_true rfl) ?_
  refine xj_iload_n dX7_classAt_0 rfl ?_
  refine xj_istn2 dX7_classAt_1 rfl ?_
  refine xj_ic0 dX7_classAt_2 ?_
  refine xj_istn3 dX7_classAt_3 rfl ?_
  have lp : ∀ (K : Nat) (k : Nat) (i : Nat) (z : Int32), k < K → (i + k = wy n) → (caF n g k i z = caF n g (wy n) 0 x) → xJ E (yX7_classAt, cX7_classAt, 5, (some FieldType.int), []) (xR 4 0 0) (xrv (some (.int (caF n g (wy n) 0 x))) G) 0 0 4 [some (.ref 54), some (.int x), some (.int z), some (.int (nI i)), none] [] G := by
    intro K
    induction K with
    | zero => intro k i z h; exact absurd h (Nat.not_lt_zero _)
    | succ K ih_lp =>
      intro k i z hK hk hs
      refine xj_iload_n dX7_classAt_4 rfl ?_
      refine xj_aload_n dX7_classAt_5 rfl rfl ?_
      refine xj_get dX7_classAt_6 K7 19 (by decide) q1948 hO rfl ?_
      refine xj_aload_n dX7_classAt_9 rfl rfl ?_
      refine xj_get dX7_classAt_10 K7 0 (by decide) q1929 hO (congrArg some hf0) ?_
      refine xj_iald dX7_classAt_13 hWy rfl (by omega) (wayL_at hn6) ?_
      refine xj_icmp_ge (tgt := 53) dX7_classAt_14 rfl (fun c14 => ?_) (fun c14 => ?_)
      · refine xj_icm1 dX7_classAt_53 ?_
        exact xj_ireturn dX7_classAt_54 rfl rfl (xrv_i (by first | (rw [if_pos c18] at hs; exact hs) | (have hk0 : k = 0 := (by have := Nat.le_of_not_lt fun h => absurd c14 (nI_ge (a := i) (b := wy n) h (by omega)); omega); subst hk0; exact hs)))
      · have hin : i < wy n := Nat.lt_of_not_le fun h => c14 (nI_le h (by omega))
        have hrb := rb_mem (by omega) h1n hin
        obtain ⟨k, rfl⟩ : ∃ k0, k = k0 + 1 := ⟨k - 1, by omega⟩
        have hs : (if z < 0 then -1 else if lst n g (rb n i) then (if z = 0 then nI (rb n i) else caF n g k (i + 1) (z + -1)) else caF n g k (i + 1) z) = caF n g (wy n) 0 x := hs
        refine xj_iload_n dX7_classAt_17 rfl ?_
        refine xj_if_lt (tgt := 53) dX7_classAt_18 rfl (fun c18 => ?_) (fun c18 => ?_)
        · refine xj_icm1 dX7_classAt_53 ?_
          exact xj_ireturn dX7_classAt_54 rfl rfl (xrv_i (by first | (rw [if_pos c18] at hs; exact hs) | (have hk0 : k = 0 := (by have := Nat.le_of_not_lt fun h => absurd c14 (nI_ge (a := i) (b := wy n) h (by omega)); omega); subst hk0; exact hs)))
        · rw [if_neg c18] at hs
          refine xj_aload_n dX7_classAt_21 rfl rfl ?_
          refine xj_iload_n dX7_classAt_22 rfl ?_
          refine xj_cV dX7_classAt_23 q2120 kV_X7_rowBy (M_rowBy hv hin) hO rfl rfl rfl rfl (Nat.le_of_ble_eq_true rfl) ⟨(Nat.le_of_ble_eq_true rfl), (Nat.le_of_ble_eq_true rfl)⟩ (Nat.le_of_ble_eq_true rfl) (Nat.le_of_ble_eq_true rfl) ?_
          refine xj_ist4 dX7_classAt_26 rfl ?_
          refine xj_aload_n dX7_classAt_28 rfl rfl ?_
          refine xj_iload dX7_classAt_29 rfl ?_
          refine xj_cV dX7_classAt_31 q2382 kV_X7_isLeast (M_isLeast hv ha hf3 hg hrb) hO rfl rfl rfl rfl (Nat.le_of_ble_eq_true rfl) ⟨(Nat.le_of_ble_eq_true rfl), (Nat.le_of_ble_eq_true rfl)⟩ (Nat.le_of_ble_eq_true rfl) (Nat.le_of_ble_eq_true rfl) ?_
          refine xj_if_eq (tgt := 47) dX7_classAt_34 rfl (fun c34 => ?_) (fun c34 => ?_)
          · refine xj_iinc3 (cst := 1) dX7_classAt_47 rfl rfl ?_
            rw [nI_1]
            refine xj_goto (tgt := 4) dX7_classAt_50 rfl ?_
            first | exact xj_fg4 (ih_lp k (i + 1) _ (by omega) (by omega) hs) | exact xj_fg4 (ih_lp k (i + 1) _ (by omega) (by omega) (by rw [b1_z c34] at hs; exact hs))
          · rw [if_pos (b1_nz c34)] at hs
            refine xj_iload_n dX7_classAt_37 rfl ?_
            refine xj_if_ne (tgt := 44) dX7_classAt_38 rfl (fun c38 => ?_) (fun c38 => ?_)
            · rw [if_neg c38] at hs
              refine xj_iinc2 (cst := (-1)) dX7_classAt_44 rfl rfl ?_
              refine xj_iinc3 (cst := 1) dX7_classAt_47 rfl rfl ?_
              rw [nI_1]
              refine xj_goto (tgt := 4) dX7_classAt_50 rfl ?_
              first | exact xj_fg4 (ih_lp k (i + 1) _ (by omega) (by omega) hs) | exact xj_fg4 (ih_lp k (i + 1) _ (by omega) (by omega) (by rw [b1_z c34] at hs; exact hs))
            · rw [if_pos c38] at hs
              refine xj_iload dX7_classAt_41 rfl ?_
              exact xj_ireturn dX7_classAt_43 rfl rfl (xrv_i hs)
  exact lp (wy n + 1) (wy n) 0 x (by omega) (by omega) rfl
end M9
