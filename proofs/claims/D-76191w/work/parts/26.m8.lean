/-! ===== the reference: questions of rows ===== -/
set_option maxRecDepth 100000
theorem kV_X7_areRows : xsV yX7_areRows cX7_areRows 3 (some FieldType.boolean) 2 := ⟨q2094, qs82, q161, q2095, by decide, by decide, by decide +kernel⟩
theorem kV_X7_isBelow : xsV yX7_isBelow cX7_isBelow 3 (some FieldType.boolean) 2 := ⟨q2106, qs85, q161, q2107, by decide, by decide, by decide +kernel⟩
theorem kV_X7_joinOf : xsV yX7_joinOf cX7_joinOf 8 (some FieldType.int) 2 := ⟨q2133, qs89, q161, q2134, by decide, by decide, by decide +kernel⟩
theorem kV_X7_meetOf : xsV yX7_meetOf cX7_meetOf 8 (some FieldType.int) 2 := ⟨q2118, qs87, q161, q2119, by decide, by decide, by decide +kernel⟩
section M8
variable {E : xE} {G : xH} {c : Nat → Value} {n : Nat}
theorem M_below {x y : Int32} (hv : mV c n G) : xMet E yX7_below cX7_below 3 (some FieldType.int) 3 0 0 [.ref 54, .int x, .int y] G (xrv (some (.int (o_below n x y))) G) := by
  obtain ⟨hO, hf0, h1n, hn6, hPw, hWy⟩ := id hv
  refine xMet.of (lv := [some (.ref 54), some (.int x), some (.int y)]) rfl rfl (Nat.le_of_ble_eq_true rfl) ?_
  refine xj_aload_n dX7_below_0 rfl rfl ?_
  refine xj_iload_n dX7_below_1 rfl ?_
  refine xj_iload_n dX7_below_2 rfl ?_
  refine xj_cV dX7_below_3 q2092 kV_X7_areRows (M_areRows hv) hO rfl rfl rfl rfl (Nat.le_of_ble_eq_true rfl) ⟨(Nat.le_of_ble_eq_true rfl), (Nat.le_of_ble_eq_true rfl)⟩ (Nat.le_of_ble_eq_true rfl) (Nat.le_of_ble_eq_true rfl) ?_
  refine xj_if_ne (tgt := 13) dX7_below_6 rfl (fun c6 => ?_) (fun c6 => ?_)
  · have hb := b1_nz c6
    obtain ⟨r1, r2, hr1, hr2, rfl, rfl⟩ := rows2 (by omega) h1n hb
    have e1 := tn_nI (by omega) hr1
    have e2 := tn_nI (by omega) hr2
    refine xj_aload_n dX7_below_13 rfl rfl ?_
    refine xj_iload_n dX7_below_14 rfl ?_
    refine xj_iload_n dX7_below_15 rfl ?_
    refine xj_cV dX7_below_16 q2104 kV_X7_isBelow (M_isBelow hv hr1 hr2) hO rfl rfl rfl rfl (Nat.le_of_ble_eq_true rfl) ⟨(Nat.le_of_ble_eq_true rfl), (Nat.le_of_ble_eq_true rfl)⟩ (Nat.le_of_ble_eq_true rfl) (Nat.le_of_ble_eq_true rfl) ?_
    refine xj_if_eq (tgt := 26) dX7_below_19 rfl (fun c19 => ?_) (fun c19 => ?_)
    · refine xj_ic0 dX7_below_26 ?_
      exact xj_ireturn dX7_below_27 rfl rfl (xrv_i (by unfold o_below; first | (rw [if_pos hb, e1, e2, b1_z c19]; rfl) | (rw [if_pos hb, e1, e2, b1_nz c19]; rfl) | (rw [b1_z c6]; rfl)))
    · refine xj_ic1 dX7_below_22 ?_
      refine xj_goto (tgt := 27) dX7_below_23 rfl ?_
      exact xj_ireturn dX7_below_27 rfl rfl (xrv_i (by unfold o_below; first | (rw [if_pos hb, e1, e2, b1_z c19]; rfl) | (rw [if_pos hb, e1, e2, b1_nz c19]; rfl) | (rw [b1_z c6]; rfl)))
  · refine xj_icm1 dX7_below_9 ?_
    refine xj_goto (tgt := 27) dX7_below_10 rfl ?_
    exact xj_ireturn dX7_below_27 rfl rfl (xrv_i (by unfold o_below; first | (rw [if_pos hb, e1, e2, b1_z c19]; rfl) | (rw [if_pos hb, e1, e2, b1_nz c19]; rfl) | (rw [b1_z c6]; rfl)))
theorem M_meet {x y : Int32} (hv : mV c n G) : xMet E yX7_meet cX7_meet 3 (some FieldType.int) 3 0 0 [.ref 54, .int x, .int y] G (xrv (some (.int (o_meet n x y))) G) := by
  obtain ⟨hO, hf0, h1n, hn6, hPw, hWy⟩ := id hv
  refine xMet.of (lv := [some (.ref 54), some (.int x), some (.int y)]) rfl rfl (Nat.le_of_ble_eq_true rfl) ?_
  refine xj_aload_n dX7_meet_0 rfl rfl ?_
  refine xj_iload_n dX7_meet_1 rfl ?_
  refine xj_iload_n dX7_meet_2 rfl ?_
  refine xj_cV dX7_meet_3 q2092 kV_X7_areRows (M_areRows hv) hO rfl rfl rfl rfl (Nat.le_of_ble_eq_true rfl) ⟨(Nat.le_of_ble_eq_true rfl), (Nat.le_of_ble_eq_true rfl)⟩ (Nat.le_of_ble_eq_true rfl) (Nat.le_of_ble_eq_true rfl) ?_
  refine xj_if_eq (tgt := 18) dX7_meet_6 rfl (fun c6 => ?_) (fun c6 => ?_)
  · refine xj_icm1 dX7_meet_18 ?_
    exact xj_ireturn dX7_meet_19 rfl rfl (xrv_i (by unfold o_meet; first | (rw [if_pos hb, e1, e2]; done) | (rw [b1_z c6]; rfl)))
  · have hb := b1_nz c6
    obtain ⟨r1, r2, hr1, hr2, rfl, rfl⟩ := rows2 (by omega) h1n hb
    have e1 := tn_nI (by omega) hr1
    have e2 := tn_nI (by omega) hr2
    refine xj_aload_n dX7_meet_9 rfl rfl ?_
    refine xj_iload_n dX7_meet_10 rfl ?_
    refine xj_iload_n dX7_meet_11 rfl ?_
    refine xj_cV dX7_meet_12 q2116 kV_X7_meetOf (M_meetOf hv hr1 hr2) hO rfl rfl rfl rfl (Nat.le_of_ble_eq_true rfl) ⟨(Nat.le_of_ble_eq_true rfl), (Nat.le_of_ble_eq_true rfl)⟩ (Nat.le_of_ble_eq_true rfl) (Nat.le_of_ble_eq_true rfl) ?_
    refine xj_goto (tgt := 19) dX7_meet_15 rfl ?_
    exact xj_ireturn dX7_meet_19 rfl rfl (xrv_i (by unfold o_meet; first | (rw [if_pos hb, e1, e2]; done) | (rw [b1_z c6]; rfl)))
theorem M_join {x y : Int32} (hv : mV c n G) : xMet E yX7_join cX7_join 3 (some FieldType.int) 3 0 0 [.ref 54, .int x, .int y] G (xrv (some (.int (o_join n x y))) G) := by
  obtain ⟨hO, hf0, h1n, hn6, hPw, hWy⟩ := id hv
  refine xMet.of (lv := [some (.ref 54), some (.int x), some (.int y)]) rfl rfl (Nat.le_of_ble_eq_true rfl) ?_
  refine xj_aload_n dX7_join_0 rfl rfl ?_
  refine xj_iload_n dX7_join_1 rfl ?_
  refine xj_iload_n dX7_join_2 rfl ?_
  refine xj_cV dX7_join_3 q2092 kV_X7_areRows (M_areRows hv) hO rfl rfl rfl rfl (Nat.le_of_ble_eq_true rfl) ⟨(Nat.le_of_ble_eq_true rfl), (Nat.le_of_ble_eq_true rfl)⟩ (Nat.le_of_ble_eq_true rfl) (Nat.le_of_ble_eq_true rfl) ?_
  refine xj_if_eq (tgt := 18) dX7_join_6 rfl (fun c6 => ?_) (fun c6 => ?_)
  · refine xj_icm1 dX7_join_18 ?_
    exact xj_ireturn dX7_join_19 rfl rfl (xrv_i (by unfold o_join; first | (rw [if_pos hb, e1, e2]; done) | (rw [b1_z c6]; rfl)))
  · have hb := b1_nz c6
    obtain ⟨r1, r2, hr1, hr2, rfl, rfl⟩ := rows2 (by omega) h1n hb
    have e1 := tn_nI (by omega) hr1
    have e2 := tn_nI (by omega) hr2
    refine xj_aload_n dX7_join_9 rfl rfl ?_
    refine xj_iload_n dX7_join_10 rfl ?_
    refine xj_iload_n dX7_join_11 rfl ?_
    refine xj_cV dX7_join_12 q2131 kV_X7_joinOf (M_joinOf hv hr1 hr2) hO rfl rfl rfl rfl (Nat.le_of_ble_eq_true rfl) ⟨(Nat.le_of_ble_eq_true rfl), (Nat.le_of_ble_eq_true rfl)⟩ (Nat.le_of_ble_eq_true rfl) (Nat.le_of_ble_eq_true rfl) ?_
    refine xj_goto (tgt := 19) dX7_join_15 rfl ?_
    exact xj_ireturn dX7_join_19 rfl rfl (xrv_i (by unfold o_join; first | (rw [if_pos hb, e1, e2]; done) | (rw [b1_z c6]; rfl)))
theorem M_diagram {x : Int32} (hv : mV c n G) (ha : mA n G) : xMet E yX7_diagram cX7_diagram 2 (some FieldType.long) 3 0 0 [.ref 54, .int x] G (xrv (some (.long (o_diagram n x))) G) := by
  obtain ⟨hO, hf0, h1n, hn6, hPw, hWy⟩ := id hv
  refine xMet.of (lv := [some (.ref 54), some (.int x)]) rfl rfl (Nat.le_of_ble_eq_true rfl) ?_
  refine xj_aload_n dX7_diagram_0 rfl rfl ?_
  refine xj_iload_n dX7_diagram_1 rfl ?_
  refine xj_cV dX7_diagram_2 q2096 kV_X7_isRow (M_isRow hv) hO rfl rfl rfl rfl (Nat.le_of_ble_eq_true rfl) ⟨(Nat.le_of_ble_eq_true rfl), (Nat.le_of_ble_eq_true rfl)⟩ (Nat.le_of_ble_eq_true rfl) (Nat.le_of_ble_eq_true rfl) ?_
  refine xj_if_eq (tgt := 16) dX7_diagram_5 rfl (fun c5 => ?_) (fun c5 => ?_)
  · refine xj_ldc2 dX7_diagram_16 q2212 ?_
    exact xj_lreturn dX7_diagram_19 rfl (xrv_l (by unfold o_diagram; first | (rw [if_pos hb, e1]; done) | (rw [b1_z c5]; rfl)))
  · have hb := b1_nz c5
    obtain ⟨r1, hr1, rfl⟩ := rowB_t (by omega) h1n hb
    have e1 := tn_nI (by omega) hr1
    refine xj_aload_n dX7_diagram_8 rfl rfl ?_
    refine xj_iload_n dX7_diagram_9 rfl ?_
    refine xj_cV dX7_diagram_10 q2200 kV_X7_diagramOf (M_diagramOf hv ha hr1) hO rfl rfl rfl rfl (Nat.le_of_ble_eq_true rfl) ⟨(Nat.le_of_ble_eq_true rfl), (Nat.le_of_ble_eq_true rfl)⟩ (Nat.le_of_ble_eq_true rfl) (Nat.le_of_ble_eq_true rfl) ?_
    refine xj_goto (tgt := 19) dX7_diagram_13 rfl ?_
    exact xj_lreturn dX7_diagram_19 rfl (xrv_l (by unfold o_diagram; first | (rw [if_pos hb, e1]; done) | (rw [b1_z c5]; rfl)))
theorem M_rowAt {x : Int32} (hv : mV c n G) : xMet E yX7_rowAt cX7_rowAt 2 (some FieldType.int) 2 0 0 [.ref 54, .int x] G (xrv (some (.int (o_rowAt n x))) G) := by
  obtain ⟨hO, hf0, h1n, hn6, hPw, hWy⟩ := id hv
  have hw30 : wy n < 2 ^ 30 := Nat.lt_trans (wy_in n (by omega)).2 (by decide)
  refine xMet.of (lv := [some (.ref 54), some (.int x)]) rfl rfl (Nat.le_of_ble_eq_true rfl) ?_
  refine xj_iload_n dX7_rowAt_0 rfl ?_
  refine xj_i2l dX7_rowAt_1 ?_
  refine xj_lc0 dX7_rowAt_2 ?_
  refine xj_aload_n dX7_rowAt_3 rfl rfl ?_
  refine xj_get dX7_rowAt_4 K7 19 (by decide) q1948 hO rfl ?_
  refine xj_aload_n dX7_rowAt_7 rfl rfl ?_
  refine xj_get dX7_rowAt_8 K7 0 (by decide) q1929 hO (congrArg some hf0) ?_
  refine xj_iald dX7_rowAt_11 hWy rfl (by omega) (wayL_at hn6) ?_
  refine xj_ic1 dX7_rowAt_12 ?_
  refine xj_isub dX7_rowAt_13 ?_
  refine xj_i2l dX7_rowAt_14 ?_
  refine xj_cS dX7_rowAt_15 q2085 kS_X7_in M_in rfl rfl (Nat.le_of_ble_eq_true rfl) ⟨(Nat.le_of_ble_eq_true rfl), (Nat.le_of_ble_eq_true rfl)⟩ (Nat.le_of_ble_eq_true rfl) (Nat.le_of_ble_eq_true rfl) ?_
  refine xj_if_eq (tgt := 29) dX7_rowAt_18 rfl (fun c18 => ?_) (fun c18 => ?_)
  · refine xj_icm1 dX7_rowAt_29 ?_
    exact xj_ireturn dX7_rowAt_30 rfl rfl (xrv_i (by unfold o_rowAt; first | (rw [if_pos hb, e1]; done) | (have hb := b1_z c18; rw [inB_inI hw30] at hb; rw [hb]; rfl)))
  · have hb := b1_nz c18
    rw [inB_inI hw30] at hb
    obtain ⟨k, hk, hk31, rfl⟩ := inI_t hb
    have e1 : tn (nI k) = k := nI_clamp hk31
    refine xj_aload_n dX7_rowAt_21 rfl rfl ?_
    refine xj_iload_n dX7_rowAt_22 rfl ?_
    refine xj_cV dX7_rowAt_23 q2120 kV_X7_rowBy (M_rowBy hv hk) hO rfl rfl rfl rfl (Nat.le_of_ble_eq_true rfl) ⟨(Nat.le_of_ble_eq_true rfl), (Nat.le_of_ble_eq_true rfl)⟩ (Nat.le_of_ble_eq_true rfl) (Nat.le_of_ble_eq_true rfl) ?_
    refine xj_goto (tgt := 30) dX7_rowAt_26 rfl ?_
    exact xj_ireturn dX7_rowAt_30 rfl rfl (xrv_i (by unfold o_rowAt; first | (rw [if_pos hb, e1]; done) | (have hb := b1_z c18; rw [inB_inI hw30] at hb; rw [hb]; rfl)))
end M8
