/-! ===== the reference: questions, on (2) ===== -/
set_option maxRecDepth 100000
theorem kV_X7_forcers : xsV yX7_forcers cX7_forcers 5 (some FieldType.long) 1 := ⟨q2194, qs99, q161, q2195, by decide, by decide, by decide +kernel⟩
theorem kV_X7_jumped : xsV yX7_jumped cX7_jumped 10 (some FieldType.int) 3 := ⟨q2166, qs94, q161, q2167, by decide, by decide, by decide +kernel⟩
theorem kV_X7_leastWith : xsV yX7_leastWith cX7_leastWith 6 (some FieldType.int) 1 := ⟨q2198, qs100, q161, q2199, by decide, by decide, by decide +kernel⟩
theorem kV_X7_placeOf : xsV yX7_placeOf cX7_placeOf 4 (some FieldType.int) 2 := ⟨q2170, qs95, q161, q2171, by decide, by decide, by decide +kernel⟩
theorem kV_X7_turnsTo : xsV yX7_turnsTo cX7_turnsTo 8 (some FieldType.int) 2 := ⟨q2396, qs125, q161, q2397, by decide, by decide, by decide +kernel⟩
theorem rot_le {n g r : Nat} {t : Bool} : (rot n g r t).length ≤ n - 1 := by
  have key : ∀ (k p : Nat) (l : List Nat), (lpN (rotF n g (gos n t g r) t) p k l).length ≤ l.length + k := by
    intro k
    induction k with
    | zero => intro p l; exact Nat.le_refl _
    | succ k ih =>
      intro p l
      refine Nat.le_trans (ih (p + 1) _) ?_
      unfold rotF
      split
      · rw [insE_len]; omega
      · omega
  have := key (n - 1) 0 []
  rw [List.length_nil, Nat.zero_add] at this
  exact this
section M11
variable {E : xE} {G : xH} {c : Nat → Value} {n : Nat}
theorem M_classes {x y w : Int32} {g : Nat} (hv : mV c n G) (ha : mA n G) (hf3 : c 3 = .long (lN g)) (hg : g < 2 ^ 57) : xMet E yX7_classes cX7_classes 6 (some FieldType.int) 6 0 0 [.ref 54, .int x, .int y, .int w] G (xrv (some (.int (o_classes n g x y w))) G) := by
  obtain ⟨hO, hf0, h1n, hn6, hPw, hWy⟩ := id hv
  refine xMet.of (lv := [some (.ref 54), some (.int x), some (.int y), some (.int w), none, none]) rfl rfl (Nat.le_of_ble_eq_true rfl) ?_
  refine xj_aload_n dX7_classes_0 rfl rfl ?_
  refine xj_iload_n dX7_classes_1 rfl ?_
  refine xj_iload_n dX7_classes_2 rfl ?_
  refine xj_cV dX7_classes_3 q2092 kV_X7_areRows (M_areRows hv) hO rfl rfl rfl rfl (Nat.le_of_ble_eq_true rfl) ⟨(Nat.le_of_ble_eq_true rfl), (Nat.le_of_ble_eq_true rfl)⟩ (Nat.le_of_ble_eq_true rfl) (Nat.le_of_ble_eq_true rfl) ?_
  refine xj_if_eq (tgt := 21) dX7_classes_6 rfl (fun c6 => ?_) (fun c6 => ?_)
  · refine xj_icm1 dX7_classes_21 ?_
    exact xj_ireturn dX7_classes_22 rfl rfl (xrv_i (by unfold o_classes; first | (rw [b1_z c6]; rfl) | (have hb2 := b1_z c18; rw [inB_c2] at hb2; rw [hb2, Bool.and_false]; rfl)))
  · refine xj_iload_n dX7_classes_9 rfl ?_
    refine xj_i2l dX7_classes_10 ?_
    refine xj_lc0 dX7_classes_11 ?_
    refine xj_ldc2 dX7_classes_12 q2247 ?_
    refine xj_cS dX7_classes_15 q2085 kS_X7_in M_in rfl rfl (Nat.le_of_ble_eq_true rfl) ⟨(Nat.le_of_ble_eq_true rfl), (Nat.le_of_ble_eq_true rfl)⟩ (Nat.le_of_ble_eq_true rfl) (Nat.le_of_ble_eq_true rfl) ?_
    refine xj_if_ne (tgt := 23) dX7_classes_18 rfl (fun c18 => ?_) (fun c18 => ?_)
    · have hb := b1_nz c6
      have hb2 := b1_nz c18
      rw [inB_c2] at hb2
      obtain ⟨r1, r2, hr1, hr2, rfl, rfl⟩ := rows2 (by omega) h1n hb
      have e1 := tn_nI (by omega) hr1
      have e2 := tn_nI (by omega) hr2
      have hg1 := gos_mem' (g := g) (t := true) (by omega) hr1
      have hg2 := gos_mem' (g := g) (t := true) (by omega) hr2
      have hbb : ((rowB n (nI r1) && rowB n (nI r2)) && inI w 3) = true := by rw [hb, hb2]; rfl
      refine xj_aload_n dX7_classes_23 rfl rfl ?_
      refine xj_iload_n dX7_classes_24 rfl ?_
      refine xj_cV dX7_classes_25 q2358 kV_X7_leastOf (M_leastOf hv ha hf3 hg hr1) hO rfl rfl rfl rfl (Nat.le_of_ble_eq_true rfl) ⟨(Nat.le_of_ble_eq_true rfl), (Nat.le_of_ble_eq_true rfl)⟩ (Nat.le_of_ble_eq_true rfl) (Nat.le_of_ble_eq_true rfl) ?_
      refine xj_ist4 dX7_classes_28 rfl ?_
      refine xj_aload_n dX7_classes_30 rfl rfl ?_
      refine xj_iload_n dX7_classes_31 rfl ?_
      refine xj_cV dX7_classes_32 q2358 kV_X7_leastOf (M_leastOf hv ha hf3 hg hr2) hO rfl rfl rfl rfl (Nat.le_of_ble_eq_true rfl) ⟨(Nat.le_of_ble_eq_true rfl), (Nat.le_of_ble_eq_true rfl)⟩ (Nat.le_of_ble_eq_true rfl) (Nat.le_of_ble_eq_true rfl) ?_
      refine xj_ist5 dX7_classes_35 rfl ?_
      refine xj_iload_n dX7_classes_37 rfl ?_
      refine xj_if_ne (tgt := 60) dX7_classes_38 rfl (fun c38 => ?_) (fun c38 => ?_)
      · refine xj_aload_n dX7_classes_60 rfl rfl ?_
        refine xj_iload_n dX7_classes_61 rfl ?_
        refine xj_ic1 dX7_classes_62 ?_
        refine xj_icmp_ne (tgt := 77) dX7_classes_63 rfl (fun c63 => ?_) (fun c63 => ?_)
        · refine xj_aload_n dX7_classes_77 rfl rfl ?_
          refine xj_iload dX7_classes_78 rfl ?_
          refine xj_iload dX7_classes_80 rfl ?_
          refine xj_cV dX7_classes_82 q2131 kV_X7_joinOf (M_joinOf hv hg1 hg2) hO rfl rfl rfl rfl (Nat.le_of_ble_eq_true rfl) ⟨(Nat.le_of_ble_eq_true rfl), (Nat.le_of_ble_eq_true rfl)⟩ (Nat.le_of_ble_eq_true rfl) (Nat.le_of_ble_eq_true rfl) ?_
          refine xj_cV dX7_classes_85 q2358 kV_X7_leastOf (M_leastOf hv ha hf3 hg (by first | exact mtS_mem (by omega) h1n | exact jn2_mem (by omega) h1n hg1 hg2)) hO rfl rfl rfl rfl (Nat.le_of_ble_eq_true rfl) ⟨(Nat.le_of_ble_eq_true rfl), (Nat.le_of_ble_eq_true rfl)⟩ (Nat.le_of_ble_eq_true rfl) (Nat.le_of_ble_eq_true rfl) ?_
          exact xj_ireturn dX7_classes_88 rfl rfl (xrv_i (by unfold o_classes; rw [if_pos hbb, e1, e2]; first | (rw [if_pos c38, b1_z c49]; rfl) | (rw [if_pos c38, b1_nz c49]; rfl) | (rw [if_neg c38, if_pos c63]; done) | (rw [if_neg c38, if_neg c63]; done)))
        · refine xj_aload_n dX7_classes_66 rfl rfl ?_
          refine xj_iload dX7_classes_67 rfl ?_
          refine xj_iload dX7_classes_69 rfl ?_
          refine xj_cV dX7_classes_71 q2116 kV_X7_meetOf (M_meetOf hv hg1 hg2) hO rfl rfl rfl rfl (Nat.le_of_ble_eq_true rfl) ⟨(Nat.le_of_ble_eq_true rfl), (Nat.le_of_ble_eq_true rfl)⟩ (Nat.le_of_ble_eq_true rfl) (Nat.le_of_ble_eq_true rfl) ?_
          refine xj_goto (tgt := 85) dX7_classes_74 rfl ?_
          refine xj_cV dX7_classes_85 q2358 kV_X7_leastOf (M_leastOf hv ha hf3 hg (by first | exact mtS_mem (by omega) h1n | exact jn2_mem (by omega) h1n hg1 hg2)) hO rfl rfl rfl rfl (Nat.le_of_ble_eq_true rfl) ⟨(Nat.le_of_ble_eq_true rfl), (Nat.le_of_ble_eq_true rfl)⟩ (Nat.le_of_ble_eq_true rfl) (Nat.le_of_ble_eq_true rfl) ?_
          exact xj_ireturn dX7_classes_88 rfl rfl (xrv_i (by unfold o_classes; rw [if_pos hbb, e1, e2]; first | (rw [if_pos c38, b1_z c49]; rfl) | (rw [if_pos c38, b1_nz c49]; rfl) | (rw [if_neg c38, if_pos c63]; done) | (rw [if_neg c38, if_neg c63]; done)))
      · refine xj_aload_n dX7_classes_41 rfl rfl ?_
        refine xj_iload dX7_classes_42 rfl ?_
        refine xj_iload dX7_classes_44 rfl ?_
        refine xj_cV dX7_classes_46 q2104 kV_X7_isBelow (M_isBelow hv hg1 hg2) hO rfl rfl rfl rfl (Nat.le_of_ble_eq_true rfl) ⟨(Nat.le_of_ble_eq_true rfl), (Nat.le_of_ble_eq_true rfl)⟩ (Nat.le_of_ble_eq_true rfl) (Nat.le_of_ble_eq_true rfl) ?_
        refine xj_if_eq (tgt := 56) dX7_classes_49 rfl (fun c49 => ?_) (fun c49 => ?_)
        · refine xj_ic0 dX7_classes_56 ?_
          refine xj_goto (tgt := 88) dX7_classes_57 rfl ?_
          exact xj_ireturn dX7_classes_88 rfl rfl (xrv_i (by unfold o_classes; rw [if_pos hbb, e1, e2]; first | (rw [if_pos c38, b1_z c49]; rfl) | (rw [if_pos c38, b1_nz c49]; rfl) | (rw [if_neg c38, if_pos c63]; done) | (rw [if_neg c38, if_neg c63]; done)))
        · refine xj_ic1 dX7_classes_52 ?_
          refine xj_goto (tgt := 88) dX7_classes_53 rfl ?_
          exact xj_ireturn dX7_classes_88 rfl rfl (xrv_i (by unfold o_classes; rw [if_pos hbb, e1, e2]; first | (rw [if_pos c38, b1_z c49]; rfl) | (rw [if_pos c38, b1_nz c49]; rfl) | (rw [if_neg c38, if_pos c63]; done) | (rw [if_neg c38, if_neg c63]; done)))
    · refine xj_icm1 dX7_classes_21 ?_
      exact xj_ireturn dX7_classes_22 rfl rfl (xrv_i (by unfold o_classes; first | (rw [b1_z c6]; rfl) | (have hb2 := b1_z c18; rw [inB_c2] at hb2; rw [hb2, Bool.and_false]; rfl)))
theorem M_manyClasses {g : Nat} {t : Bool} (hv : mV c n G) (ha : mA n G) (hf3 : c 3 = .long (lN g)) (hg : g < 2 ^ 57) : xMet E yX7_manyClasses cX7_manyClasses 5 (some FieldType.int) 4 0 0 [.ref 54, .int (b1 t)] G (xrv (some (.int (nI (mnC n g t)))) G) := by
  obtain ⟨hO, hf0, h1n, hn6, hPw, hWy⟩ := id hv
  have hw31 := wayN hn6
  refine xMet.of (lv := [some (.ref 54), some (.int (b1 t)), none, none, none]) rfl rfl (Nat.le_of_ble_eq_true rfl) ?_
  refine xj_ic0 dX7_manyClasses_0 ?_
  refine xj_istn2 dX7_manyClasses_1 rfl ?_
  refine xj_ic0 dX7_manyClasses_2 ?_
  refine xj_istn3 dX7_manyClasses_3 rfl ?_
  have lp : ∀ (K : Nat) (i : Nat) (s : Nat), wy n - i < K → (i ≤ wy n) → (lpN (mcF n g t) i (wy n - i) s = mnC n g t) → xJ E (yX7_manyClasses, cX7_manyClasses, 5, (some FieldType.int), []) (xR 4 0 0) (xrv (some (.int (nI (mnC n g t)))) G) 0 0 4 [some (.ref 54), some (.int (b1 t)), some (.int (nI s)), some (.int (nI i)), none] [] G := by
    intro K
    induction K with
    | zero => intro i s h; exact absurd h (Nat.not_lt_zero _)
    | succ K ih_lp =>
      intro i s hK hi hs
      refine xj_iload_n dX7_manyClasses_4 rfl ?_
      refine xj_aload_n dX7_manyClasses_5 rfl rfl ?_
      refine xj_get dX7_manyClasses_6 K7 19 (by decide) q1948 hO rfl ?_
      refine xj_aload_n dX7_manyClasses_9 rfl rfl ?_
      refine xj_get dX7_manyClasses_10 K7 0 (by decide) q1929 hO (congrArg some hf0) ?_
      refine xj_iald dX7_manyClasses_13 hWy rfl (by omega) (wayL_at hn6) ?_
      refine xj_icmp_ge (tgt := 60) dX7_manyClasses_14 rfl (fun c14 => ?_) (fun c14 => ?_)
      · refine xj_iload_n dX7_manyClasses_60 rfl ?_
        exact xj_ireturn dX7_manyClasses_61 rfl rfl (xrv_i (by rw [lp_end _ (Nat.le_of_not_lt fun h => absurd c14 (nI_ge h (by omega)))] at hs; rw [hs]))
      · have hin : i < wy n := Nat.lt_of_not_le fun h => c14 (nI_le h (by omega))
        have hrb := rb_mem (by omega) h1n hin
        have hdr := drp_lt (n := n) (r := rb n i) (by omega)
        rw [lp_step _ hin] at hs
        refine xj_aload_n dX7_manyClasses_17 rfl rfl ?_
        refine xj_iload_n dX7_manyClasses_18 rfl ?_
        refine xj_cV dX7_manyClasses_19 q2120 kV_X7_rowBy (M_rowBy hv hin) hO rfl rfl rfl rfl (Nat.le_of_ble_eq_true rfl) ⟨(Nat.le_of_ble_eq_true rfl), (Nat.le_of_ble_eq_true rfl)⟩ (Nat.le_of_ble_eq_true rfl) (Nat.le_of_ble_eq_true rfl) ?_
        refine xj_ist4 dX7_manyClasses_22 rfl ?_
        refine xj_aload_n dX7_manyClasses_24 rfl rfl ?_
        refine xj_iload dX7_manyClasses_25 rfl ?_
        refine xj_cV dX7_manyClasses_27 q2382 kV_X7_isLeast (M_isLeast hv ha hf3 hg hrb) hO rfl rfl rfl rfl (Nat.le_of_ble_eq_true rfl) ⟨(Nat.le_of_ble_eq_true rfl), (Nat.le_of_ble_eq_true rfl)⟩ (Nat.le_of_ble_eq_true rfl) (Nat.le_of_ble_eq_true rfl) ?_
        refine xj_if_eq (tgt := 54) dX7_manyClasses_30 rfl (fun c30 => ?_) (fun c30 => ?_)
        · refine xj_iinc3 (cst := 1) dX7_manyClasses_54 rfl rfl ?_
          refine xj_goto (tgt := 4) dX7_manyClasses_57 rfl ?_
          first | rw [nI_add, nI_1] | rw [nI_1, nI_1] | rw [nI_1]
          exact xj_fg4 (ih_lp (i + 1) _ (by omega) (by omega) (by rw [← hs]; unfold mcF; first | (rw [b1_nz c30, b1_z c35]; rfl) | (rw [b1_nz c30, b1_nz c35]; rfl) | (rw [b1_z c30]; rfl)))
        · refine xj_iload_n dX7_manyClasses_33 rfl ?_
          refine xj_iload_n dX7_manyClasses_34 rfl ?_
          refine xj_if_eq (tgt := 51) dX7_manyClasses_35 rfl (fun c35 => ?_) (fun c35 => ?_)
          · refine xj_ic1 dX7_manyClasses_51 ?_
            refine xj_iadd dX7_manyClasses_52 ?_
            refine xj_istn2 dX7_manyClasses_53 rfl ?_
            refine xj_iinc3 (cst := 1) dX7_manyClasses_54 rfl rfl ?_
            refine xj_goto (tgt := 4) dX7_manyClasses_57 rfl ?_
            first | rw [nI_add, nI_1] | rw [nI_1, nI_1] | rw [nI_1]
            exact xj_fg4 (ih_lp (i + 1) _ (by omega) (by omega) (by rw [← hs]; unfold mcF; first | (rw [b1_nz c30, b1_z c35]; rfl) | (rw [b1_nz c30, b1_nz c35]; rfl) | (rw [b1_z c30]; rfl)))
          · refine xj_aload_n dX7_manyClasses_38 rfl rfl ?_
            refine xj_iload dX7_manyClasses_39 rfl ?_
            refine xj_cV dX7_manyClasses_41 q2140 kV_X7_drops (M_drops hv (R31 (by omega) hrb)) hO rfl rfl rfl rfl (Nat.le_of_ble_eq_true rfl) ⟨(Nat.le_of_ble_eq_true rfl), (Nat.le_of_ble_eq_true rfl)⟩ (Nat.le_of_ble_eq_true rfl) (Nat.le_of_ble_eq_true rfl) ?_
            refine xj_i2l dX7_manyClasses_44 ?_
            refine xj_topl (nI_l hdr) ?_
            refine xj_cS dX7_manyClasses_45 q2124 kS_X7_ones (M_ones (Nat.lt_trans hdr (by decide))) rfl rfl (Nat.le_of_ble_eq_true rfl) ⟨(Nat.le_of_ble_eq_true rfl), (Nat.le_of_ble_eq_true rfl)⟩ (Nat.le_of_ble_eq_true rfl) (Nat.le_of_ble_eq_true rfl) ?_
            refine xj_goto (tgt := 52) dX7_manyClasses_48 rfl ?_
            refine xj_iadd dX7_manyClasses_52 ?_
            refine xj_istn2 dX7_manyClasses_53 rfl ?_
            refine xj_iinc3 (cst := 1) dX7_manyClasses_54 rfl rfl ?_
            refine xj_goto (tgt := 4) dX7_manyClasses_57 rfl ?_
            first | rw [nI_add, nI_1] | rw [nI_1, nI_1] | rw [nI_1]
            exact xj_fg4 (ih_lp (i + 1) _ (by omega) (by omega) (by rw [← hs]; unfold mcF; first | (rw [b1_nz c30, b1_z c35]; rfl) | (rw [b1_nz c30, b1_nz c35]; rfl) | (rw [b1_z c30]; rfl)))
  exact lp (wy n + 1) 0 0 (by omega) (by omega) rfl
theorem M_arcIs {g : Nat} {x w : Int32} (hv : mV c n G) (ha : mA n G) (hf3 : c 3 = .long (lN g)) (hg : g < 2 ^ 57) (hf : mF c n G) : xMet E yX7_arcIs cX7_arcIs 3 (some FieldType.int) 4 0 0 [.ref 54, .int x, .int w] G (xrv (some (.int (o_arcIs n g x w))) G) := by
  obtain ⟨hO, hf0, h1n, hn6, hPw, hWy⟩ := id hv
  obtain ⟨hf17, L4, hL4, hFo⟩ := id hf
  have hna := na_lt n (by omega)
  obtain ⟨L1, L2, L3, h59, h60, h61, hAr⟩ := id ha
  refine xMet.of (lv := [some (.ref 54), some (.int x), some (.int w)]) rfl rfl (Nat.le_of_ble_eq_true rfl) ?_
  refine xj_aload_n dX7_arcIs_0 rfl rfl ?_
  refine xj_iload_n dX7_arcIs_1 rfl ?_
  refine xj_cV dX7_arcIs_2 q2188 kV_X7_isArc (M_isArc hv hf17) hO rfl rfl rfl rfl (Nat.le_of_ble_eq_true rfl) ⟨(Nat.le_of_ble_eq_true rfl), (Nat.le_of_ble_eq_true rfl)⟩ (Nat.le_of_ble_eq_true rfl) (Nat.le_of_ble_eq_true rfl) ?_
  refine xj_if_ne (tgt := 10) dX7_arcIs_5 rfl (fun c5 => ?_) (fun c5 => ?_)
  · have hb1 := b1_nz c5
    rw [inB_inI (na30 (by omega))] at hb1
    obtain ⟨k1, hk1, hk131, rfl⟩ := inI_t hb1
    have e1 : tn (nI k1) = k1 := nI_clamp hk131
    have h64 : k1 < 64 := by omega
    refine xj_iload_n dX7_arcIs_10 rfl ?_
    refine xj_tabs (tg := [52, 59, 66, 73, 90, 100, 109]) (tgt := 115) dX7_arcIs_11 rfl rfl rfl ⟨fun c11 => ?_, fun c11 => ?_, fun c11 => ?_, fun c11 => ?_, fun c11 => ?_, fun c11 => ?_, fun c11 => ?_, trivial⟩ (fun c11 => ?_)
    · refine xj_aload_n dX7_arcIs_52 rfl rfl ?_
      refine xj_get dX7_arcIs_53 K7 13 (by decide) q1942 hO rfl ?_
      refine xj_iload_n dX7_arcIs_56 rfl ?_
      refine xj_iald dX7_arcIs_57 h59 rfl hk131 (hAr k1 hk1).1 ?_
      exact xj_ireturn dX7_arcIs_58 rfl rfl (xrv_i (by unfold o_arcIs; rw [if_pos hb1, e1, show w = 0 from c11]; rfl))
    · refine xj_aload_n dX7_arcIs_59 rfl rfl ?_
      refine xj_get dX7_arcIs_60 K7 14 (by decide) q1943 hO rfl ?_
      refine xj_iload_n dX7_arcIs_63 rfl ?_
      refine xj_iald dX7_arcIs_64 h60 rfl hk131 (hAr k1 hk1).2.1 ?_
      exact xj_ireturn dX7_arcIs_65 rfl rfl (xrv_i (by unfold o_arcIs; rw [if_pos hb1, e1, show w = 1 from c11]; rfl))
    · refine xj_aload_n dX7_arcIs_66 rfl rfl ?_
      refine xj_get dX7_arcIs_67 K7 15 (by decide) q1944 hO rfl ?_
      refine xj_iload_n dX7_arcIs_70 rfl ?_
      refine xj_iald dX7_arcIs_71 h61 rfl hk131 (hAr k1 hk1).2.2 ?_
      exact xj_ireturn dX7_arcIs_72 rfl rfl (xrv_i (by unfold o_arcIs; rw [if_pos hb1, e1, show w = 2 from c11]; rfl))
    · refine xj_aload_n dX7_arcIs_73 rfl rfl ?_
      refine xj_get dX7_arcIs_74 K7 3 (by decide) q1932 hO (congrArg some hf3) ?_
      refine xj_iload_n dX7_arcIs_77 rfl ?_
      refine xj_cS dX7_arcIs_78 q1926 kS_X7_has (M_has (Nat.lt_trans hg (by decide)) h64) rfl rfl (Nat.le_of_ble_eq_true rfl) ⟨(Nat.le_of_ble_eq_true rfl), (Nat.le_of_ble_eq_true rfl)⟩ (Nat.le_of_ble_eq_true rfl) (Nat.le_of_ble_eq_true rfl) ?_
      refine xj_if_eq (tgt := 88) dX7_arcIs_81 rfl (fun c81 => ?_) (fun c81 => ?_)
      · refine xj_ic0 dX7_arcIs_88 ?_
        exact xj_ireturn dX7_arcIs_89 rfl rfl (xrv_i (by unfold o_arcIs; rw [if_pos hb1, e1, show w = 3 from c11]; first | (have q := b1_z c81; show _ = b1 (g.testBit k1); rw [q]; rfl) | (have q := b1_nz c81; show _ = b1 (g.testBit k1); rw [q]; rfl)))
      · refine xj_ic1 dX7_arcIs_84 ?_
        refine xj_goto (tgt := 89) dX7_arcIs_85 rfl ?_
        exact xj_ireturn dX7_arcIs_89 rfl rfl (xrv_i (by unfold o_arcIs; rw [if_pos hb1, e1, show w = 3 from c11]; first | (have q := b1_z c81; show _ = b1 (g.testBit k1); rw [q]; rfl) | (have q := b1_nz c81; show _ = b1 (g.testBit k1); rw [q]; rfl)))
    · refine xj_aload_n dX7_arcIs_90 rfl rfl ?_
      refine xj_get dX7_arcIs_91 K7 16 (by decide) q1945 hO rfl ?_
      refine xj_iload_n dX7_arcIs_94 rfl ?_
      refine xj_lald dX7_arcIs_95 hL4 rfl hk131 (hFo k1 hk1) ?_
      refine xj_cS dX7_arcIs_96 q2124 kS_X7_ones (M_ones (Nat.lt_trans (fo_lt (by omega) k1) (by decide))) rfl rfl (Nat.le_of_ble_eq_true rfl) ⟨(Nat.le_of_ble_eq_true rfl), (Nat.le_of_ble_eq_true rfl)⟩ (Nat.le_of_ble_eq_true rfl) (Nat.le_of_ble_eq_true rfl) ?_
      exact xj_ireturn dX7_arcIs_99 rfl rfl (xrv_i (by unfold o_arcIs; rw [if_pos hb1, e1, show w = 4 from c11]; rfl))
    · refine xj_aload_n dX7_arcIs_100 rfl rfl ?_
      refine xj_iload_n dX7_arcIs_101 rfl ?_
      refine xj_cV dX7_arcIs_102 q2192 kV_X7_forcers (M_forcers hv hf h64) hO rfl rfl rfl rfl (Nat.le_of_ble_eq_true rfl) ⟨(Nat.le_of_ble_eq_true rfl), (Nat.le_of_ble_eq_true rfl)⟩ (Nat.le_of_ble_eq_true rfl) (Nat.le_of_ble_eq_true rfl) ?_
      refine xj_cS dX7_arcIs_105 q2124 kS_X7_ones (M_ones (Nat.lt_trans (fcr_lt (by omega) k1) (by decide))) rfl rfl (Nat.le_of_ble_eq_true rfl) ⟨(Nat.le_of_ble_eq_true rfl), (Nat.le_of_ble_eq_true rfl)⟩ (Nat.le_of_ble_eq_true rfl) (Nat.le_of_ble_eq_true rfl) ?_
      exact xj_ireturn dX7_arcIs_108 rfl rfl (xrv_i (by unfold o_arcIs; rw [if_pos hb1, e1, show w = 5 from c11]; rfl))
    · refine xj_aload_n dX7_arcIs_109 rfl rfl ?_
      refine xj_iload_n dX7_arcIs_110 rfl ?_
      refine xj_cV dX7_arcIs_111 q2196 kV_X7_leastWith (M_leastWith hv ha h64) hO rfl rfl rfl rfl (Nat.le_of_ble_eq_true rfl) ⟨(Nat.le_of_ble_eq_true rfl), (Nat.le_of_ble_eq_true rfl)⟩ (Nat.le_of_ble_eq_true rfl) (Nat.le_of_ble_eq_true rfl) ?_
      exact xj_ireturn dX7_arcIs_114 rfl rfl (xrv_i (by unfold o_arcIs; rw [if_pos hb1, e1, show w = 6 from c11]; rfl))
    · refine xj_icm1 dX7_arcIs_115 ?_
      exact xj_ireturn dX7_arcIs_116 rfl rfl (xrv_i (by unfold o_arcIs; rw [if_pos hb1]; repeat rw [if_neg (fun q => by rw [q] at c11; revert c11; decide)]))
  · refine xj_icm1 dX7_arcIs_8 ?_
    exact xj_ireturn dX7_arcIs_9 rfl rfl (xrv_i (by have hb1 := b1_z c5; rw [inB_inI (na30 (by omega))] at hb1; unfold o_arcIs; rw [hb1]; rfl))
theorem M_rotations {x w : Int32} {g : Nat} {L0 : List Int32} (hv : mV c n G) (ha : mA n G) (hf3 : c 3 = .long (lN g)) (hg : g < 2 ^ 57) (h68 : G[68]? = some (cI 0 L0)) (hL0 : L0.length = 6) : xMet E yX7_rotations cX7_rotations 3 (some FieldType.int) 6 0 0 [.ref 54, .int x, .int w] G (xre (fun v G' => v = some (.int (o_rotations n g x w)) ∧ ∃ L : List Int32, L.length = 6 ∧ G' = G.set 68 (cI 0 L))) := by
  obtain ⟨hO, hf0, h1n, hn6, hPw, hWy⟩ := id hv
  refine xMet.of (lv := [some (.ref 54), some (.int x), some (.int w)]) rfl rfl (Nat.le_of_ble_eq_true rfl) ?_
  refine xj_aload_n dX7_rotations_0 rfl rfl ?_
  refine xj_iload_n dX7_rotations_1 rfl ?_
  refine xj_cV dX7_rotations_2 q2096 kV_X7_isRow (M_isRow hv) hO rfl rfl rfl rfl (Nat.le_of_ble_eq_true rfl) ⟨(Nat.le_of_ble_eq_true rfl), (Nat.le_of_ble_eq_true rfl)⟩ (Nat.le_of_ble_eq_true rfl) (Nat.le_of_ble_eq_true rfl) ?_
  refine xj_if_eq (tgt := 27) dX7_rotations_5 rfl (fun c5 => ?_) (fun c5 => ?_)
  · refine xj_icm1 dX7_rotations_27 ?_
    exact xj_ireturn dX7_rotations_28 rfl rfl (by first | exact ⟨by unfold o_rotations; rw [if_pos hbb, e1, ht], L, hL, rfl⟩ | exact ⟨by unfold o_rotations; rw [b1_z c5]; rfl, L0, hL0, (gset_id h68).symm⟩ | exact ⟨by have hb2 := b1_z c15; rw [inB_c1] at hb2; unfold o_rotations; rw [hb2, Bool.and_false]; rfl, L0, hL0, (gset_id h68).symm⟩)
  · refine xj_iload_n dX7_rotations_8 rfl ?_
    refine xj_i2l dX7_rotations_9 ?_
    refine xj_lc0 dX7_rotations_10 ?_
    refine xj_lc1 dX7_rotations_11 ?_
    refine xj_cS dX7_rotations_12 q2085 kS_X7_in M_in rfl rfl (Nat.le_of_ble_eq_true rfl) ⟨(Nat.le_of_ble_eq_true rfl), (Nat.le_of_ble_eq_true rfl)⟩ (Nat.le_of_ble_eq_true rfl) (Nat.le_of_ble_eq_true rfl) ?_
    refine xj_if_eq (tgt := 27) dX7_rotations_15 rfl (fun c15 => ?_) (fun c15 => ?_)
    · refine xj_icm1 dX7_rotations_27 ?_
      exact xj_ireturn dX7_rotations_28 rfl rfl (by first | exact ⟨by unfold o_rotations; rw [if_pos hbb, e1, ht], L, hL, rfl⟩ | exact ⟨by unfold o_rotations; rw [b1_z c5]; rfl, L0, hL0, (gset_id h68).symm⟩ | exact ⟨by have hb2 := b1_z c15; rw [inB_c1] at hb2; unfold o_rotations; rw [hb2, Bool.and_false]; rfl, L0, hL0, (gset_id h68).symm⟩)
    · have hb1 := b1_nz c5
      have hb2 := b1_nz c15
      rw [inB_c1] at hb2
      obtain ⟨r1, hr1, rfl⟩ := rowB_t (by omega) h1n hb1
      have e1 := tn_nI (by omega) hr1
      obtain ⟨t, rfl, ht⟩ := bit_of hb2
      have hbb : (rowB n (nI r1) && inI (b1 (!t)) 2) = true := by rw [hb1, hb2]; rfl
      refine xj_aload_n dX7_rotations_18 rfl rfl ?_
      refine xj_iload_n dX7_rotations_19 rfl ?_
      refine xj_iload_n dX7_rotations_20 rfl ?_
      refine xj_dV dX7_rotations_21 q2394 kV_X7_turnsTo (M_turnsTo hv ha hf3 hg hr1 h68 hL0) hO rfl rfl rfl rfl (Nat.le_of_ble_eq_true rfl) ⟨(Nat.le_of_ble_eq_true rfl), (Nat.le_of_ble_eq_true rfl)⟩ (Nat.le_of_ble_eq_true rfl) (Nat.le_of_ble_eq_true rfl) ?_
      rintro _ _ ⟨rfl, L, hL, hlk, rfl⟩
      refine xj_goto (tgt := 28) dX7_rotations_24 rfl ?_
      exact xj_ireturn dX7_rotations_28 rfl rfl (by first | exact ⟨by unfold o_rotations; rw [if_pos hbb, e1, ht], L, hL, rfl⟩ | exact ⟨by unfold o_rotations; rw [b1_z c5]; rfl, L0, hL0, (gset_id h68).symm⟩ | exact ⟨by have hb2 := b1_z c15; rw [inB_c1] at hb2; unfold o_rotations; rw [hb2, Bool.and_false]; rfl, L0, hL0, (gset_id h68).symm⟩)
theorem M_rotate {x k w : Int32} {g : Nat} {L0 : List Int32} (hv : mV c n G) (ha : mA n G) (hf3 : c 3 = .long (lN g)) (hg : g < 2 ^ 57) (h68 : G[68]? = some (cI 0 L0)) (hL0 : L0.length = 6) : xMet E yX7_rotate cX7_rotate 4 (some FieldType.int) 6 0 0 [.ref 54, .int x, .int k, .int w] G (xre (fun v G' => v = some (.int (o_rotate n g x k w)) ∧ ∃ L : List Int32, L.length = 6 ∧ G' = G.set 68 (cI 0 L))) := by
  obtain ⟨hO, hf0, h1n, hn6, hPw, hWy⟩ := id hv
  refine xMet.of (lv := [some (.ref 54), some (.int x), some (.int k), some (.int w)]) rfl rfl (Nat.le_of_ble_eq_true rfl) ?_
  refine xj_aload_n dX7_rotate_0 rfl rfl ?_
  refine xj_iload_n dX7_rotate_1 rfl ?_
  refine xj_cV dX7_rotate_2 q2096 kV_X7_isRow (M_isRow hv) hO rfl rfl rfl rfl (Nat.le_of_ble_eq_true rfl) ⟨(Nat.le_of_ble_eq_true rfl), (Nat.le_of_ble_eq_true rfl)⟩ (Nat.le_of_ble_eq_true rfl) (Nat.le_of_ble_eq_true rfl) ?_
  refine xj_if_eq (tgt := 22) dX7_rotate_5 rfl (fun c5 => ?_) (fun c5 => ?_)
  · refine xj_icm1 dX7_rotate_22 ?_
    exact xj_ireturn dX7_rotate_23 rfl rfl (by first | exact ⟨by unfold o_rotate; rw [b1_z c5]; rfl, L0, hL0, (gset_id h68).symm⟩ | exact ⟨by unfold o_rotate; rw [decide_eq_true c9, Bool.not_true, Bool.and_false]; rfl, L0, hL0, (gset_id h68).symm⟩ | exact ⟨by unfold o_rotate; have hb2 := b1_z c19; rw [inB_c1] at hb2; rw [hb2, Bool.and_false]; rfl, L0, hL0, (gset_id h68).symm⟩)
  · refine xj_iload_n dX7_rotate_8 rfl ?_
    refine xj_if_lt (tgt := 22) dX7_rotate_9 rfl (fun c9 => ?_) (fun c9 => ?_)
    · refine xj_icm1 dX7_rotate_22 ?_
      exact xj_ireturn dX7_rotate_23 rfl rfl (by first | exact ⟨by unfold o_rotate; rw [b1_z c5]; rfl, L0, hL0, (gset_id h68).symm⟩ | exact ⟨by unfold o_rotate; rw [decide_eq_true c9, Bool.not_true, Bool.and_false]; rfl, L0, hL0, (gset_id h68).symm⟩ | exact ⟨by unfold o_rotate; have hb2 := b1_z c19; rw [inB_c1] at hb2; rw [hb2, Bool.and_false]; rfl, L0, hL0, (gset_id h68).symm⟩)
    · refine xj_iload_n dX7_rotate_12 rfl ?_
      refine xj_i2l dX7_rotate_13 ?_
      refine xj_lc0 dX7_rotate_14 ?_
      refine xj_lc1 dX7_rotate_15 ?_
      refine xj_cS dX7_rotate_16 q2085 kS_X7_in M_in rfl rfl (Nat.le_of_ble_eq_true rfl) ⟨(Nat.le_of_ble_eq_true rfl), (Nat.le_of_ble_eq_true rfl)⟩ (Nat.le_of_ble_eq_true rfl) (Nat.le_of_ble_eq_true rfl) ?_
      refine xj_if_ne (tgt := 24) dX7_rotate_19 rfl (fun c19 => ?_) (fun c19 => ?_)
      · have hb1 := b1_nz c5
        have hb2 := b1_nz c19
        rw [inB_c1] at hb2
        obtain ⟨r1, hr1, rfl⟩ := rowB_t (by omega) h1n hb1
        have e1 := tn_nI (by omega) hr1
        obtain ⟨t, rfl, ht⟩ := bit_of hb2
        obtain ⟨j, hj, rfl⟩ := nI_of c9
        have e2 : tn (nI j) = j := nI_clamp hj
        have hbb : ((rowB n (nI r1) && !decide (nI j < 0)) && inI (b1 (!t)) 2) = true := by rw [hb1, hb2, decide_eq_false c9]; rfl
        have hrl := rot_le (g := g) (r := r1) (t := t) (n := n)
        refine xj_iload_n dX7_rotate_24 rfl ?_
        refine xj_aload_n dX7_rotate_25 rfl rfl ?_
        refine xj_iload_n dX7_rotate_26 rfl ?_
        refine xj_iload_n dX7_rotate_27 rfl ?_
        refine xj_dV dX7_rotate_28 q2394 kV_X7_turnsTo (M_turnsTo hv ha hf3 hg hr1 h68 hL0) hO rfl rfl rfl rfl (Nat.le_of_ble_eq_true rfl) ⟨(Nat.le_of_ble_eq_true rfl), (Nat.le_of_ble_eq_true rfl)⟩ (Nat.le_of_ble_eq_true rfl) (Nat.le_of_ble_eq_true rfl) ?_
        rintro _ _ ⟨rfl, L, hL, hlk, rfl⟩
        have hO2 := (hv.set (a := 68) (x := cI 0 L) (by decide) (by decide) (by decide)).1
        have hL68 := gset_self (x := cI 0 L) h68
        refine xj_icmp_ge (tgt := 43) dX7_rotate_31 rfl (fun c31 => ?_) (fun c31 => ?_)
        · refine xj_bipush (v := -3) dX7_rotate_43 rfl ?_
          exact xj_ireturn dX7_rotate_45 rfl rfl ⟨by unfold o_rotate; rw [if_pos hbb, e1, e2, ht]; first | (rw [hvj]; done) | (rw [List.getElem?_eq_none (Nat.le_of_not_lt fun h => absurd c31 (nI_ge h (by omega)))]), L, hL, rfl⟩
        · obtain ⟨v, hvj⟩ : ∃ v, (rot n g r1 t)[j]? = some v := ⟨_, List.getElem?_eq_getElem (Nat.lt_of_not_le fun h => c31 (nI_le h (by omega)))⟩
          refine xj_aload_n dX7_rotate_34 rfl rfl ?_
          refine xj_get dX7_rotate_35 K7 29 (by decide) q1958 hO2 rfl ?_
          refine xj_iload_n dX7_rotate_38 rfl ?_
          refine xj_iald dX7_rotate_39 hL68 rfl hj (hlk j v hvj) ?_
          refine xj_goto (tgt := 45) dX7_rotate_40 rfl ?_
          exact xj_ireturn dX7_rotate_45 rfl rfl ⟨by unfold o_rotate; rw [if_pos hbb, e1, e2, ht]; first | (rw [hvj]; done) | (rw [List.getElem?_eq_none (Nat.le_of_not_lt fun h => absurd c31 (nI_ge h (by omega)))]), L, hL, rfl⟩
      · refine xj_icm1 dX7_rotate_22 ?_
        exact xj_ireturn dX7_rotate_23 rfl rfl (by first | exact ⟨by unfold o_rotate; rw [b1_z c5]; rfl, L0, hL0, (gset_id h68).symm⟩ | exact ⟨by unfold o_rotate; rw [decide_eq_true c9, Bool.not_true, Bool.and_false]; rfl, L0, hL0, (gset_id h68).symm⟩ | exact ⟨by unfold o_rotate; have hb2 := b1_z c19; rw [inB_c1] at hb2; rw [hb2, Bool.and_false]; rfl, L0, hL0, (gset_id h68).symm⟩)
theorem M_jumped {r v : Nat} {d : Int32} (hv : mV c n G) (hr : r ∈ rws n) (hv1 : 1 ≤ v) (hvn : v ≤ n) : xMet E yX7_jumped cX7_jumped 10 (some FieldType.int) 2 0 0 [.ref 54, .int (nI r), .int (nI v), .int d] G (xrv (some (.int (o_jumped n r v d))) G) := by
  obtain ⟨hO, hf0, h1n, hn6, hPw, hWy⟩ := id hv
  have hr31 := R31 (by omega) hr
  have hv31 : v < 2 ^ 31 := by omega
  have hpl : plc n r v n 0 < n := by have := (f_plc n (by omega) r hr (v - 1) (by omega)).1; rwa [show v - 1 + 1 = v by omega] at this
  refine xMet.of (lv := [some (.ref 54), some (.int (nI r)), some (.int (nI v)), some (.int d), none, none, none, none, none, none]) rfl rfl (Nat.le_of_ble_eq_true rfl) ?_
  refine xj_aload_n dX7_jumped_0 rfl rfl ?_
  refine xj_iload_n dX7_jumped_1 rfl ?_
  refine xj_iload_n dX7_jumped_2 rfl ?_
  refine xj_cV dX7_jumped_3 q2168 kV_X7_placeOf (M_placeOf hv hr31 hv31 hpl) hO rfl rfl rfl rfl (Nat.le_of_ble_eq_true rfl) ⟨(Nat.le_of_ble_eq_true rfl), (Nat.le_of_ble_eq_true rfl)⟩ (Nat.le_of_ble_eq_true rfl) (Nat.le_of_ble_eq_true rfl) ?_
  refine xj_ist4 dX7_jumped_6 rfl ?_
  refine xj_iload dX7_jumped_8 rfl ?_
  refine xj_i2l dX7_jumped_10 ?_
  refine xj_iload_n dX7_jumped_11 rfl ?_
  refine xj_i2l dX7_jumped_12 ?_
  refine xj_ladd dX7_jumped_13 ?_
  refine xj_lst5 dX7_jumped_14 rfl ?_
  refine xj_lload dX7_jumped_16 rfl ?_
  refine xj_lc0 dX7_jumped_18 ?_
  refine xj_aload_n dX7_jumped_19 rfl rfl ?_
  refine xj_get dX7_jumped_20 K7 0 (by decide) q1929 hO (congrArg some hf0) ?_
  refine xj_ic1 dX7_jumped_23 ?_
  refine xj_isub dX7_jumped_24 ?_
  refine xj_i2l dX7_jumped_25 ?_
  refine xj_cS dX7_jumped_26 q2085 kS_X7_in M_in rfl rfl (Nat.le_of_ble_eq_true rfl) ⟨(Nat.le_of_ble_eq_true rfl), (Nat.le_of_ble_eq_true rfl)⟩ (Nat.le_of_ble_eq_true rfl) (Nat.le_of_ble_eq_true rfl) ?_
  refine xj_if_ne (tgt := 35) dX7_jumped_29 rfl (fun c29 => ?_) (fun c29 => ?_)
  · have hb := b1_nz c29
    rw [(j_to hpl (by omega) d).1] at hb
    obtain ⟨hb0, hb1⟩ := of_decide_eq_true hb
    obtain ⟨T, hT⟩ : ∃ T : Nat, (T : Int) = (plc n r v n 0 : Int) + d.toInt := ⟨((plc n r v n 0 : Int) + d.toInt).toNat, by omega⟩
    rw [(j_to hpl (by omega) d).2 T hT (by omega)]
    refine xj_iload_n dX7_jumped_35 rfl ?_
    refine xj_if_le (tgt := 43) dX7_jumped_36 rfl (fun c36 => ?_) (fun c36 => ?_)
    · have hdn : ¬ 0 < d.toInt := fun q => by rw [Int32.le_iff_toInt_le] at c36; have : (0 : Int32).toInt = 0 := rfl; omega
      have hfin : jmD n v (-d.toInt).toNat (plc n r v n 0) r = o_jumped n r v d := by unfold o_jumped; rw [if_pos ⟨hb0, hb1⟩, if_neg hdn]
      refine xj_icm1 dX7_jumped_43 ?_
      refine xj_ist7 dX7_jumped_44 rfl ?_
      refine xj_iload_n dX7_jumped_46 rfl ?_
      refine xj_ist8 dX7_jumped_47 rfl ?_
      refine xj_iload dX7_jumped_49 rfl ?_
      refine xj_ist9 dX7_jumped_51 rfl ?_
      have lp : ∀ (K : Nat) (k : Nat) (p : Nat) (s : Nat), k < K → (T + k = p) → (p < n) → (s ∈ rws n) → (jmD n v k p s = o_jumped n r v d) → xJ E (yX7_jumped, cX7_jumped, 10, (some FieldType.int), []) (xR 2 0 0) (xrv (some (.int (o_jumped n r v d))) G) 0 0 53 [some (.ref 54), some (.int (nI r)), some (.int (nI v)), some (.int d), some (.int (nI (plc n r v n 0))), some (.long (nI T).toInt64), none, some (.int (-1)), some (.int (nI s)), some (.int (nI p))] [] G := by
        intro K
        induction K with
        | zero => intro k p s h; exact absurd h (Nat.not_lt_zero _)
        | succ K ih_lp =>
          intro k p s hK hk hp hm hs
          refine xj_iload dX7_jumped_53 rfl ?_
          refine xj_i2l dX7_jumped_55 ?_
          refine xj_lload dX7_jumped_56 rfl ?_
          refine xj_lcmp dX7_jumped_58 ?_
          refine xj_if_eq (tgt := 112) dX7_jumped_59 rfl (fun c59 => ?_) (fun c59 => ?_)
          · have hk0 : k = 0 := by have := (nI64_inj (by omega) (by omega)).mp ((lg_cmp_eq _ _).mp c59); omega
            subst hk0
            refine xj_iload dX7_jumped_112 rfl ?_
            exact xj_ireturn dX7_jumped_114 rfl rfl (xrv_i hs)
          · obtain ⟨k, rfl⟩ : ∃ k0, k = k0 + 1 := ⟨k - 1, by
              have : k ≠ 0 := fun h => c59 ((lg_cmp_eq _ _).mpr (by rw [show p = T by omega]))
              omega⟩
            have hs31 := R31 (by omega) hm
            have hs : (if v < dgt n s (p - 1) then -3 else jmD n v k (p - 1) (sw n s (p - 1))) = o_jumped n r v d := hs
            have hdl := dgt_lt n s (p - 1)
            refine xj_aload_n dX7_jumped_62 rfl rfl ?_
            refine xj_iload dX7_jumped_63 rfl ?_
            refine xj_iload dX7_jumped_65 rfl ?_
            refine xj_iload dX7_jumped_67 rfl ?_
            refine xj_iadd dX7_jumped_69 ?_
            refine xj_top (show nI p + -1 = nI (p - 1) by rw [show p = (p - 1) + 1 by omega]; exact pk_m1 (p - 1)) ?_
            refine xj_cV dX7_jumped_70 q2100 kV_X7_digit (M_digit hv hs31 (by omega)) hO rfl rfl rfl rfl (Nat.le_of_ble_eq_true rfl) ⟨(Nat.le_of_ble_eq_true rfl), (Nat.le_of_ble_eq_true rfl)⟩ (Nat.le_of_ble_eq_true rfl) (Nat.le_of_ble_eq_true rfl) ?_
            refine xj_iload_n dX7_jumped_73 rfl ?_
            refine xj_icmp_le (tgt := 80) dX7_jumped_74 rfl (fun c74 => ?_) (fun c74 => ?_)
            · rw [if_neg (Nat.not_lt.mpr ((nI_leI (by omega) (by omega)).mp c74))] at hs
              refine xj_aload_n dX7_jumped_80 rfl rfl ?_
              refine xj_iload dX7_jumped_81 rfl ?_
              refine xj_iload dX7_jumped_83 rfl ?_
              refine xj_if_le (tgt := 93) dX7_jumped_85 rfl (fun c85 => ?_) (fun c85 => absurd (by decide) c85)
              refine xj_iload dX7_jumped_93 rfl ?_
              refine xj_ic1 dX7_jumped_95 ?_
              refine xj_isub dX7_jumped_96 ?_
              refine xj_top (show nI p - 1 = nI (p - 1) from nI_sub1 (by omega)) ?_
              refine xj_cV dX7_jumped_97 q2172 kV_X7_swapAt (M_swapAt hv hm (by omega)) hO rfl rfl rfl rfl (Nat.le_of_ble_eq_true rfl) ⟨(Nat.le_of_ble_eq_true rfl), (Nat.le_of_ble_eq_true rfl)⟩ (Nat.le_of_ble_eq_true rfl) (Nat.le_of_ble_eq_true rfl) ?_
              refine xj_ist8 dX7_jumped_100 rfl ?_
              refine xj_iload dX7_jumped_102 rfl ?_
              refine xj_iload dX7_jumped_104 rfl ?_
              refine xj_iadd dX7_jumped_106 ?_
              refine xj_ist9 dX7_jumped_107 rfl ?_
              refine xj_goto (tgt := 53) dX7_jumped_109 rfl ?_
              rw [show nI p + -1 = nI (p - 1) by rw [show p = (p - 1) + 1 by omega]; exact pk_m1 (p - 1)]
              exact ih_lp k (p - 1) _ (by omega) (by omega) (by omega) (f_sw (by omega) hm (by omega)) hs
            · refine xj_bipush (v := -3) dX7_jumped_77 rfl ?_
              exact xj_ireturn dX7_jumped_79 rfl rfl (xrv_i (by rw [if_pos (Nat.lt_of_not_le fun h => c74 (nI_le h (by omega)))] at hs; exact hs))
      exact lp ((-d.toInt).toNat + 1) (-d.toInt).toNat (plc n r v n 0) r (by omega) (by omega) hpl hr hfin
    · have hdn : 0 < d.toInt := by rw [Int32.le_iff_toInt_le] at c36; have : (0 : Int32).toInt = 0 := rfl; omega
      have hfin : jmU n v d.toInt.toNat (plc n r v n 0) r = o_jumped n r v d := by unfold o_jumped; rw [if_pos ⟨hb0, hb1⟩, if_pos hdn]
      refine xj_ic1 dX7_jumped_39 ?_
      refine xj_goto (tgt := 44) dX7_jumped_40 rfl ?_
      refine xj_ist7 dX7_jumped_44 rfl ?_
      refine xj_iload_n dX7_jumped_46 rfl ?_
      refine xj_ist8 dX7_jumped_47 rfl ?_
      refine xj_iload dX7_jumped_49 rfl ?_
      refine xj_ist9 dX7_jumped_51 rfl ?_
      have lp : ∀ (K : Nat) (k : Nat) (p : Nat) (s : Nat), k < K → (p + k = T) → (p < n) → (s ∈ rws n) → (jmU n v k p s = o_jumped n r v d) → xJ E (yX7_jumped, cX7_jumped, 10, (some FieldType.int), []) (xR 2 0 0) (xrv (some (.int (o_jumped n r v d))) G) 0 0 53 [some (.ref 54), some (.int (nI r)), some (.int (nI v)), some (.int d), some (.int (nI (plc n r v n 0))), some (.long (nI T).toInt64), none, some (.int 1), some (.int (nI s)), some (.int (nI p))] [] G := by
        intro K
        induction K with
        | zero => intro k p s h; exact absurd h (Nat.not_lt_zero _)
        | succ K ih_lp =>
          intro k p s hK hk hp hm hs
          refine xj_iload dX7_jumped_53 rfl ?_
          refine xj_i2l dX7_jumped_55 ?_
          refine xj_lload dX7_jumped_56 rfl ?_
          refine xj_lcmp dX7_jumped_58 ?_
          refine xj_if_eq (tgt := 112) dX7_jumped_59 rfl (fun c59 => ?_) (fun c59 => ?_)
          · have hk0 : k = 0 := by have := (nI64_inj (by omega) (by omega)).mp ((lg_cmp_eq _ _).mp c59); omega
            subst hk0
            refine xj_iload dX7_jumped_112 rfl ?_
            exact xj_ireturn dX7_jumped_114 rfl rfl (xrv_i hs)
          · obtain ⟨k, rfl⟩ : ∃ k0, k = k0 + 1 := ⟨k - 1, by
              have : k ≠ 0 := fun h => c59 ((lg_cmp_eq _ _).mpr (by rw [show p = T by omega]))
              omega⟩
            have hs31 := R31 (by omega) hm
            have hs : (if v < dgt n s (p + 1) then -3 else jmU n v k (p + 1) (sw n s p)) = o_jumped n r v d := hs
            have hdl := dgt_lt n s (p + 1)
            refine xj_aload_n dX7_jumped_62 rfl rfl ?_
            refine xj_iload dX7_jumped_63 rfl ?_
            refine xj_iload dX7_jumped_65 rfl ?_
            refine xj_iload dX7_jumped_67 rfl ?_
            refine xj_iadd dX7_jumped_69 ?_
            refine xj_top (nI_1 p) ?_
            refine xj_cV dX7_jumped_70 q2100 kV_X7_digit (M_digit hv hs31 (by omega)) hO rfl rfl rfl rfl (Nat.le_of_ble_eq_true rfl) ⟨(Nat.le_of_ble_eq_true rfl), (Nat.le_of_ble_eq_true rfl)⟩ (Nat.le_of_ble_eq_true rfl) (Nat.le_of_ble_eq_true rfl) ?_
            refine xj_iload_n dX7_jumped_73 rfl ?_
            refine xj_icmp_le (tgt := 80) dX7_jumped_74 rfl (fun c74 => ?_) (fun c74 => ?_)
            · rw [if_neg (Nat.not_lt.mpr ((nI_leI (by omega) (by omega)).mp c74))] at hs
              refine xj_aload_n dX7_jumped_80 rfl rfl ?_
              refine xj_iload dX7_jumped_81 rfl ?_
              refine xj_iload dX7_jumped_83 rfl ?_
              refine xj_if_le (tgt := 93) dX7_jumped_85 rfl (fun c85 => absurd c85 (by decide)) (fun c85 => ?_)
              refine xj_iload dX7_jumped_88 rfl ?_
              refine xj_goto (tgt := 97) dX7_jumped_90 rfl ?_
              refine xj_cV dX7_jumped_97 q2172 kV_X7_swapAt (M_swapAt hv hm (by omega)) hO rfl rfl rfl rfl (Nat.le_of_ble_eq_true rfl) ⟨(Nat.le_of_ble_eq_true rfl), (Nat.le_of_ble_eq_true rfl)⟩ (Nat.le_of_ble_eq_true rfl) (Nat.le_of_ble_eq_true rfl) ?_
              refine xj_ist8 dX7_jumped_100 rfl ?_
              refine xj_iload dX7_jumped_102 rfl ?_
              refine xj_iload dX7_jumped_104 rfl ?_
              refine xj_iadd dX7_jumped_106 ?_
              refine xj_ist9 dX7_jumped_107 rfl ?_
              refine xj_goto (tgt := 53) dX7_jumped_109 rfl ?_
              rw [nI_1]
              exact ih_lp k (p + 1) _ (by omega) (by omega) (by omega) (f_sw (by omega) hm (by omega)) hs
            · refine xj_bipush (v := -3) dX7_jumped_77 rfl ?_
              exact xj_ireturn dX7_jumped_79 rfl rfl (xrv_i (by rw [if_pos (Nat.lt_of_not_le fun h => c74 (nI_le h (by omega)))] at hs; exact hs))
      exact lp (d.toInt.toNat + 1) d.toInt.toNat (plc n r v n 0) r (by omega) (by omega) hpl hr hfin
  · refine xj_bipush (v := -3) dX7_jumped_32 rfl ?_
    exact xj_ireturn dX7_jumped_34 rfl rfl (xrv_i (by have hb := b1_z c29; rw [(j_to hpl (by omega) d).1] at hb; unfold o_jumped; rw [if_neg (of_decide_eq_false hb)]))
theorem M_jump {x v d : Int32} (hv : mV c n G) : xMet E yX7_jump cX7_jump 4 (some FieldType.int) 3 0 0 [.ref 54, .int x, .int v, .int d] G (xrv (some (.int (o_jump n x v d))) G) := by
  obtain ⟨hO, hf0, h1n, hn6, hPw, hWy⟩ := id hv
  refine xMet.of (lv := [some (.ref 54), some (.int x), some (.int v), some (.int d)]) rfl rfl (Nat.le_of_ble_eq_true rfl) ?_
  refine xj_aload_n dX7_jump_0 rfl rfl ?_
  refine xj_iload_n dX7_jump_1 rfl ?_
  refine xj_cV dX7_jump_2 q2096 kV_X7_isRow (M_isRow hv) hO rfl rfl rfl rfl (Nat.le_of_ble_eq_true rfl) ⟨(Nat.le_of_ble_eq_true rfl), (Nat.le_of_ble_eq_true rfl)⟩ (Nat.le_of_ble_eq_true rfl) (Nat.le_of_ble_eq_true rfl) ?_
  refine xj_if_eq (tgt := 32) dX7_jump_5 rfl (fun c5 => ?_) (fun c5 => ?_)
  · refine xj_icm1 dX7_jump_32 ?_
    exact xj_ireturn dX7_jump_33 rfl rfl (xrv_i (by unfold o_jump; first | (rw [if_pos hbb, e1, e2]; done) | (rw [b1_z c5]; rfl) | (have hb2 := b1_z c19; rw [inB_1 (by omega)] at hb2; rw [hb2, Bool.and_false]; rfl)))
  · refine xj_iload_n dX7_jump_8 rfl ?_
    refine xj_i2l dX7_jump_9 ?_
    refine xj_lc1 dX7_jump_10 ?_
    refine xj_aload_n dX7_jump_11 rfl rfl ?_
    refine xj_get dX7_jump_12 K7 0 (by decide) q1929 hO (congrArg some hf0) ?_
    refine xj_i2l dX7_jump_15 ?_
    refine xj_cS dX7_jump_16 q2085 kS_X7_in M_in rfl rfl (Nat.le_of_ble_eq_true rfl) ⟨(Nat.le_of_ble_eq_true rfl), (Nat.le_of_ble_eq_true rfl)⟩ (Nat.le_of_ble_eq_true rfl) (Nat.le_of_ble_eq_true rfl) ?_
    refine xj_if_eq (tgt := 32) dX7_jump_19 rfl (fun c19 => ?_) (fun c19 => ?_)
    · refine xj_icm1 dX7_jump_32 ?_
      exact xj_ireturn dX7_jump_33 rfl rfl (xrv_i (by unfold o_jump; first | (rw [if_pos hbb, e1, e2]; done) | (rw [b1_z c5]; rfl) | (have hb2 := b1_z c19; rw [inB_1 (by omega)] at hb2; rw [hb2, Bool.and_false]; rfl)))
    · have hb1 := b1_nz c5
      have hb2 := b1_nz c19
      rw [inB_1 (by omega)] at hb2
      obtain ⟨r1, hr1, rfl⟩ := rowB_t (by omega) h1n hb1
      have e1 := tn_nI (by omega) hr1
      obtain ⟨k, hk, rfl, hk31⟩ := in1_t hb2
      have e2 : tn (nI (k + 1)) = k + 1 := nI_clamp hk31
      have hbb : (rowB n (nI r1) && in1 (nI (k + 1)) n) = true := by rw [hb1, hb2]; rfl
      refine xj_aload_n dX7_jump_22 rfl rfl ?_
      refine xj_iload_n dX7_jump_23 rfl ?_
      refine xj_iload_n dX7_jump_24 rfl ?_
      refine xj_iload_n dX7_jump_25 rfl ?_
      refine xj_cV dX7_jump_26 q2164 kV_X7_jumped (M_jumped hv hr1 (by omega) (by omega)) hO rfl rfl rfl rfl (Nat.le_of_ble_eq_true rfl) ⟨(Nat.le_of_ble_eq_true rfl), (Nat.le_of_ble_eq_true rfl)⟩ (Nat.le_of_ble_eq_true rfl) (Nat.le_of_ble_eq_true rfl) ?_
      refine xj_goto (tgt := 33) dX7_jump_29 rfl ?_
      exact xj_ireturn dX7_jump_33 rfl rfl (xrv_i (by unfold o_jump; first | (rw [if_pos hbb, e1, e2]; done) | (rw [b1_z c5]; rfl) | (have hb2 := b1_z c19; rw [inB_1 (by omega)] at hb2; rw [hb2, Bool.and_false]; rfl)))
end M11
