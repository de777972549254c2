/-! ===== the reference: what is gone, makers ===== -/
set_option maxRecDepth 100000
theorem kV_X7_closedBy : xsV yX7_closedBy cX7_closedBy 6 (some FieldType.long) 1 := ⟨q2270, qs107, q161, q2271, by decide, by decide, by decide +kernel⟩
theorem kV_X7_comes : xsV yX7_comes cX7_comes 6 (some FieldType.int) 2 := ⟨q2266, qs106, q161, q2267, by decide, by decide, by decide +kernel⟩
theorem kV_X7_isMaker : xsV yX7_isMaker cX7_isMaker 2 (some FieldType.boolean) 1 := ⟨q2245, qs102, q161, q2246, by decide, by decide, by decide +kernel⟩
theorem kV_X7_takenBy : xsV yX7_takenBy cX7_takenBy 6 (some FieldType.long) 2 := ⟨q2250, qs103, q161, q2251, by decide, by decide, by decide +kernel⟩
section M13
variable {E : xE} {G : xH} {c : Nat → Value} {n : Nat}
theorem M_contract {x : Int32} {g : Nat} (hv : mV c n G) (hf : mF c n G) (hf3 : c 3 = .long (lN g)) (hg : g < 2 ^ 57) : xMet E yX7_contract cX7_contract 2 (some FieldType.int) 3 0 0 [.ref 54, .int x] G (xrv (some (.int (o_contract n g x))) (sG G c (s_contract n g x))) := by
  obtain ⟨hO, hf0, h1n, hn6, hPw, hWy⟩ := id hv
  obtain ⟨hf17, L4, hL4, hFo⟩ := id hf
  have hna := na_lt n (by omega)
  refine xMet.of (lv := [some (.ref 54), some (.int x)]) rfl rfl (Nat.le_of_ble_eq_true rfl) ?_
  refine xj_aload_n dX7_contract_0 rfl rfl ?_
  refine xj_iload_n dX7_contract_1 rfl ?_
  refine xj_cV dX7_contract_2 q2188 kV_X7_isArc (M_isArc hv hf17) hO rfl rfl rfl rfl (Nat.le_of_ble_eq_true rfl) ⟨(Nat.le_of_ble_eq_true rfl), (Nat.le_of_ble_eq_true rfl)⟩ (Nat.le_of_ble_eq_true rfl) (Nat.le_of_ble_eq_true rfl) ?_
  refine xj_if_ne (tgt := 10) dX7_contract_5 rfl (fun c5 => ?_) (fun c5 => ?_)
  · have hb1 := b1_nz c5
    rw [inB_inI (na30 (by omega))] at hb1
    obtain ⟨k1, hk1, hk131, rfl⟩ := inI_t hb1
    have e1 : tn (nI k1) = k1 := nI_clamp hk131
    have h64 : k1 < 64 := by omega
    have hfo := fo_lt (n := n) (by omega) k1
    have hfc := fcr_lt (n := n) (by omega) k1
    refine xj_aload_n dX7_contract_10 rfl rfl ?_
    refine xj_dup dX7_contract_11 rfl ?_
    refine xj_get dX7_contract_12 K7 3 (by decide) q1932 hO (congrArg some hf3) ?_
    refine xj_aload_n dX7_contract_15 rfl rfl ?_
    refine xj_get dX7_contract_16 K7 16 (by decide) q1945 hO rfl ?_
    refine xj_iload_n dX7_contract_19 rfl ?_
    refine xj_lald dX7_contract_20 hL4 rfl hk131 (hFo k1 hk1) ?_
    refine xj_lor dX7_contract_21 ?_
    rw [wb_or (Nat.lt_trans hg (by decide)) (Nat.lt_trans hfo (by decide))]
    refine xj_put dX7_contract_22 K7 3 (by decide) q1932 rfl rfl hO (Nat.le_of_ble_eq_true rfl) ?_
    refine xj_eq rfl rfl (show _ = sG G c (g ||| fo n k1) from rfl) ?_
    refine xj_aload_n dX7_contract_25 rfl rfl ?_
    refine xj_get dX7_contract_26 K7 3 (by decide) q1932 (sG_O hO) rfl ?_
    refine xj_cS dX7_contract_29 q2124 kS_X7_ones (M_ones (Nat.lt_trans (Nat.or_lt_two_pow hg hfo) (by decide))) rfl rfl (Nat.le_of_ble_eq_true rfl) ⟨(Nat.le_of_ble_eq_true rfl), (Nat.le_of_ble_eq_true rfl)⟩ (Nat.le_of_ble_eq_true rfl) (Nat.le_of_ble_eq_true rfl) ?_
    exact xj_ireturn dX7_contract_32 rfl rfl ⟨by show Sum.inl _ = _; unfold o_contract; rw [if_pos hb1, e1], by unfold s_contract; rw [if_pos hb1, e1]⟩
  · refine xj_icm1 dX7_contract_8 ?_
    exact xj_ireturn dX7_contract_9 rfl rfl (by have hb1 := b1_z c5; rw [inB_inI (na30 (by omega))] at hb1; exact ⟨(by show Sum.inl _ = _; unfold o_contract; rw [hb1]; rfl), (by unfold s_contract; rw [hb1]; exact sG_id hO hf3)⟩)
theorem M_restore {x : Int32} {g : Nat} (hv : mV c n G) (hf : mF c n G) (hf3 : c 3 = .long (lN g)) (hg : g < 2 ^ 57) : xMet E yX7_restore cX7_restore 2 (some FieldType.int) 3 0 0 [.ref 54, .int x] G (xrv (some (.int (o_restore n g x))) (sG G c (s_restore n g x))) := by
  obtain ⟨hO, hf0, h1n, hn6, hPw, hWy⟩ := id hv
  obtain ⟨hf17, L4, hL4, hFo⟩ := id hf
  have hna := na_lt n (by omega)
  refine xMet.of (lv := [some (.ref 54), some (.int x)]) rfl rfl (Nat.le_of_ble_eq_true rfl) ?_
  refine xj_aload_n dX7_restore_0 rfl rfl ?_
  refine xj_iload_n dX7_restore_1 rfl ?_
  refine xj_cV dX7_restore_2 q2188 kV_X7_isArc (M_isArc hv hf17) hO rfl rfl rfl rfl (Nat.le_of_ble_eq_true rfl) ⟨(Nat.le_of_ble_eq_true rfl), (Nat.le_of_ble_eq_true rfl)⟩ (Nat.le_of_ble_eq_true rfl) (Nat.le_of_ble_eq_true rfl) ?_
  refine xj_if_ne (tgt := 10) dX7_restore_5 rfl (fun c5 => ?_) (fun c5 => ?_)
  · have hb1 := b1_nz c5
    rw [inB_inI (na30 (by omega))] at hb1
    obtain ⟨k1, hk1, hk131, rfl⟩ := inI_t hb1
    have e1 : tn (nI k1) = k1 := nI_clamp hk131
    have h64 : k1 < 64 := by omega
    have hfo := fo_lt (n := n) (by omega) k1
    have hfc := fcr_lt (n := n) (by omega) k1
    refine xj_aload_n dX7_restore_10 rfl rfl ?_
    refine xj_dup dX7_restore_11 rfl ?_
    refine xj_get dX7_restore_12 K7 3 (by decide) q1932 hO (congrArg some hf3) ?_
    refine xj_aload_n dX7_restore_15 rfl rfl ?_
    refine xj_iload_n dX7_restore_16 rfl ?_
    refine xj_cV dX7_restore_17 q2192 kV_X7_forcers (M_forcers hv hf h64) hO rfl rfl rfl rfl (Nat.le_of_ble_eq_true rfl) ⟨(Nat.le_of_ble_eq_true rfl), (Nat.le_of_ble_eq_true rfl)⟩ (Nat.le_of_ble_eq_true rfl) (Nat.le_of_ble_eq_true rfl) ?_
    refine xj_ldc2 dX7_restore_20 q2212 ?_
    refine xj_lxor dX7_restore_23 ?_
    refine xj_land dX7_restore_24 ?_
    rw [wb_andn (Nat.lt_trans hg (by decide)) (Nat.lt_trans hfc (by decide))]
    refine xj_put dX7_restore_25 K7 3 (by decide) q1932 rfl rfl hO (Nat.le_of_ble_eq_true rfl) ?_
    refine xj_eq rfl rfl (show _ = sG G c (andn g (fcr n k1)) from rfl) ?_
    refine xj_aload_n dX7_restore_28 rfl rfl ?_
    refine xj_get dX7_restore_29 K7 3 (by decide) q1932 (sG_O hO) rfl ?_
    refine xj_cS dX7_restore_32 q2124 kS_X7_ones (M_ones (Nat.lt_trans (andn_lt hg) (by decide))) rfl rfl (Nat.le_of_ble_eq_true rfl) ⟨(Nat.le_of_ble_eq_true rfl), (Nat.le_of_ble_eq_true rfl)⟩ (Nat.le_of_ble_eq_true rfl) (Nat.le_of_ble_eq_true rfl) ?_
    exact xj_ireturn dX7_restore_35 rfl rfl ⟨by show Sum.inl _ = _; unfold o_restore; rw [if_pos hb1, e1], by unfold s_restore; rw [if_pos hb1, e1]⟩
  · refine xj_icm1 dX7_restore_8 ?_
    exact xj_ireturn dX7_restore_9 rfl rfl (by have hb1 := b1_z c5; rw [inB_inI (na30 (by omega))] at hb1; exact ⟨(by show Sum.inl _ = _; unfold o_restore; rw [hb1]; rfl), (by unfold s_restore; rw [hb1]; exact sG_id hO hf3)⟩)
theorem M_clear {g : Nat} (hv : mV c n G) (hf3 : c 3 = .long (lN g)) (hg : g < 2 ^ 57) : xMet E yX7_clear cX7_clear 2 (some FieldType.int) 2 0 0 [.ref 54] G (xrv (some (.int (nI (pc64 g)))) (sG G c (0))) := by
  obtain ⟨hO, hf0, h1n, hn6, hPw, hWy⟩ := id hv
  refine xMet.of (lv := [some (.ref 54), none]) rfl rfl (Nat.le_of_ble_eq_true rfl) ?_
  refine xj_aload_n dX7_clear_0 rfl rfl ?_
  refine xj_get dX7_clear_1 K7 3 (by decide) q1932 hO (congrArg some hf3) ?_
  refine xj_cS dX7_clear_4 q2124 kS_X7_ones (M_ones (Nat.lt_trans hg (by decide))) rfl rfl (Nat.le_of_ble_eq_true rfl) ⟨(Nat.le_of_ble_eq_true rfl), (Nat.le_of_ble_eq_true rfl)⟩ (Nat.le_of_ble_eq_true rfl) (Nat.le_of_ble_eq_true rfl) ?_
  refine xj_istn1 dX7_clear_7 rfl ?_
  refine xj_aload_n dX7_clear_8 rfl rfl ?_
  refine xj_lc0 dX7_clear_9 ?_
  refine xj_put dX7_clear_10 K7 3 (by decide) q1932 rfl rfl hO (Nat.le_of_ble_eq_true rfl) ?_
  refine xj_eq rfl rfl (show _ = sG G c 0 from rfl) ?_
  refine xj_iload_n dX7_clear_13 rfl ?_
  exact xj_ireturn dX7_clear_14 rfl rfl ⟨rfl, rfl⟩
theorem M_gone {g : Nat} (hv : mV c n G) (hf3 : c 3 = .long (lN g)) (hg : g < 2 ^ 57) : xMet E yX7_gone cX7_gone 1 (some FieldType.long) 1 0 0 [.ref 54] G (xrv (some (.long (lN g))) G) := by
  obtain ⟨hO, hf0, h1n, hn6, hPw, hWy⟩ := id hv
  refine xMet.of (lv := [some (.ref 54)]) rfl rfl (Nat.le_of_ble_eq_true rfl) ?_
  refine xj_aload_n dX7_gone_0 rfl rfl ?_
  refine xj_get dX7_gone_1 K7 3 (by decide) q1932 hO (congrArg some hf3) ?_
  exact xj_lreturn dX7_gone_4 rfl ⟨rfl, rfl⟩
theorem M_comes {S g : Nat} {w : Int32} (hv : mV c n G) (hf : mF c n G) (hf3 : c 3 = .long (lN g)) (hg : g < 2 ^ 57) (hS : S < 2 ^ 57) : xMet E yX7_comes cX7_comes 6 (some FieldType.int) 3 0 0 [.ref 54, .long (lN S), .int w] G (xrv (some (.int (nI (pc64 (s_comes n g S w))))) (sG G c (s_comes n g S w))) := by
  obtain ⟨hO, hf0, h1n, hn6, hPw, hWy⟩ := id hv
  have hcl := clo_lt (n := n) (by omega) S
  refine xMet.of (lv := [some (.ref 54), some (.long (lN S)), none, some (.int w), none, none]) rfl rfl (Nat.le_of_ble_eq_true rfl) ?_
  refine xj_aload_n dX7_comes_0 rfl rfl ?_
  refine xj_lload_n dX7_comes_1 rfl ?_
  refine xj_cV dX7_comes_2 q2268 kV_X7_closedBy (M_closedBy hv hf (Nat.lt_trans hS (by decide))) hO rfl rfl rfl rfl (Nat.le_of_ble_eq_true rfl) ⟨(Nat.le_of_ble_eq_true rfl), (Nat.le_of_ble_eq_true rfl)⟩ (Nat.le_of_ble_eq_true rfl) (Nat.le_of_ble_eq_true rfl) ?_
  refine xj_lst4 dX7_comes_5 rfl ?_
  refine xj_aload_n dX7_comes_7 rfl rfl ?_
  refine xj_iload_n dX7_comes_8 rfl ?_
  refine xj_if_ne (tgt := 17) dX7_comes_9 rfl (fun c9 => ?_) (fun c9 => ?_)
  · refine xj_iload_n dX7_comes_17 rfl ?_
    refine xj_ic1 dX7_comes_18 ?_
    refine xj_icmp_ne (tgt := 32) dX7_comes_19 rfl (fun c19 => ?_) (fun c19 => ?_)
    · refine xj_aload_n dX7_comes_32 rfl rfl ?_
      refine xj_get dX7_comes_33 K7 3 (by decide) q1932 hO (congrArg some hf3) ?_
      refine xj_lload dX7_comes_36 rfl ?_
      refine xj_land dX7_comes_38 ?_
      refine xj_topl (y := lN (s_comes n g S w)) (by unfold s_comes; first | rw [if_pos c9] | rw [if_neg c9, if_pos c19, wb_or (Nat.lt_trans hg (by decide)) (Nat.lt_trans hcl (by decide))] | rw [if_neg c9, if_neg c19, wb_and (Nat.lt_trans hg (by decide)) (Nat.lt_trans hcl (by decide))]) ?_
      refine xj_put dX7_comes_39 K7 3 (by decide) q1932 rfl rfl hO (Nat.le_of_ble_eq_true rfl) ?_
      refine xj_eq rfl rfl (show _ = sG G c (s_comes n g S w) from rfl) ?_
      refine xj_aload_n dX7_comes_42 rfl rfl ?_
      refine xj_get dX7_comes_43 K7 3 (by decide) q1932 (sG_O hO) rfl ?_
      refine xj_cS dX7_comes_46 q2124 kS_X7_ones (M_ones (Nat.lt_trans (s_comes_lt (by omega) hg) (by decide))) rfl rfl (Nat.le_of_ble_eq_true rfl) ⟨(Nat.le_of_ble_eq_true rfl), (Nat.le_of_ble_eq_true rfl)⟩ (Nat.le_of_ble_eq_true rfl) (Nat.le_of_ble_eq_true rfl) ?_
      exact xj_ireturn dX7_comes_49 rfl rfl ⟨rfl, rfl⟩
    · refine xj_aload_n dX7_comes_22 rfl rfl ?_
      refine xj_get dX7_comes_23 K7 3 (by decide) q1932 hO (congrArg some hf3) ?_
      refine xj_lload dX7_comes_26 rfl ?_
      refine xj_lor dX7_comes_28 ?_
      refine xj_goto (tgt := 39) dX7_comes_29 rfl ?_
      refine xj_topl (y := lN (s_comes n g S w)) (by unfold s_comes; first | rw [if_pos c9] | rw [if_neg c9, if_pos c19, wb_or (Nat.lt_trans hg (by decide)) (Nat.lt_trans hcl (by decide))] | rw [if_neg c9, if_neg c19, wb_and (Nat.lt_trans hg (by decide)) (Nat.lt_trans hcl (by decide))]) ?_
      refine xj_put dX7_comes_39 K7 3 (by decide) q1932 rfl rfl hO (Nat.le_of_ble_eq_true rfl) ?_
      refine xj_eq rfl rfl (show _ = sG G c (s_comes n g S w) from rfl) ?_
      refine xj_aload_n dX7_comes_42 rfl rfl ?_
      refine xj_get dX7_comes_43 K7 3 (by decide) q1932 (sG_O hO) rfl ?_
      refine xj_cS dX7_comes_46 q2124 kS_X7_ones (M_ones (Nat.lt_trans (s_comes_lt (by omega) hg) (by decide))) rfl rfl (Nat.le_of_ble_eq_true rfl) ⟨(Nat.le_of_ble_eq_true rfl), (Nat.le_of_ble_eq_true rfl)⟩ (Nat.le_of_ble_eq_true rfl) (Nat.le_of_ble_eq_true rfl) ?_
      exact xj_ireturn dX7_comes_49 rfl rfl ⟨rfl, rfl⟩
  · refine xj_lload dX7_comes_12 rfl ?_
    refine xj_goto (tgt := 39) dX7_comes_14 rfl ?_
    refine xj_topl (y := lN (s_comes n g S w)) (by unfold s_comes; first | rw [if_pos c9] | rw [if_neg c9, if_pos c19, wb_or (Nat.lt_trans hg (by decide)) (Nat.lt_trans hcl (by decide))] | rw [if_neg c9, if_neg c19, wb_and (Nat.lt_trans hg (by decide)) (Nat.lt_trans hcl (by decide))]) ?_
    refine xj_put dX7_comes_39 K7 3 (by decide) q1932 rfl rfl hO (Nat.le_of_ble_eq_true rfl) ?_
    refine xj_eq rfl rfl (show _ = sG G c (s_comes n g S w) from rfl) ?_
    refine xj_aload_n dX7_comes_42 rfl rfl ?_
    refine xj_get dX7_comes_43 K7 3 (by decide) q1932 (sG_O hO) rfl ?_
    refine xj_cS dX7_comes_46 q2124 kS_X7_ones (M_ones (Nat.lt_trans (s_comes_lt (by omega) hg) (by decide))) rfl rfl (Nat.le_of_ble_eq_true rfl) ⟨(Nat.le_of_ble_eq_true rfl), (Nat.le_of_ble_eq_true rfl)⟩ (Nat.le_of_ble_eq_true rfl) (Nat.le_of_ble_eq_true rfl) ?_
    exact xj_ireturn dX7_comes_49 rfl rfl ⟨rfl, rfl⟩
theorem M_isMaker {k : Int32} {l : List (Nat × Nat)} (hv : mV c n G) (hf2 : c 2 = .int (nI l.length)) (hl6 : l.length ≤ 6) : xMet E yX7_isMaker cX7_isMaker 2 (some FieldType.boolean) 1 0 0 [.ref 54, .int k] G (xrv (some (.int (b1 (inI k l.length)))) G) := by
  obtain ⟨hO, hf0, h1n, hn6, hPw, hWy⟩ := id hv
  refine xMet.of (lv := [some (.ref 54), some (.int k)]) rfl rfl (Nat.le_of_ble_eq_true rfl) ?_
  refine xj_iload_n dX7_isMaker_0 rfl ?_
  refine xj_i2l dX7_isMaker_1 ?_
  refine xj_lc0 dX7_isMaker_2 ?_
  refine xj_aload_n dX7_isMaker_3 rfl rfl ?_
  refine xj_get dX7_isMaker_4 K7 2 (by decide) q1931 hO (congrArg some hf2) ?_
  refine xj_ic1 dX7_isMaker_7 ?_
  refine xj_isub dX7_isMaker_8 ?_
  refine xj_i2l dX7_isMaker_9 ?_
  refine xj_cS dX7_isMaker_10 q2085 kS_X7_in M_in rfl rfl (Nat.le_of_ble_eq_true rfl) ⟨(Nat.le_of_ble_eq_true rfl), (Nat.le_of_ble_eq_true rfl)⟩ (Nat.le_of_ble_eq_true rfl) (Nat.le_of_ble_eq_true rfl) ?_
  exact xj_ireturn dX7_isMaker_13 rfl (b1_nar _) (xrv_i (by rw [inB_inI (by omega)]))
theorem M_makerIs {k w : Int32} {l : List (Nat × Nat)} (hv : mV c n G) (ha : mA n G) (hf17 : c 17 = .int (nI (na n))) (hm : mM c l G) : xMet E yX7_makerIs cX7_makerIs 3 (some FieldType.int) 5 0 0 [.ref 54, .int k, .int w] G (xrv (some (.int (o_makerIs n l k w))) G) := by
  obtain ⟨hO, hf0, h1n, hn6, hPw, hWy⟩ := id hv
  obtain ⟨hf2, K, M, h55, h56, hK6, hM6, hl6, hKM⟩ := id hm
  refine xMet.of (lv := [some (.ref 54), some (.int k), some (.int w)]) rfl rfl (Nat.le_of_ble_eq_true rfl) ?_
  refine xj_aload_n dX7_makerIs_0 rfl rfl ?_
  refine xj_iload_n dX7_makerIs_1 rfl ?_
  refine xj_cV dX7_makerIs_2 q2243 kV_X7_isMaker (M_isMaker hv hf2 hl6) hO rfl rfl rfl rfl (Nat.le_of_ble_eq_true rfl) ⟨(Nat.le_of_ble_eq_true rfl), (Nat.le_of_ble_eq_true rfl)⟩ (Nat.le_of_ble_eq_true rfl) (Nat.le_of_ble_eq_true rfl) ?_
  refine xj_if_eq (tgt := 20) dX7_makerIs_5 rfl (fun c5 => ?_) (fun c5 => ?_)
  · refine xj_icm1 dX7_makerIs_20 ?_
    exact xj_ireturn dX7_makerIs_21 rfl rfl (xrv_i (by unfold o_makerIs; first | (rw [b1_z c5]; rfl) | (have hb2 := b1_z c17; rw [inB_c2] at hb2; rw [hb2, Bool.and_false]; rfl)))
  · refine xj_iload_n dX7_makerIs_8 rfl ?_
    refine xj_i2l dX7_makerIs_9 ?_
    refine xj_lc0 dX7_makerIs_10 ?_
    refine xj_ldc2 dX7_makerIs_11 q2247 ?_
    refine xj_cS dX7_makerIs_14 q2085 kS_X7_in M_in rfl rfl (Nat.le_of_ble_eq_true rfl) ⟨(Nat.le_of_ble_eq_true rfl), (Nat.le_of_ble_eq_true rfl)⟩ (Nat.le_of_ble_eq_true rfl) (Nat.le_of_ble_eq_true rfl) ?_
    refine xj_if_ne (tgt := 22) dX7_makerIs_17 rfl (fun c17 => ?_) (fun c17 => ?_)
    · have hb1 := b1_nz c5
      have hb2 := b1_nz c17
      rw [inB_c2] at hb2
      obtain ⟨j, hj, hj31, rfl⟩ := inI_t hb1
      have e1 : tn (nI j) = j := nI_clamp hj31
      obtain ⟨hkj, hmj, hk6, hm16⟩ := hKM j _ (mkAt_some hj)
      have hbb : (inI (nI j) l.length && inI w 3) = true := by rw [hb1, hb2]; rfl
      refine xj_iload_n dX7_makerIs_22 rfl ?_
      refine xj_if_ne (tgt := 35) dX7_makerIs_23 rfl (fun c23 => ?_) (fun c23 => ?_)
      · refine xj_iload_n dX7_makerIs_35 rfl ?_
        refine xj_ic1 dX7_makerIs_36 ?_
        refine xj_icmp_ne (tgt := 49) dX7_makerIs_37 rfl (fun c37 => ?_) (fun c37 => ?_)
        · refine xj_aload_n dX7_makerIs_49 rfl rfl ?_
          refine xj_aload_n dX7_makerIs_50 rfl rfl ?_
          refine xj_get dX7_makerIs_51 K7 4 (by decide) q1933 hO rfl ?_
          refine xj_iload_n dX7_makerIs_54 rfl ?_
          refine xj_iald dX7_makerIs_55 h55 rfl hj31 hkj ?_
          refine xj_aload_n dX7_makerIs_56 rfl rfl ?_
          refine xj_get dX7_makerIs_57 K7 5 (by decide) q1934 hO rfl ?_
          refine xj_iload_n dX7_makerIs_60 rfl ?_
          refine xj_iald dX7_makerIs_61 h56 rfl hj31 hmj ?_
          refine xj_cV dX7_makerIs_62 q2248 kV_X7_takenBy (M_takenBy hv ha hf17 hm16 hk6) hO rfl rfl rfl rfl (Nat.le_of_ble_eq_true rfl) ⟨(Nat.le_of_ble_eq_true rfl), (Nat.le_of_ble_eq_true rfl)⟩ (Nat.le_of_ble_eq_true rfl) (Nat.le_of_ble_eq_true rfl) ?_
          refine xj_cS dX7_makerIs_65 q2124 kS_X7_ones (M_ones (Nat.lt_trans (tkS_lt (by omega)) (by decide))) rfl rfl (Nat.le_of_ble_eq_true rfl) ⟨(Nat.le_of_ble_eq_true rfl), (Nat.le_of_ble_eq_true rfl)⟩ (Nat.le_of_ble_eq_true rfl) (Nat.le_of_ble_eq_true rfl) ?_
          exact xj_ireturn dX7_makerIs_68 rfl rfl (xrv_i (by unfold o_makerIs; rw [if_pos hbb, e1]; first | (rw [if_pos c23]; done) | (rw [if_neg c23, if_pos c37]; done) | (rw [if_neg c23, if_neg c37]; done)))
        · refine xj_aload_n dX7_makerIs_40 rfl rfl ?_
          refine xj_get dX7_makerIs_41 K7 5 (by decide) q1934 hO rfl ?_
          refine xj_iload_n dX7_makerIs_44 rfl ?_
          refine xj_iald dX7_makerIs_45 h56 rfl hj31 hmj ?_
          refine xj_goto (tgt := 68) dX7_makerIs_46 rfl ?_
          exact xj_ireturn dX7_makerIs_68 rfl rfl (xrv_i (by unfold o_makerIs; rw [if_pos hbb, e1]; first | (rw [if_pos c23]; done) | (rw [if_neg c23, if_pos c37]; done) | (rw [if_neg c23, if_neg c37]; done)))
      · refine xj_aload_n dX7_makerIs_26 rfl rfl ?_
        refine xj_get dX7_makerIs_27 K7 4 (by decide) q1933 hO rfl ?_
        refine xj_iload_n dX7_makerIs_30 rfl ?_
        refine xj_iald dX7_makerIs_31 h55 rfl hj31 hkj ?_
        refine xj_goto (tgt := 68) dX7_makerIs_32 rfl ?_
        exact xj_ireturn dX7_makerIs_68 rfl rfl (xrv_i (by unfold o_makerIs; rw [if_pos hbb, e1]; first | (rw [if_pos c23]; done) | (rw [if_neg c23, if_pos c37]; done) | (rw [if_neg c23, if_neg c37]; done)))
    · refine xj_icm1 dX7_makerIs_20 ?_
      exact xj_ireturn dX7_makerIs_21 rfl rfl (xrv_i (by unfold o_makerIs; first | (rw [b1_z c5]; rfl) | (have hb2 := b1_z c17; rw [inB_c2] at hb2; rw [hb2, Bool.and_false]; rfl)))
theorem M_make {k w : Int32} {l : List (Nat × Nat)} {g : Nat} (hv : mV c n G) (ha : mA n G) (hf : mF c n G) (hf3 : c 3 = .long (lN g)) (hg : g < 2 ^ 57) (hm : mM c l G) : xMet E yX7_make cX7_make 3 (some FieldType.int) 5 0 0 [.ref 54, .int k, .int w] G (xrv (some (.int (o_make n g l k w))) (sG G c (s_make n g l k w))) := by
  obtain ⟨hO, hf0, h1n, hn6, hPw, hWy⟩ := id hv
  obtain ⟨hf17, L4, hL4, hFo⟩ := id hf
  have hna := na_lt n (by omega)
  obtain ⟨hf2, K, M, h55, h56, hK6, hM6, hl6, hKM⟩ := id hm
  refine xMet.of (lv := [some (.ref 54), some (.int k), some (.int w)]) rfl rfl (Nat.le_of_ble_eq_true rfl) ?_
  refine xj_aload_n dX7_make_0 rfl rfl ?_
  refine xj_iload_n dX7_make_1 rfl ?_
  refine xj_cV dX7_make_2 q2243 kV_X7_isMaker (M_isMaker hv hf2 hl6) hO rfl rfl rfl rfl (Nat.le_of_ble_eq_true rfl) ⟨(Nat.le_of_ble_eq_true rfl), (Nat.le_of_ble_eq_true rfl)⟩ (Nat.le_of_ble_eq_true rfl) (Nat.le_of_ble_eq_true rfl) ?_
  refine xj_if_eq (tgt := 44) dX7_make_5 rfl (fun c5 => ?_) (fun c5 => ?_)
  · refine xj_icm1 dX7_make_44 ?_
    exact xj_ireturn dX7_make_45 rfl rfl (by first | exact ⟨by show Sum.inl _ = _; unfold o_make; rw [if_pos hbb, e1], by unfold s_make; rw [if_pos hbb, e1]⟩ | exact ⟨by show Sum.inl _ = _; unfold o_make; rw [b1_z c5]; rfl, by unfold s_make; rw [b1_z c5]; exact sG_id hO hf3⟩ | (have hb2 := b1_z c17; rw [inB_c2] at hb2; exact ⟨by show Sum.inl _ = _; unfold o_make; rw [hb2, Bool.and_false]; rfl, by unfold s_make; rw [hb2, Bool.and_false]; exact sG_id hO hf3⟩))
  · refine xj_iload_n dX7_make_8 rfl ?_
    refine xj_i2l dX7_make_9 ?_
    refine xj_lc0 dX7_make_10 ?_
    refine xj_ldc2 dX7_make_11 q2247 ?_
    refine xj_cS dX7_make_14 q2085 kS_X7_in M_in rfl rfl (Nat.le_of_ble_eq_true rfl) ⟨(Nat.le_of_ble_eq_true rfl), (Nat.le_of_ble_eq_true rfl)⟩ (Nat.le_of_ble_eq_true rfl) (Nat.le_of_ble_eq_true rfl) ?_
    refine xj_if_eq (tgt := 44) dX7_make_17 rfl (fun c17 => ?_) (fun c17 => ?_)
    · refine xj_icm1 dX7_make_44 ?_
      exact xj_ireturn dX7_make_45 rfl rfl (by first | exact ⟨by show Sum.inl _ = _; unfold o_make; rw [if_pos hbb, e1], by unfold s_make; rw [if_pos hbb, e1]⟩ | exact ⟨by show Sum.inl _ = _; unfold o_make; rw [b1_z c5]; rfl, by unfold s_make; rw [b1_z c5]; exact sG_id hO hf3⟩ | (have hb2 := b1_z c17; rw [inB_c2] at hb2; exact ⟨by show Sum.inl _ = _; unfold o_make; rw [hb2, Bool.and_false]; rfl, by unfold s_make; rw [hb2, Bool.and_false]; exact sG_id hO hf3⟩))
    · have hb1 := b1_nz c5
      have hb2 := b1_nz c17
      rw [inB_c2] at hb2
      obtain ⟨j, hj, hj31, rfl⟩ := inI_t hb1
      have e1 : tn (nI j) = j := nI_clamp hj31
      obtain ⟨hkj, hmj, hk6, hm16⟩ := hKM j _ (mkAt_some hj)
      have hbb : (inI (nI j) l.length && inI w 3) = true := by rw [hb1, hb2]; rfl
      refine xj_aload_n dX7_make_20 rfl rfl ?_
      refine xj_aload_n dX7_make_21 rfl rfl ?_
      refine xj_aload_n dX7_make_22 rfl rfl ?_
      refine xj_get dX7_make_23 K7 4 (by decide) q1933 hO rfl ?_
      refine xj_iload_n dX7_make_26 rfl ?_
      refine xj_iald dX7_make_27 h55 rfl hj31 hkj ?_
      refine xj_aload_n dX7_make_28 rfl rfl ?_
      refine xj_get dX7_make_29 K7 5 (by decide) q1934 hO rfl ?_
      refine xj_iload_n dX7_make_32 rfl ?_
      refine xj_iald dX7_make_33 h56 rfl hj31 hmj ?_
      refine xj_cV dX7_make_34 q2248 kV_X7_takenBy (M_takenBy hv ha hf17 hm16 hk6) hO rfl rfl rfl rfl (Nat.le_of_ble_eq_true rfl) ⟨(Nat.le_of_ble_eq_true rfl), (Nat.le_of_ble_eq_true rfl)⟩ (Nat.le_of_ble_eq_true rfl) (Nat.le_of_ble_eq_true rfl) ?_
      refine xj_iload_n dX7_make_37 rfl ?_
      refine xj_cV dX7_make_38 q2264 kV_X7_comes (M_comes hv hf hf3 hg (tkS_lt (by omega))) hO rfl rfl rfl rfl (Nat.le_of_ble_eq_true rfl) ⟨(Nat.le_of_ble_eq_true rfl), (Nat.le_of_ble_eq_true rfl)⟩ (Nat.le_of_ble_eq_true rfl) (Nat.le_of_ble_eq_true rfl) ?_
      refine xj_goto (tgt := 45) dX7_make_41 rfl ?_
      exact xj_ireturn dX7_make_45 rfl rfl (by first | exact ⟨by show Sum.inl _ = _; unfold o_make; rw [if_pos hbb, e1], by unfold s_make; rw [if_pos hbb, e1]⟩ | exact ⟨by show Sum.inl _ = _; unfold o_make; rw [b1_z c5]; rfl, by unfold s_make; rw [b1_z c5]; exact sG_id hO hf3⟩ | (have hb2 := b1_z c17; rw [inB_c2] at hb2; exact ⟨by show Sum.inl _ = _; unfold o_make; rw [hb2, Bool.and_false]; rfl, by unfold s_make; rw [hb2, Bool.and_false]; exact sG_id hO hf3⟩))
theorem M_isUnder {kd as : Int32} : xMet E yX7_isUnder cX7_isUnder 2 (some FieldType.boolean) 1 0 0 [.int kd, .int as] G (xrv (some (.int (b1 (undB kd as)))) G) := by
  refine xMet.of (lv := [some (.int kd), some (.int as)]) rfl rfl (Nat.le_of_ble_eq_true rfl) ?_
  refine xj_iload_n dX7_isUnder_0 rfl ?_
  refine xj_if_eq (tgt := 34) dX7_isUnder_1 rfl (fun c1 => ?_) (fun c1 => ?_)
  · refine xj_ic1 dX7_isUnder_34 ?_
    refine xj_goto (tgt := 39) dX7_isUnder_35 rfl ?_
    exact xj_ireturn dX7_isUnder_39 rfl (by rfl) (xrv_i (by unfold undB; simp_all <;> rfl))
  · refine xj_iload_n dX7_isUnder_4 rfl ?_
    refine xj_iload_n dX7_isUnder_5 rfl ?_
    refine xj_icmp_eq (tgt := 34) dX7_isUnder_6 rfl (fun c6 => ?_) (fun c6 => ?_)
    · refine xj_ic1 dX7_isUnder_34 ?_
      refine xj_goto (tgt := 39) dX7_isUnder_35 rfl ?_
      exact xj_ireturn dX7_isUnder_39 rfl (by rfl) (xrv_i (by unfold undB; simp_all <;> rfl))
    · refine xj_iload_n dX7_isUnder_9 rfl ?_
      refine xj_ic1 dX7_isUnder_10 ?_
      refine xj_icmp_ne (tgt := 24) dX7_isUnder_11 rfl (fun c11 => ?_) (fun c11 => ?_)
      · refine xj_iload_n dX7_isUnder_24 rfl ?_
        refine xj_ic2 dX7_isUnder_25 ?_
        refine xj_icmp_ne (tgt := 38) dX7_isUnder_26 rfl (fun c26 => ?_) (fun c26 => ?_)
        · refine xj_ic0 dX7_isUnder_38 ?_
          exact xj_ireturn dX7_isUnder_39 rfl (by rfl) (xrv_i (by unfold undB; simp_all <;> rfl))
        · refine xj_iload_n dX7_isUnder_29 rfl ?_
          refine xj_ic5 dX7_isUnder_30 ?_
          refine xj_icmp_ne (tgt := 38) dX7_isUnder_31 rfl (fun c31 => ?_) (fun c31 => ?_)
          · refine xj_ic0 dX7_isUnder_38 ?_
            exact xj_ireturn dX7_isUnder_39 rfl (by rfl) (xrv_i (by unfold undB; simp_all <;> rfl))
          · refine xj_ic1 dX7_isUnder_34 ?_
            refine xj_goto (tgt := 39) dX7_isUnder_35 rfl ?_
            exact xj_ireturn dX7_isUnder_39 rfl (by rfl) (xrv_i (by unfold undB; simp_all <;> rfl))
      · refine xj_iload_n dX7_isUnder_14 rfl ?_
        refine xj_ic3 dX7_isUnder_15 ?_
        refine xj_icmp_eq (tgt := 34) dX7_isUnder_16 rfl (fun c16 => ?_) (fun c16 => ?_)
        · refine xj_ic1 dX7_isUnder_34 ?_
          refine xj_goto (tgt := 39) dX7_isUnder_35 rfl ?_
          exact xj_ireturn dX7_isUnder_39 rfl (by rfl) (xrv_i (by unfold undB; simp_all <;> rfl))
        · refine xj_iload_n dX7_isUnder_19 rfl ?_
          refine xj_ic4 dX7_isUnder_20 ?_
          refine xj_icmp_eq (tgt := 34) dX7_isUnder_21 rfl (fun c21 => ?_) (fun c21 => ?_)
          · refine xj_ic1 dX7_isUnder_34 ?_
            refine xj_goto (tgt := 39) dX7_isUnder_35 rfl ?_
            exact xj_ireturn dX7_isUnder_39 rfl (by rfl) (xrv_i (by unfold undB; simp_all <;> rfl))
          · refine xj_iload_n dX7_isUnder_24 rfl ?_
            refine xj_ic2 dX7_isUnder_25 ?_
            refine xj_icmp_ne (tgt := 38) dX7_isUnder_26 rfl (fun c26 => ?_) (fun c26 => ?_)
            · refine xj_ic0 dX7_isUnder_38 ?_
              exact xj_ireturn dX7_isUnder_39 rfl (by rfl) (xrv_i (by unfold undB; simp_all <;> rfl))
            · refine xj_iload_n dX7_isUnder_29 rfl ?_
              refine xj_ic5 dX7_isUnder_30 ?_
              refine xj_icmp_ne (tgt := 38) dX7_isUnder_31 rfl (fun c31 => ?_) (fun c31 => ?_)
              · refine xj_ic0 dX7_isUnder_38 ?_
                exact xj_ireturn dX7_isUnder_39 rfl (by rfl) (xrv_i (by unfold undB; simp_all <;> rfl))
              · refine xj_ic1 dX7_isUnder_34 ?_
                refine xj_goto (tgt := 39) dX7_isUnder_35 rfl ?_
                exact xj_ireturn dX7_isUnder_39 rfl (by rfl) (xrv_i (by unfold undB; simp_all <;> rfl))
theorem M_maker {x y : Int32} {l : List (Nat × Nat)} (hv : mV c n G) (hm : mM c l G) : xMet E yX7_maker cX7_maker 3 (some FieldType.int) 1 0 0 [.ref 54, .int x, .int y] G (xre (fun v G' => v = some (.int (o_maker l x y)) ∧ ∃ K M : List Int32, mML K M (s_maker l x y) ∧ G' = ((G.set 55 (cI 0 K)).set 56 (cI 0 M)).set 54 (cO 7 (mFs (cu c 2 (.int (nI (s_maker l x y).length))))))) := by
  obtain ⟨hO, hf0, h1n, hn6, hPw, hWy⟩ := id hv
  obtain ⟨hf2, K, M, h55, h56, hK6, hM6, hl6, hKM⟩ := id hm
  refine xMet.of (lv := [some (.ref 54), some (.int x), some (.int y)]) rfl rfl (Nat.le_of_ble_eq_true rfl) ?_
  refine xj_iload_n dX7_maker_0 rfl ?_
  refine xj_i2l dX7_maker_1 ?_
  refine xj_lc0 dX7_maker_2 ?_
  refine xj_ldc2 dX7_maker_3 q2237 ?_
  refine xj_cS dX7_maker_6 q2085 kS_X7_in M_in rfl rfl (Nat.le_of_ble_eq_true rfl) ⟨(Nat.le_of_ble_eq_true rfl), (Nat.le_of_ble_eq_true rfl)⟩ (Nat.le_of_ble_eq_true rfl) (Nat.le_of_ble_eq_true rfl) ?_
  refine xj_if_eq (tgt := 24) dX7_maker_9 rfl (fun c9 => ?_) (fun c9 => ?_)
  · refine xj_icm1 dX7_maker_24 ?_
    exact xj_ireturn dX7_maker_25 rfl rfl (by first | exact ⟨by unfold o_maker; have hb1 := b1_z c9; rw [inB_c5] at hb1; rw [hb1]; rfl, K, M, by unfold s_maker; have hb1 := b1_z c9; rw [inB_c5] at hb1; rw [hb1]; exact ⟨hK6, hM6, hl6, hKM⟩, by unfold s_maker; have hb1 := b1_z c9; rw [inB_c5] at hb1; rw [hb1]; exact ((show ((G.set 55 (cI 0 K)).set 56 (cI 0 M)).set 54 (cO 7 (mFs (cu c 2 (.int (nI l.length))))) = G by rw [gset_id h55, gset_id h56, ← hf2]; exact gset_id hO).symm)⟩ | (have hb2 := b1_z c21; rw [inB_c15] at hb2; exact ⟨by unfold o_maker; rw [hb2, Bool.and_false]; rfl, K, M, by unfold s_maker; rw [hb2, Bool.and_false]; exact ⟨hK6, hM6, hl6, hKM⟩, by unfold s_maker; rw [hb2, Bool.and_false]; exact ((show ((G.set 55 (cI 0 K)).set 56 (cI 0 M)).set 54 (cO 7 (mFs (cu c 2 (.int (nI l.length))))) = G by rw [gset_id h55, gset_id h56, ← hf2]; exact gset_id hO).symm)⟩))
  · refine xj_iload_n dX7_maker_12 rfl ?_
    refine xj_i2l dX7_maker_13 ?_
    refine xj_lc0 dX7_maker_14 ?_
    refine xj_ldc2 dX7_maker_15 q2238 ?_
    refine xj_cS dX7_maker_18 q2085 kS_X7_in M_in rfl rfl (Nat.le_of_ble_eq_true rfl) ⟨(Nat.le_of_ble_eq_true rfl), (Nat.le_of_ble_eq_true rfl)⟩ (Nat.le_of_ble_eq_true rfl) (Nat.le_of_ble_eq_true rfl) ?_
    refine xj_if_ne (tgt := 26) dX7_maker_21 rfl (fun c21 => ?_) (fun c21 => ?_)
    · have hb1 := b1_nz c9
      have hb2 := b1_nz c21
      rw [inB_c5] at hb1
      rw [inB_c15] at hb2
      obtain ⟨a, ha6, ha31, rfl⟩ := inI_t hb1
      obtain ⟨b, hb16, hb31, rfl⟩ := inI_t hb2
      have e1 : tn (nI a) = a := nI_clamp ha31
      have e2 : tn (nI b) = b := nI_clamp hb31
      have hbb : (inI (nI a) 6 && inI (nI b) 16) = true := by rw [hb1, hb2]; rfl
      refine xj_aload_n dX7_maker_26 rfl rfl ?_
      refine xj_get dX7_maker_27 K7 2 (by decide) q1931 hO (congrArg some hf2) ?_
      refine xj_bipush (v := 6) dX7_maker_30 rfl ?_
      refine xj_icmp_ne (tgt := 38) dX7_maker_32 rfl (fun c32 => ?_) (fun c32 => ?_)
      · have h6 : l.length < 6 := by
          have : l.length ≠ 6 := fun h => c32 (by rw [h]; rfl)
          omega
        refine xj_aload_n dX7_maker_38 rfl rfl ?_
        refine xj_get dX7_maker_39 K7 4 (by decide) q1933 hO rfl ?_
        refine xj_aload_n dX7_maker_42 rfl rfl ?_
        refine xj_get dX7_maker_43 K7 2 (by decide) q1931 hO (congrArg some hf2) ?_
        refine xj_iload_n dX7_maker_46 rfl ?_
        refine xj_iast dX7_maker_47 h55 rfl (by omega) (by omega) ?_
        have hO2 : (G.set 55 (cI 0 (K.set l.length (nI a))))[54]? = some (cO 7 (mFs c)) := by rw [gset (by decide)]; exact hO
        have h562 : (G.set 55 (cI 0 (K.set l.length (nI a))))[56]? = some (cI 0 M) := by rw [gset (by decide)]; exact h56
        refine xj_aload_n dX7_maker_48 rfl rfl ?_
        refine xj_get dX7_maker_49 K7 5 (by decide) q1934 hO2 rfl ?_
        refine xj_aload_n dX7_maker_52 rfl rfl ?_
        refine xj_get dX7_maker_53 K7 2 (by decide) q1931 hO2 (congrArg some hf2) ?_
        refine xj_iload_n dX7_maker_56 rfl ?_
        refine xj_iast dX7_maker_57 h562 rfl (by omega) (by omega) ?_
        have hO3 : ((G.set 55 (cI 0 (K.set l.length (nI a)))).set 56 (cI 0 (M.set l.length (nI b))))[54]? = some (cO 7 (mFs c)) := by rw [gset (by decide), gset (by decide)]; exact hO
        refine xj_aload_n dX7_maker_58 rfl rfl ?_
        refine xj_dup dX7_maker_59 rfl ?_
        refine xj_get dX7_maker_60 K7 2 (by decide) q1931 hO3 (congrArg some hf2) ?_
        refine xj_ic1 dX7_maker_63 ?_
        refine xj_iadd dX7_maker_64 ?_
        refine xj_put dX7_maker_65 K7 2 (by decide) q1931 rfl rfl hO3 (Nat.le_of_ble_eq_true rfl) ?_
        rw [nI_1]
        refine xj_aload_n dX7_maker_68 rfl rfl ?_
        refine xj_get dX7_maker_69 K7 2 (by decide) q1931 (gset_self hO3) rfl ?_
        refine xj_ic1 dX7_maker_72 ?_
        refine xj_isub dX7_maker_73 ?_
        exact xj_ireturn dX7_maker_74 rfl rfl ⟨by unfold o_maker; rw [if_pos hbb, if_neg (by omega)]; rw [nI_pred], K.set l.length (nI a), M.set l.length (nI b), by unfold s_maker; rw [if_pos hbb, if_neg (by omega), e1, e2]; exact mML_push ⟨hK6, hM6, hl6, hKM⟩ h6 ha6 hb16, by unfold s_maker; rw [if_pos hbb, if_neg (by omega), e1, e2, List.length_append]; rfl⟩
      · refine xj_bipush (v := -2) dX7_maker_35 rfl ?_
        exact xj_ireturn dX7_maker_37 rfl rfl (by have h6 : l.length = 6 := (nI_eq (by omega) (by decide)).mp (show nI l.length = nI 6 from c32); exact ⟨by unfold o_maker; rw [if_pos hbb, if_pos h6], K, M, by unfold s_maker; rw [if_pos hbb, if_pos h6]; exact ⟨hK6, hM6, hl6, hKM⟩, by unfold s_maker; rw [if_pos hbb, if_pos h6]; exact ((show ((G.set 55 (cI 0 K)).set 56 (cI 0 M)).set 54 (cO 7 (mFs (cu c 2 (.int (nI l.length))))) = G by rw [gset_id h55, gset_id h56, ← hf2]; exact gset_id hO).symm)⟩)
    · refine xj_icm1 dX7_maker_24 ?_
      exact xj_ireturn dX7_maker_25 rfl rfl (by first | exact ⟨by unfold o_maker; have hb1 := b1_z c9; rw [inB_c5] at hb1; rw [hb1]; rfl, K, M, by unfold s_maker; have hb1 := b1_z c9; rw [inB_c5] at hb1; rw [hb1]; exact ⟨hK6, hM6, hl6, hKM⟩, by unfold s_maker; have hb1 := b1_z c9; rw [inB_c5] at hb1; rw [hb1]; exact ((show ((G.set 55 (cI 0 K)).set 56 (cI 0 M)).set 54 (cO 7 (mFs (cu c 2 (.int (nI l.length))))) = G by rw [gset_id h55, gset_id h56, ← hf2]; exact gset_id hO).symm)⟩ | (have hb2 := b1_z c21; rw [inB_c15] at hb2; exact ⟨by unfold o_maker; rw [hb2, Bool.and_false]; rfl, K, M, by unfold s_maker; rw [hb2, Bool.and_false]; exact ⟨hK6, hM6, hl6, hKM⟩, by unfold s_maker; rw [hb2, Bool.and_false]; exact ((show ((G.set 55 (cI 0 K)).set 56 (cI 0 M)).set 54 (cO 7 (mFs (cu c 2 (.int (nI l.length))))) = G by rw [gset_id h55, gset_id h56, ← hf2]; exact gset_id hO).symm)⟩))
end M13
