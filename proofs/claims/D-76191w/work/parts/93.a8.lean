/-! ===== the class: questions (1) ===== -/
set_option maxRecDepth 100000
theorem kV_X0_areRows : xsV yX0_areRows cX0_areRows 3 (some FieldType.boolean) 2 := ⟨q594, qs6, q151, q595, by decide, by decide, by decide +kernel⟩
theorem kV_X0_isBelow : xsV yX0_isBelow cX0_isBelow 3 (some FieldType.boolean) 2 := ⟨q602, qs8, q151, q603, by decide, by decide, by decide +kernel⟩
theorem kV_X0_joined : xsV yX0_joined cX0_joined 4 none 3 := ⟨q642, qs15, q151, q643, by decide, by decide, by decide +kernel⟩
theorem kV_X0_met : xsV yX0_met cX0_met 6 none 3 := ⟨q618, qs10, q151, q619, by decide, by decide, by decide +kernel⟩
theorem cp_lt {n a b : Nat} (hn : n < 7) (h1 : 1 ≤ n) (ha : a ∈ rws n) (hb : b ∈ rws n) : cpN n (andn (alP n) (iv6 n a) ||| andn (alP n) (iv6 n b)) < 2 ^ 64 := by
  obtain ⟨ta, -, ta3⟩ := tn_ok hn h1 ha
  obtain ⟨tb, -, tb3⟩ := tn_ok hn h1 hb
  rw [ta3, tb3, jn_law hn h1 ta tb]
  exact Nat.lt_trans (iv6_lt hn (jn2_mem hn h1 ta tb)) (by decide)
section A8
variable {E : xE} {G : xH} {d e : Nat → Value} {n : Nat}
theorem A_below {x y : Int32}  (hv : cV d e n G) (hs : sIn d) (hc : scr G) : xMet E yX0_below cX0_below 3 (some FieldType.int) 3 0 0 [.ref 0, .int x, .int y] G (xre (fun v_ G' => v_ = some (.int (o_below n x y)) ∧ cPo d G G')) := by
  obtain ⟨hO, hN, hn0, h1n, hn6⟩ := id hv
  have hP := cPo.refl hv hs hc
  obtain ⟨L1, hl1, h11⟩ := hc.at (r := 11) (by decide) (by decide)
  obtain ⟨L2, hl2, h12⟩ := hc.at (r := 12) (by decide) (by decide)
  obtain ⟨L3, hl3, h13⟩ := hc.at (r := 13) (by decide) (by decide)
  refine xMet.of (lv := [some (.ref 0), some (.int x), some (.int y)]) rfl rfl (Nat.le_of_ble_eq_true rfl) ?_
  refine xj_aload_n dX0_below_0 rfl rfl ?_
  refine xj_iload_n dX0_below_1 rfl ?_
  refine xj_iload_n dX0_below_2 rfl ?_
  refine xj_dV dX0_below_3 q592 kV_X0_areRows (A_areRows hv h11 h12 (by omega) (by omega) (by omega) (by omega)) hO rfl rfl rfl rfl (Nat.le_of_ble_eq_true rfl) ⟨(Nat.le_of_ble_eq_true rfl), (Nat.le_of_ble_eq_true rfl)⟩ (Nat.le_of_ble_eq_true rfl) (Nat.le_of_ble_eq_true rfl) ?_
  rintro _ _ ⟨rfl, M, M2, hM, hM2, hRx, hRy, rfl⟩
  have hv2 : cV d e n ((G.set 11 (cI 1 M)).set 12 (cI 1 M2)) := (hv.set (by decide) (by decide)).set (by decide) (by decide)
  obtain ⟨hO2, hN2, -⟩ := id hv2
  have hP2 : cPo d G ((G.set 11 (cI 1 M)).set 12 (cI 1 M2)) := (hP.row (by decide) (by decide) (by omega)).row (by decide) (by decide) (by omega)
  have g11 : ((G.set 11 (cI 1 M)).set 12 (cI 1 M2))[11]? = some (cI 1 M) := by rw [gset (by decide)]; exact gset_self h11
  have g12 : ((G.set 11 (cI 1 M)).set 12 (cI 1 M2))[12]? = some (cI 1 M2) := gset_self (by rw [gset (by decide)]; exact h12)
  have g13 : ((G.set 11 (cI 1 M)).set 12 (cI 1 M2))[13]? = some (cI 1 L3) := by rw [gset (by decide), gset (by decide)]; exact h13
  refine xj_if_ne (tgt := 11) dX0_below_6 rfl (fun c6 => ?_) (fun c6 => ?_)
  · have hbb := b1_nz c6
    have hb2 := hbb
    rw [Bool.and_eq_true] at hb2
    obtain ⟨R, hR, rfl⟩ := rowB_t (by omega) h1n hb2.1
    obtain ⟨S, hS, rfl⟩ := rowB_t (by omega) h1n hb2.2
    have hRM := hRx R hR rfl
    have hSM := hRy hb2.1 S hS rfl
    have tR := tn_nI (by omega) hR
    have tS := tn_nI (by omega) hS
    refine xj_aload_n dX0_below_11 rfl rfl ?_
    refine xj_aload_n dX0_below_12 rfl rfl ?_
    refine xj_get dX0_below_13 K0 8 (by decide) q477 hO2 rfl ?_
    refine xj_aload_n dX0_below_16 rfl rfl ?_
    refine xj_get dX0_below_17 K0 9 (by decide) q478 hO2 rfl ?_
    refine xj_cV dX0_below_20 q600 kV_X0_isBelow (A_isBelow hv2 g11 hRM hR g12 hSM hS) hO2 rfl rfl rfl rfl (Nat.le_of_ble_eq_true rfl) ⟨(Nat.le_of_ble_eq_true rfl), (Nat.le_of_ble_eq_true rfl)⟩ (Nat.le_of_ble_eq_true rfl) (Nat.le_of_ble_eq_true rfl) ?_
    refine xj_sI_if_eq (tgt := 30) (M := 31) dX0_below_23 rfl (fun c23 k => by
        refine xj_ic0 dX0_below_30 ?_
        exact k) (fun c23 k => by
        refine xj_ic1 dX0_below_26 ?_
        refine xj_goto (tgt := 31) dX0_below_27 rfl ?_
        exact k) ?_
    exact xj_ireturn dX0_below_31 rfl rfl ⟨by unfold o_below; rw [if_pos hbb, tR, tS, ← sub6_subB (by omega) hR hS]; cases sub6 n R S <;> rfl, hP2⟩
  · refine xj_icm1 dX0_below_9 ?_
    exact xj_ireturn dX0_below_10 rfl rfl ⟨by unfold o_below; rw [b1_z c6]; rfl, hP2⟩
theorem A_meet {x y : Int32}  (hv : cV d e n G) (hs : sIn d) (hc : scr G) : xMet E yX0_meet cX0_meet 3 (some FieldType.int) 3 0 0 [.ref 0, .int x, .int y] G (xre (fun v_ G' => v_ = some (.int (o_meet n x y)) ∧ cPo d G G')) := by
  obtain ⟨hO, hN, hn0, h1n, hn6⟩ := id hv
  have hP := cPo.refl hv hs hc
  obtain ⟨L1, hl1, h11⟩ := hc.at (r := 11) (by decide) (by decide)
  obtain ⟨L2, hl2, h12⟩ := hc.at (r := 12) (by decide) (by decide)
  obtain ⟨L3, hl3, h13⟩ := hc.at (r := 13) (by decide) (by decide)
  refine xMet.of (lv := [some (.ref 0), some (.int x), some (.int y)]) rfl rfl (Nat.le_of_ble_eq_true rfl) ?_
  refine xj_aload_n dX0_meet_0 rfl rfl ?_
  refine xj_iload_n dX0_meet_1 rfl ?_
  refine xj_iload_n dX0_meet_2 rfl ?_
  refine xj_dV dX0_meet_3 q592 kV_X0_areRows (A_areRows hv h11 h12 (by omega) (by omega) (by omega) (by omega)) hO rfl rfl rfl rfl (Nat.le_of_ble_eq_true rfl) ⟨(Nat.le_of_ble_eq_true rfl), (Nat.le_of_ble_eq_true rfl)⟩ (Nat.le_of_ble_eq_true rfl) (Nat.le_of_ble_eq_true rfl) ?_
  rintro _ _ ⟨rfl, M, M2, hM, hM2, hRx, hRy, rfl⟩
  have hv2 : cV d e n ((G.set 11 (cI 1 M)).set 12 (cI 1 M2)) := (hv.set (by decide) (by decide)).set (by decide) (by decide)
  obtain ⟨hO2, hN2, -⟩ := id hv2
  have hP2 : cPo d G ((G.set 11 (cI 1 M)).set 12 (cI 1 M2)) := (hP.row (by decide) (by decide) (by omega)).row (by decide) (by decide) (by omega)
  have g11 : ((G.set 11 (cI 1 M)).set 12 (cI 1 M2))[11]? = some (cI 1 M) := by rw [gset (by decide)]; exact gset_self h11
  have g12 : ((G.set 11 (cI 1 M)).set 12 (cI 1 M2))[12]? = some (cI 1 M2) := gset_self (by rw [gset (by decide)]; exact h12)
  have g13 : ((G.set 11 (cI 1 M)).set 12 (cI 1 M2))[13]? = some (cI 1 L3) := by rw [gset (by decide), gset (by decide)]; exact h13
  refine xj_if_ne (tgt := 11) dX0_meet_6 rfl (fun c6 => ?_) (fun c6 => ?_)
  · have hbb := b1_nz c6
    have hb2 := hbb
    rw [Bool.and_eq_true] at hb2
    obtain ⟨R, hR, rfl⟩ := rowB_t (by omega) h1n hb2.1
    obtain ⟨S, hS, rfl⟩ := rowB_t (by omega) h1n hb2.2
    have hRM := hRx R hR rfl
    have hSM := hRy hb2.1 S hS rfl
    have tR := tn_nI (by omega) hR
    have tS := tn_nI (by omega) hS
    have hJ : mtS n (inv n R &&& inv n S) ∈ rws n := mtS_mem (by omega) h1n
    refine xj_aload_n dX0_meet_11 rfl rfl ?_
    refine xj_aload_n dX0_meet_12 rfl rfl ?_
    refine xj_get dX0_meet_13 K0 8 (by decide) q477 hO2 rfl ?_
    refine xj_aload_n dX0_meet_16 rfl rfl ?_
    refine xj_get dX0_meet_17 K0 9 (by decide) q478 hO2 rfl ?_
    refine xj_aload_n dX0_meet_20 rfl rfl ?_
    refine xj_get dX0_meet_21 K0 10 (by decide) q479 hO2 rfl ?_
    refine xj_dV dX0_meet_24 q616 kV_X0_met (A_met hv2 g11 hRM hR g12 hSM hS g13 (by decide) (by decide) hJ (by omega) (by omega) (cp_lt (by omega) h1n hR hS) (mt_law (by omega) h1n hR hS)) hO2 rfl rfl rfl rfl (Nat.le_of_ble_eq_true rfl) ⟨(Nat.le_of_ble_eq_true rfl), (Nat.le_of_ble_eq_true rfl)⟩ (Nat.le_of_ble_eq_true rfl) (Nat.le_of_ble_eq_true rfl) ?_
    rintro _ _ ⟨rfl, M3, hM3, hM3R, rfl⟩
    have hv3 : cV d e n (((G.set 11 (cI 1 M)).set 12 (cI 1 M2)).set 13 (cI 1 M3)) := hv2.set (by decide) (by decide)
    obtain ⟨hO3, hN3, -⟩ := id hv3
    refine xj_aload_n dX0_meet_27 rfl rfl ?_
    refine xj_aload_n dX0_meet_28 rfl rfl ?_
    refine xj_get dX0_meet_29 K0 10 (by decide) q479 hO3 rfl ?_
    refine xj_cV dX0_meet_32 q632 kV_X0_told (A_told hv3 (gset_self g13) hM3R (f_tl n (by omega) _ hJ)) hO3 rfl rfl rfl rfl (Nat.le_of_ble_eq_true rfl) ⟨(Nat.le_of_ble_eq_true rfl), (Nat.le_of_ble_eq_true rfl)⟩ (Nat.le_of_ble_eq_true rfl) (Nat.le_of_ble_eq_true rfl) ?_
    exact xj_ireturn dX0_meet_35 rfl rfl ⟨by unfold o_meet; rw [if_pos hbb, tR, tS], hP2.row (by decide) (by decide) (by omega)⟩
  · refine xj_icm1 dX0_meet_9 ?_
    exact xj_ireturn dX0_meet_10 rfl rfl ⟨by unfold o_meet; rw [b1_z c6]; rfl, hP2⟩
theorem A_join {x y : Int32}  (hv : cV d e n G) (hs : sIn d) (hc : scr G) : xMet E yX0_join cX0_join 3 (some FieldType.int) 3 0 0 [.ref 0, .int x, .int y] G (xre (fun v_ G' => v_ = some (.int (o_join n x y)) ∧ cPo d G G')) := by
  obtain ⟨hO, hN, hn0, h1n, hn6⟩ := id hv
  have hP := cPo.refl hv hs hc
  obtain ⟨L1, hl1, h11⟩ := hc.at (r := 11) (by decide) (by decide)
  obtain ⟨L2, hl2, h12⟩ := hc.at (r := 12) (by decide) (by decide)
  obtain ⟨L3, hl3, h13⟩ := hc.at (r := 13) (by decide) (by decide)
  refine xMet.of (lv := [some (.ref 0), some (.int x), some (.int y)]) rfl rfl (Nat.le_of_ble_eq_true rfl) ?_
  refine xj_aload_n dX0_join_0 rfl rfl ?_
  refine xj_iload_n dX0_join_1 rfl ?_
  refine xj_iload_n dX0_join_2 rfl ?_
  refine xj_dV dX0_join_3 q592 kV_X0_areRows (A_areRows hv h11 h12 (by omega) (by omega) (by omega) (by omega)) hO rfl rfl rfl rfl (Nat.le_of_ble_eq_true rfl) ⟨(Nat.le_of_ble_eq_true rfl), (Nat.le_of_ble_eq_true rfl)⟩ (Nat.le_of_ble_eq_true rfl) (Nat.le_of_ble_eq_true rfl) ?_
  rintro _ _ ⟨rfl, M, M2, hM, hM2, hRx, hRy, rfl⟩
  have hv2 : cV d e n ((G.set 11 (cI 1 M)).set 12 (cI 1 M2)) := (hv.set (by decide) (by decide)).set (by decide) (by decide)
  obtain ⟨hO2, hN2, -⟩ := id hv2
  have hP2 : cPo d G ((G.set 11 (cI 1 M)).set 12 (cI 1 M2)) := (hP.row (by decide) (by decide) (by omega)).row (by decide) (by decide) (by omega)
  have g11 : ((G.set 11 (cI 1 M)).set 12 (cI 1 M2))[11]? = some (cI 1 M) := by rw [gset (by decide)]; exact gset_self h11
  have g12 : ((G.set 11 (cI 1 M)).set 12 (cI 1 M2))[12]? = some (cI 1 M2) := gset_self (by rw [gset (by decide)]; exact h12)
  have g13 : ((G.set 11 (cI 1 M)).set 12 (cI 1 M2))[13]? = some (cI 1 L3) := by rw [gset (by decide), gset (by decide)]; exact h13
  refine xj_if_ne (tgt := 11) dX0_join_6 rfl (fun c6 => ?_) (fun c6 => ?_)
  · have hbb := b1_nz c6
    have hb2 := hbb
    rw [Bool.and_eq_true] at hb2
    obtain ⟨R, hR, rfl⟩ := rowB_t (by omega) h1n hb2.1
    obtain ⟨S, hS, rfl⟩ := rowB_t (by omega) h1n hb2.2
    have hRM := hRx R hR rfl
    have hSM := hRy hb2.1 S hS rfl
    have tR := tn_nI (by omega) hR
    have tS := tn_nI (by omega) hS
    have hJ : jnS n (inv n R ||| inv n S) ∈ rws n := jn2_mem (by omega) h1n hR hS
    refine xj_aload_n dX0_join_11 rfl rfl ?_
    refine xj_aload_n dX0_join_12 rfl rfl ?_
    refine xj_get dX0_join_13 K0 8 (by decide) q477 hO2 rfl ?_
    refine xj_aload_n dX0_join_16 rfl rfl ?_
    refine xj_get dX0_join_17 K0 9 (by decide) q478 hO2 rfl ?_
    refine xj_aload_n dX0_join_20 rfl rfl ?_
    refine xj_get dX0_join_21 K0 10 (by decide) q479 hO2 rfl ?_
    refine xj_dV dX0_join_24 q640 kV_X0_joined (A_joined hv2 g11 hRM hR g12 hSM hS g13 (by decide) (by decide) hJ (by omega) (by omega) (jn_law (by omega) h1n hR hS)) hO2 rfl rfl rfl rfl (Nat.le_of_ble_eq_true rfl) ⟨(Nat.le_of_ble_eq_true rfl), (Nat.le_of_ble_eq_true rfl)⟩ (Nat.le_of_ble_eq_true rfl) (Nat.le_of_ble_eq_true rfl) ?_
    rintro _ _ ⟨rfl, M3, hM3, hM3R, rfl⟩
    have hv3 : cV d e n (((G.set 11 (cI 1 M)).set 12 (cI 1 M2)).set 13 (cI 1 M3)) := hv2.set (by decide) (by decide)
    obtain ⟨hO3, hN3, -⟩ := id hv3
    refine xj_aload_n dX0_join_27 rfl rfl ?_
    refine xj_aload_n dX0_join_28 rfl rfl ?_
    refine xj_get dX0_join_29 K0 10 (by decide) q479 hO3 rfl ?_
    refine xj_cV dX0_join_32 q632 kV_X0_told (A_told hv3 (gset_self g13) hM3R (f_tl n (by omega) _ hJ)) hO3 rfl rfl rfl rfl (Nat.le_of_ble_eq_true rfl) ⟨(Nat.le_of_ble_eq_true rfl), (Nat.le_of_ble_eq_true rfl)⟩ (Nat.le_of_ble_eq_true rfl) (Nat.le_of_ble_eq_true rfl) ?_
    exact xj_ireturn dX0_join_35 rfl rfl ⟨by unfold o_join; rw [if_pos hbb, tR, tS], hP2.row (by decide) (by decide) (by omega)⟩
  · refine xj_icm1 dX0_join_9 ?_
    exact xj_ireturn dX0_join_10 rfl rfl ⟨by unfold o_join; rw [b1_z c6]; rfl, hP2⟩
theorem A_rowAt {x : Int32}  (hv : cV d e n G) (hs : sIn d) (hc : scr G) : xMet E yX0_rowAt cX0_rowAt 2 (some FieldType.int) 2 0 0 [.ref 0, .int x] G (xre (fun v_ G' => v_ = some (.int (o_rowAt n x)) ∧ cPo d G G')) := by
  obtain ⟨hO, hN, hn0, h1n, hn6⟩ := id hv
  have hP := cPo.refl hv hs hc
  obtain ⟨L1, hl1, h11⟩ := hc.at (r := 11) (by decide) (by decide)
  obtain ⟨L2, hl2, h12⟩ := hc.at (r := 12) (by decide) (by decide)
  obtain ⟨L3, hl3, h13⟩ := hc.at (r := 13) (by decide) (by decide)
  have hwy := wy_in n (by omega)
  refine xMet.of (lv := [some (.ref 0), some (.int x)]) rfl rfl (Nat.le_of_ble_eq_true rfl) ?_
  refine xj_iload_n dX0_rowAt_0 rfl ?_
  refine xj_ic0 dX0_rowAt_1 ?_
  refine xj_aload_n dX0_rowAt_2 rfl rfl ?_
  refine xj_cV dX0_rowAt_3 q677 kV_X0_manyRows (A_manyRows hv) hO rfl rfl rfl rfl (Nat.le_of_ble_eq_true rfl) ⟨(Nat.le_of_ble_eq_true rfl), (Nat.le_of_ble_eq_true rfl)⟩ (Nat.le_of_ble_eq_true rfl) (Nat.le_of_ble_eq_true rfl) ?_
  refine xj_ic1 dX0_rowAt_6 ?_
  refine xj_isub dX0_rowAt_7 ?_
  refine xj_cS dX0_rowAt_8 q585 kS_X0_isIn A_isIn rfl rfl (Nat.le_of_ble_eq_true rfl) ⟨(Nat.le_of_ble_eq_true rfl), (Nat.le_of_ble_eq_true rfl)⟩ (Nat.le_of_ble_eq_true rfl) (Nat.le_of_ble_eq_true rfl) ?_
  rw [inC_inI (by omega)]
  refine xj_if_ne (tgt := 16) dX0_rowAt_11 rfl (fun c11 => ?_) (fun c11 => ?_)
  · have hb := b1_nz c11
    obtain ⟨i, hi, hi31, rfl⟩ := inI_t hb
    have ti : tn (nI i) = i := nI_clamp hi31
    refine xj_aload_n dX0_rowAt_16 rfl rfl ?_
    refine xj_iload_n dX0_rowAt_17 rfl ?_
    refine xj_aload_n dX0_rowAt_18 rfl rfl ?_
    refine xj_get dX0_rowAt_19 K0 8 (by decide) q477 hO rfl ?_
    refine xj_dV dX0_rowAt_22 q681 kV_X0_byRank (A_byRank hv h11 (by decide) (by decide) hi (by omega) (by omega)) hO rfl rfl rfl rfl (Nat.le_of_ble_eq_true rfl) ⟨(Nat.le_of_ble_eq_true rfl), (Nat.le_of_ble_eq_true rfl)⟩ (Nat.le_of_ble_eq_true rfl) (Nat.le_of_ble_eq_true rfl) ?_
    rintro _ _ ⟨rfl, M, hM, hMR, rfl⟩
    have hv2 : cV d e n (G.set 11 (cI 1 M)) := hv.set (by decide) (by decide)
    obtain ⟨hO2, hN2, -⟩ := id hv2
    have hP2 : cPo d G (G.set 11 (cI 1 M)) := hP.row (by decide) (by decide) (by omega)
    refine xj_aload_n dX0_rowAt_25 rfl rfl ?_
    refine xj_aload_n dX0_rowAt_26 rfl rfl ?_
    refine xj_get dX0_rowAt_27 K0 8 (by decide) q477 hO2 rfl ?_
    refine xj_cV dX0_rowAt_30 q632 kV_X0_told (A_told hv2 (gset_self h11) hMR (f_tl n (by omega) _ (rb_mem (by omega) h1n hi))) hO2 rfl rfl rfl rfl (Nat.le_of_ble_eq_true rfl) ⟨(Nat.le_of_ble_eq_true rfl), (Nat.le_of_ble_eq_true rfl)⟩ (Nat.le_of_ble_eq_true rfl) (Nat.le_of_ble_eq_true rfl) ?_
    exact xj_ireturn dX0_rowAt_33 rfl rfl ⟨by unfold o_rowAt; rw [if_pos hb, ti], hP2⟩
  · refine xj_icm1 dX0_rowAt_14 ?_
    exact xj_ireturn dX0_rowAt_15 rfl rfl ⟨by unfold o_rowAt; rw [b1_z c11]; rfl, hP⟩
theorem A_diagram {x : Int32}  (hv : cV d e n G) (hs : sIn d) (hc : scr G) : xMet E yX0_diagram cX0_diagram 2 (some FieldType.long) 3 0 0 [.ref 0, .int x] G (xre (fun v_ G' => v_ = some (.long (o_diagram n x)) ∧ cPo d G G')) := by
  obtain ⟨hO, hN, hn0, h1n, hn6⟩ := id hv
  have hP := cPo.refl hv hs hc
  obtain ⟨L1, hl1, h11⟩ := hc.at (r := 11) (by decide) (by decide)
  obtain ⟨L2, hl2, h12⟩ := hc.at (r := 12) (by decide) (by decide)
  obtain ⟨L3, hl3, h13⟩ := hc.at (r := 13) (by decide) (by decide)
  refine xMet.of (lv := [some (.ref 0), some (.int x)]) rfl rfl (Nat.le_of_ble_eq_true rfl) ?_
  refine xj_aload_n dX0_diagram_0 rfl rfl ?_
  refine xj_iload_n dX0_diagram_1 rfl ?_
  refine xj_aload_n dX0_diagram_2 rfl rfl ?_
  refine xj_get dX0_diagram_3 K0 8 (by decide) q477 hO rfl ?_
  refine xj_dV dX0_diagram_6 q596 kV_X0_read (A_read hv h11 (by decide) (by decide) (by omega) (by omega)) hO rfl rfl rfl rfl (Nat.le_of_ble_eq_true rfl) ⟨(Nat.le_of_ble_eq_true rfl), (Nat.le_of_ble_eq_true rfl)⟩ (Nat.le_of_ble_eq_true rfl) (Nat.le_of_ble_eq_true rfl) ?_
  rintro _ _ ⟨rfl, M, hM, hRx, rfl⟩
  have hv2 : cV d e n (G.set 11 (cI 1 M)) := hv.set (by decide) (by decide)
  obtain ⟨hO2, hN2, -⟩ := id hv2
  have hP2 : cPo d G (G.set 11 (cI 1 M)) := hP.row (by decide) (by decide) (by omega)
  refine xj_if_eq (tgt := 23) dX0_diagram_9 rfl (fun c9 => ?_) (fun c9 => ?_)
  · refine xj_ldc2 dX0_diagram_23 q611 ?_
    exact xj_lreturn dX0_diagram_26 rfl (by first | exact ⟨by unfold o_diagram; rw [b1_z c9]; rfl, hP2⟩ | exact ⟨by unfold o_diagram; rw [if_pos hbb, tR], hP2⟩)
  · have hbb := b1_nz c9
    obtain ⟨R, hR, rfl⟩ := rowB_t (by omega) h1n hbb
    have hRM := hRx R hR rfl
    have tR := tn_nI (by omega) hR
    refine xj_aload_n dX0_diagram_12 rfl rfl ?_
    refine xj_aload_n dX0_diagram_13 rfl rfl ?_
    refine xj_get dX0_diagram_14 K0 8 (by decide) q477 hO2 rfl ?_
    refine xj_cV dX0_diagram_17 q788 kV_X0_diagramOf (A_diagramOf hv2 (gset_self h11) hRM hR) hO2 rfl rfl rfl rfl (Nat.le_of_ble_eq_true rfl) ⟨(Nat.le_of_ble_eq_true rfl), (Nat.le_of_ble_eq_true rfl)⟩ (Nat.le_of_ble_eq_true rfl) (Nat.le_of_ble_eq_true rfl) ?_
    refine xj_goto (tgt := 26) dX0_diagram_20 rfl ?_
    exact xj_lreturn dX0_diagram_26 rfl (by first | exact ⟨by unfold o_diagram; rw [b1_z c9]; rfl, hP2⟩ | exact ⟨by unfold o_diagram; rw [if_pos hbb, tR], hP2⟩)
theorem A_arc {x y : Int32}  (hv : cV d e n G) (hs : sIn d) (hc : scr G) : xMet E yX0_arc cX0_arc 3 (some FieldType.int) 2 0 0 [.ref 0, .int x, .int y] G (xre (fun v_ G' => v_ = some (.int (o_arc n x y)) ∧ cPo d G G')) := by
  obtain ⟨hO, hN, hn0, h1n, hn6⟩ := id hv
  have hP := cPo.refl hv hs hc
  obtain ⟨L1, hl1, h11⟩ := hc.at (r := 11) (by decide) (by decide)
  obtain ⟨L2, hl2, h12⟩ := hc.at (r := 12) (by decide) (by decide)
  obtain ⟨L3, hl3, h13⟩ := hc.at (r := 13) (by decide) (by decide)
  refine xMet.of (lv := [some (.ref 0), some (.int x), some (.int y)]) rfl rfl (Nat.le_of_ble_eq_true rfl) ?_
  refine xj_aload_n dX0_arc_0 rfl rfl ?_
  refine xj_iload_n dX0_arc_1 rfl ?_
  refine xj_aload_n dX0_arc_2 rfl rfl ?_
  refine xj_get dX0_arc_3 K0 8 (by decide) q477 hO rfl ?_
  refine xj_dV dX0_arc_6 q596 kV_X0_read (A_read hv h11 (by decide) (by decide) (by omega) (by omega)) hO rfl rfl rfl rfl (Nat.le_of_ble_eq_true rfl) ⟨(Nat.le_of_ble_eq_true rfl), (Nat.le_of_ble_eq_true rfl)⟩ (Nat.le_of_ble_eq_true rfl) (Nat.le_of_ble_eq_true rfl) ?_
  rintro _ _ ⟨rfl, M, hM, hRx, rfl⟩
  have hv2 : cV d e n (G.set 11 (cI 1 M)) := hv.set (by decide) (by decide)
  obtain ⟨hO2, hN2, -⟩ := id hv2
  have hP2 : cPo d G (G.set 11 (cI 1 M)) := hP.row (by decide) (by decide) (by omega)
  refine xj_if_eq (tgt := 41) dX0_arc_9 rfl (fun c9 => ?_) (fun c9 => ?_)
  · refine xj_icm1 dX0_arc_41 ?_
    exact xj_ireturn dX0_arc_42 rfl rfl (by first | exact ⟨by unfold o_arc; rw [b1_z c9]; rfl, hP2⟩ | exact ⟨by unfold o_arc; rw [b1_z c26, Bool.and_false]; rfl, hP2⟩ | exact ⟨by unfold o_arc; rw [hbb, hb, tR, tp]; rfl, hP2⟩)
  · refine xj_iload_n dX0_arc_12 rfl ?_
    refine xj_ic0 dX0_arc_13 ?_
    refine xj_aload_n dX0_arc_14 rfl rfl ?_
    refine xj_get dX0_arc_15 K0 4 (by decide) q473 hO2 rfl ?_
    refine xj_getN dX0_arc_18 K3 0 (by decide) q321 hN2 (congrArg some hn0) ?_
    refine xj_ic2 dX0_arc_21 ?_
    refine xj_isub dX0_arc_22 ?_
    rw [c_m2, nI_sub1 h1n]
    refine xj_cS dX0_arc_23 q585 kS_X0_isIn A_isIn rfl rfl (Nat.le_of_ble_eq_true rfl) ⟨(Nat.le_of_ble_eq_true rfl), (Nat.le_of_ble_eq_true rfl)⟩ (Nat.le_of_ble_eq_true rfl) (Nat.le_of_ble_eq_true rfl) ?_
    rw [inC_inI (by omega)]
    refine xj_if_eq (tgt := 41) dX0_arc_26 rfl (fun c26 => ?_) (fun c26 => ?_)
    · refine xj_icm1 dX0_arc_41 ?_
      exact xj_ireturn dX0_arc_42 rfl rfl (by first | exact ⟨by unfold o_arc; rw [b1_z c9]; rfl, hP2⟩ | exact ⟨by unfold o_arc; rw [b1_z c26, Bool.and_false]; rfl, hP2⟩ | exact ⟨by unfold o_arc; rw [hbb, hb, tR, tp]; rfl, hP2⟩)
    · have hbb := b1_nz c9
      obtain ⟨R, hR, rfl⟩ := rowB_t (by omega) h1n hbb
      have hRM := hRx R hR rfl
      have tR := tn_nI (by omega) hR
      have hb := b1_nz c26
      obtain ⟨p, hp, hp31, rfl⟩ := inI_t hb
      have tp : tn (nI p) = p := nI_clamp hp31
      refine xj_aload_n dX0_arc_29 rfl rfl ?_
      refine xj_aload_n dX0_arc_30 rfl rfl ?_
      refine xj_get dX0_arc_31 K0 8 (by decide) q477 hO2 rfl ?_
      refine xj_iload_n dX0_arc_34 rfl ?_
      refine xj_cV dX0_arc_35 q748 kV_X0_arcAt (A_arcAt hv2 (gset_self h11) hRM hR hp) hO2 rfl rfl rfl rfl (Nat.le_of_ble_eq_true rfl) ⟨(Nat.le_of_ble_eq_true rfl), (Nat.le_of_ble_eq_true rfl)⟩ (Nat.le_of_ble_eq_true rfl) (Nat.le_of_ble_eq_true rfl) ?_
      refine xj_goto (tgt := 42) dX0_arc_38 rfl ?_
      exact xj_ireturn dX0_arc_42 rfl rfl (by first | exact ⟨by unfold o_arc; rw [b1_z c9]; rfl, hP2⟩ | exact ⟨by unfold o_arc; rw [b1_z c26, Bool.and_false]; rfl, hP2⟩ | exact ⟨by unfold o_arc; rw [hbb, hb, tR, tp]; rfl, hP2⟩)
end A8
