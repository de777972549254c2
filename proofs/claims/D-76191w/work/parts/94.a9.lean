/-! ===== the class: questions (2) ===== -/
set_option maxRecDepth 100000
theorem kV_X0_dropSet : xsV yX0_dropSet cX0_dropSet 4 (some FieldType.int) 1 := ⟨q653, qs16, q151, q654, by decide, by decide, by decide +kernel⟩
theorem kV_X0_toldTurned : xsV yX0_toldTurned cX0_toldTurned 2 (some FieldType.int) 1 := ⟨q664, qs18, q151, q665, by decide, by decide, by decide +kernel⟩
theorem cPo.rot {d : Nat → Value} {G H K : xH} {z : Int32} {M3 M4 F : List Int32} (h : cPo d G H) (_ : ∃ k, d 22 = .int k) (hfr : gfr [0, 13, 14, 21] H K) (h3 : M3.length = 6) (h4 : M4.length = 6) (hF : F.length = 6) (h13 : K[13]? = some (cI 1 M3)) (h14 : K[14]? = some (cI 1 M4)) (h21 : K[21]? = some (cI 0 F)) (h0 : K[0]? = some (cO 0 (cFs (cu d 22 (.int z))))) (hs : sIn d) : cPo d G K := by
  obtain ⟨d', p1, p2, p3, ⟨q1, q2, q3, q4⟩, p5⟩ := h
  refine ⟨cu d 22 (.int z), fun i hi => ?_, fun i hi => ?_, h0, ⟨q1.rot hfr h3 h4 hF h13 h14 h21, fun i i1 i2 => ?_, ?_, ?_⟩, p5.trans (hfr.mono (by decide)).gfa⟩
  · unfold cu; rw [if_neg (fun e => hi (by rw [e]; decide))]
  · unfold cu
    by_cases e : i = 22
    · rw [if_pos e]; exact ⟨z, rfl⟩
    · rw [if_neg e]; exact hs i hi
  · rw [hfr.2 i (by simp only [List.mem_cons, List.not_mem_nil, or_false]; omega)]; exact q2 i i1 i2
  · rw [hfr.2 26 (by decide)]; exact q3
  · rw [hfr.2 20 (by decide)]; exact q4
theorem inI_out {w : Int32} {m : Nat} (h : w.toInt < 0 ∨ (m : Int) - 1 < w.toInt) : inI w m = false := by
  cases hb : inI w m with
  | false => rfl
  | true =>
    obtain ⟨k, hk, h31, rfl⟩ := inI_t hb
    rw [nI_toInt h31] at h
    omega
section A9
variable {E : xE} {G : xH} {d e : Nat → Value} {n : Nat}
theorem A_of {x w : Int32}  (hv : cV d e n G) (hs : sIn d) (hc : scr G) : xMet E yX0_of cX0_of 3 (some FieldType.int) 3 0 0 [.ref 0, .int x, .int w] G (xre (fun v_ G' => v_ = some (.int (o_of n x w)) ∧ cPo d G G')) := by
  obtain ⟨hO, hN, hn0, h1n, hn6⟩ := id hv
  have hP := cPo.refl hv hs hc
  obtain ⟨L1, hl1, h11⟩ := hc.at (r := 11) (by decide) (by decide)
  obtain ⟨L2, hl2, h12⟩ := hc.at (r := 12) (by decide) (by decide)
  obtain ⟨L3, hl3, h13⟩ := hc.at (r := 13) (by decide) (by decide)
  refine xMet.of (lv := [some (.ref 0), some (.int x), some (.int w)]) rfl rfl (Nat.le_of_ble_eq_true rfl) ?_
  refine xj_aload_n dX0_of_0 rfl rfl ?_
  refine xj_iload_n dX0_of_1 rfl ?_
  refine xj_aload_n dX0_of_2 rfl rfl ?_
  refine xj_get dX0_of_3 K0 8 (by decide) q477 hO rfl ?_
  refine xj_dV dX0_of_6 q596 kV_X0_read (A_read hv h11 (by decide) (by decide) (by omega) (by omega)) hO rfl rfl rfl rfl (Nat.le_of_ble_eq_true rfl) ⟨(Nat.le_of_ble_eq_true rfl), (Nat.le_of_ble_eq_true rfl)⟩ (Nat.le_of_ble_eq_true rfl) (Nat.le_of_ble_eq_true rfl) ?_
  rintro _ _ ⟨rfl, M, hM, hRx, rfl⟩
  have hv2 : cV d e n (G.set 11 (cI 1 M)) := hv.set (by decide) (by decide)
  obtain ⟨hO2, hN2, -⟩ := id hv2
  have hP2 : cPo d G (G.set 11 (cI 1 M)) := hP.row (by decide) (by decide) (by omega)
  refine xj_if_ne (tgt := 14) dX0_of_9 rfl (fun c9 => ?_) (fun c9 => ?_)
  · have hbb := b1_nz c9
    obtain ⟨R, hR, rfl⟩ := rowB_t (by omega) h1n hbb
    have hRM := hRx R hR rfl
    have tR := tn_nI (by omega) hR
    refine xj_iload_n dX0_of_14 rfl ?_
    refine xj_tabs (tg := [44, 56, 65, 74]) (tgt := 83) dX0_of_15 rfl rfl rfl ⟨fun c15 => ?_, fun c15 => ?_, fun c15 => ?_, fun c15 => ?_, trivial⟩ (fun c15 => ?_)
    · refine xj_aload_n dX0_of_44 rfl rfl ?_
      refine xj_aload_n dX0_of_45 rfl rfl ?_
      refine xj_get dX0_of_46 K0 8 (by decide) q477 hO2 rfl ?_
      refine xj_cV dX0_of_49 q604 kV_X0_swapped (A_swapped hv2 (gset_self h11) hRM hR) hO2 rfl rfl rfl rfl (Nat.le_of_ble_eq_true rfl) ⟨(Nat.le_of_ble_eq_true rfl), (Nat.le_of_ble_eq_true rfl)⟩ (Nat.le_of_ble_eq_true rfl) (Nat.le_of_ble_eq_true rfl) ?_
      refine xj_cS dX0_of_52 q648 kS_X0_ones (A_ones (Nat.lt_trans (iv6_lt (by omega) hR) (by decide))) rfl rfl (Nat.le_of_ble_eq_true rfl) ⟨(Nat.le_of_ble_eq_true rfl), (Nat.le_of_ble_eq_true rfl)⟩ (Nat.le_of_ble_eq_true rfl) (Nat.le_of_ble_eq_true rfl) ?_
      exact xj_ireturn dX0_of_55 rfl rfl ⟨by subst c15; unfold o_of; rw [hbb, tR]; rw [f_tri1 (by omega) hR]; rfl, hP2⟩
    · refine xj_aload_n dX0_of_56 rfl rfl ?_
      refine xj_aload_n dX0_of_57 rfl rfl ?_
      refine xj_get dX0_of_58 K0 8 (by decide) q477 hO2 rfl ?_
      refine xj_cV dX0_of_61 q651 kV_X0_dropSet (A_dropSet hv2 (gset_self h11) hRM hR) hO2 rfl rfl rfl rfl (Nat.le_of_ble_eq_true rfl) ⟨(Nat.le_of_ble_eq_true rfl), (Nat.le_of_ble_eq_true rfl)⟩ (Nat.le_of_ble_eq_true rfl) (Nat.le_of_ble_eq_true rfl) ?_
      exact xj_ireturn dX0_of_64 rfl rfl ⟨by subst c15; unfold o_of; rw [hbb, tR]; rfl, hP2⟩
    · refine xj_aload_n dX0_of_65 rfl rfl ?_
      refine xj_aload_n dX0_of_66 rfl rfl ?_
      refine xj_get dX0_of_67 K0 8 (by decide) q477 hO2 rfl ?_
      refine xj_cV dX0_of_70 q658 kV_X0_rankOf (A_rankOf hv2 (gset_self h11) hRM hR) hO2 rfl rfl rfl rfl (Nat.le_of_ble_eq_true rfl) ⟨(Nat.le_of_ble_eq_true rfl), (Nat.le_of_ble_eq_true rfl)⟩ (Nat.le_of_ble_eq_true rfl) (Nat.le_of_ble_eq_true rfl) ?_
      exact xj_ireturn dX0_of_73 rfl rfl ⟨by subst c15; unfold o_of; rw [hbb, tR]; rfl, hP2⟩
    · refine xj_aload_n dX0_of_74 rfl rfl ?_
      refine xj_aload_n dX0_of_75 rfl rfl ?_
      refine xj_get dX0_of_76 K0 8 (by decide) q477 hO2 rfl ?_
      refine xj_dV dX0_of_79 q662 kV_X0_toldTurned (A_toldTurned hv2 (gset_self h11) (by decide) (by decide) hRM hR (by omega)) hO2 rfl rfl rfl rfl (Nat.le_of_ble_eq_true rfl) ⟨(Nat.le_of_ble_eq_true rfl), (Nat.le_of_ble_eq_true rfl)⟩ (Nat.le_of_ble_eq_true rfl) (Nat.le_of_ble_eq_true rfl) ?_
      rintro _ _ ⟨rfl, M3, hM3, hM3R, rfl⟩
      rw [gset_set]
      exact xj_ireturn dX0_of_82 rfl rfl ⟨by subst c15; unfold o_of; rw [hbb, tR]; rfl, hP.row (by decide) (by decide) (by omega)⟩
    · refine xj_icm1 dX0_of_83 ?_
      exact xj_ireturn dX0_of_84 rfl rfl ⟨by unfold o_of; rw [inI_out (m := 4) c15, Bool.and_false]; rfl, hP2⟩
  · refine xj_icm1 dX0_of_12 ?_
    exact xj_ireturn dX0_of_13 rfl rfl ⟨by unfold o_of; rw [b1_z c9]; rfl, hP2⟩
theorem A_rotations {x w : Int32} {g : Nat}  (hv : cV d e n G) (hn3 : e 3 = .long (lN g)) (hg : g < 2 ^ 64) (hs : sIn d) (hc : scr G) : xMet E yX0_rotations cX0_rotations 3 (some FieldType.int) 4 0 0 [.ref 0, .int x, .int w] G (xre (fun v_ G' => v_ = some (.int (o_rotations n g x w)) ∧ cPo d G G')) := by
  obtain ⟨hO, hN, hn0, h1n, hn6⟩ := id hv
  have hP := cPo.refl hv hs hc
  obtain ⟨L1, hl1, h11⟩ := hc.at (r := 11) (by decide) (by decide)
  obtain ⟨L2, hl2, h12⟩ := hc.at (r := 12) (by decide) (by decide)
  obtain ⟨L3, hl3, h13⟩ := hc.at (r := 13) (by decide) (by decide)
  obtain ⟨L4, hl4, h14⟩ := hc.at (r := 14) (by decide) (by decide)
  obtain ⟨F0, hlF, h21⟩ := hc.1.2
  have hd22 := hs 22 (by decide)
  refine xMet.of (lv := [some (.ref 0), some (.int x), some (.int w)]) rfl rfl (Nat.le_of_ble_eq_true rfl) ?_
  refine xj_aload_n dX0_rotations_0 rfl rfl ?_
  refine xj_iload_n dX0_rotations_1 rfl ?_
  refine xj_aload_n dX0_rotations_2 rfl rfl ?_
  refine xj_get dX0_rotations_3 K0 8 (by decide) q477 hO rfl ?_
  refine xj_dV dX0_rotations_6 q596 kV_X0_read (A_read hv h11 (by decide) (by decide) (by omega) (by omega)) hO rfl rfl rfl rfl (Nat.le_of_ble_eq_true rfl) ⟨(Nat.le_of_ble_eq_true rfl), (Nat.le_of_ble_eq_true rfl)⟩ (Nat.le_of_ble_eq_true rfl) (Nat.le_of_ble_eq_true rfl) ?_
  rintro _ _ ⟨rfl, M, hM, hRx, rfl⟩
  have hv2 : cV d e n (G.set 11 (cI 1 M)) := hv.set (by decide) (by decide)
  obtain ⟨hO2, hN2, -⟩ := id hv2
  have hP2 : cPo d G (G.set 11 (cI 1 M)) := hP.row (by decide) (by decide) (by omega)
  refine xj_if_eq (tgt := 21) dX0_rotations_9 rfl (fun c9 => ?_) (fun c9 => ?_)
  · refine xj_icm1 dX0_rotations_21 ?_
    exact xj_ireturn dX0_rotations_22 rfl rfl (by first | exact ⟨by unfold o_rotations; rw [b1_z c9]; rfl, hP2⟩ | exact ⟨by unfold o_rotations; rw [b1_z c18, Bool.and_false]; rfl, hP2⟩)
  · refine xj_iload_n dX0_rotations_12 rfl ?_
    refine xj_ic0 dX0_rotations_13 ?_
    refine xj_ic1 dX0_rotations_14 ?_
    refine xj_cS dX0_rotations_15 q585 kS_X0_isIn A_isIn rfl rfl (Nat.le_of_ble_eq_true rfl) ⟨(Nat.le_of_ble_eq_true rfl), (Nat.le_of_ble_eq_true rfl)⟩ (Nat.le_of_ble_eq_true rfl) (Nat.le_of_ble_eq_true rfl) ?_
    rw [show inC w 0 1 = inI w 2 from inC_inI (m := 2) (by decide)]
    refine xj_if_ne (tgt := 23) dX0_rotations_18 rfl (fun c18 => ?_) (fun c18 => ?_)
    · have hbb := b1_nz c9
      obtain ⟨R, hR, rfl⟩ := rowB_t (by omega) h1n hbb
      have hRM := hRx R hR rfl
      have tR := tn_nI (by omega) hR
      have hw2 := b1_nz c18
      obtain ⟨t, rfl, ht⟩ := bit_of hw2
      have g13 : (G.set 11 (cI 1 M))[13]? = some (cI 1 L3) := by rw [gset (by decide)]; exact h13
      have g14 : (G.set 11 (cI 1 M))[14]? = some (cI 1 L4) := by rw [gset (by decide)]; exact h14
      have g21 : (G.set 11 (cI 1 M))[21]? = some (cI 0 F0) := by rw [gset (by decide)]; exact h21
      refine xj_aload_n dX0_rotations_23 rfl rfl ?_
      refine xj_aload_n dX0_rotations_24 rfl rfl ?_
      refine xj_get dX0_rotations_25 K0 8 (by decide) q477 hO2 rfl ?_
      refine xj_iload_n dX0_rotations_28 rfl ?_
      refine xj_dV dX0_rotations_29 q1361 kV_X0_findRotations (A_findRotations (t := t) hv2 hn3 hg (gset_self h11) hRM hR g13 g14 g21 hl3 hl4 hlF) hO2 rfl rfl rfl rfl (Nat.le_of_ble_eq_true rfl) ⟨(Nat.le_of_ble_eq_true rfl), (Nat.le_of_ble_eq_true rfl)⟩ (Nat.le_of_ble_eq_true rfl) (Nat.le_of_ble_eq_true rfl) ?_
      rintro _ H ⟨rfl, M3, M4, F, hM3, hM4, hF, hlk, hfr, k13, k14, k21, k0⟩
      have hP3 := hP2.rot hd22 hfr hM3 hM4 hF k13 k14 k21 k0 hs
      have hrl := rot_le (n := n) (g := g) (r := R) (t := t)
      refine xj_aload_n dX0_rotations_32 rfl rfl ?_
      refine xj_get dX0_rotations_33 K0 22 (by decide) q491 k0 rfl ?_
      exact xj_ireturn dX0_rotations_36 rfl rfl ⟨by unfold o_rotations; rw [hbb, hw2, tR, ht]; rfl, hP3⟩
    · refine xj_icm1 dX0_rotations_21 ?_
      exact xj_ireturn dX0_rotations_22 rfl rfl (by first | exact ⟨by unfold o_rotations; rw [b1_z c9]; rfl, hP2⟩ | exact ⟨by unfold o_rotations; rw [b1_z c18, Bool.and_false]; rfl, hP2⟩)
theorem A_rotate {x y w : Int32} {g : Nat}  (hv : cV d e n G) (hn3 : e 3 = .long (lN g)) (hg : g < 2 ^ 64) (hs : sIn d) (hc : scr G) : xMet E yX0_rotate cX0_rotate 4 (some FieldType.int) 4 0 0 [.ref 0, .int x, .int y, .int w] G (xre (fun v_ G' => v_ = some (.int (o_rotate n g x y w)) ∧ cPo d G G')) := by
  obtain ⟨hO, hN, hn0, h1n, hn6⟩ := id hv
  have hP := cPo.refl hv hs hc
  obtain ⟨L1, hl1, h11⟩ := hc.at (r := 11) (by decide) (by decide)
  obtain ⟨L2, hl2, h12⟩ := hc.at (r := 12) (by decide) (by decide)
  obtain ⟨L3, hl3, h13⟩ := hc.at (r := 13) (by decide) (by decide)
  obtain ⟨L4, hl4, h14⟩ := hc.at (r := 14) (by decide) (by decide)
  obtain ⟨F0, hlF, h21⟩ := hc.1.2
  have hd22 := hs 22 (by decide)
  refine xMet.of (lv := [some (.ref 0), some (.int x), some (.int y), some (.int w)]) rfl rfl (Nat.le_of_ble_eq_true rfl) ?_
  refine xj_aload_n dX0_rotate_0 rfl rfl ?_
  refine xj_iload_n dX0_rotate_1 rfl ?_
  refine xj_aload_n dX0_rotate_2 rfl rfl ?_
  refine xj_get dX0_rotate_3 K0 8 (by decide) q477 hO rfl ?_
  refine xj_dV dX0_rotate_6 q596 kV_X0_read (A_read hv h11 (by decide) (by decide) (by omega) (by omega)) hO rfl rfl rfl rfl (Nat.le_of_ble_eq_true rfl) ⟨(Nat.le_of_ble_eq_true rfl), (Nat.le_of_ble_eq_true rfl)⟩ (Nat.le_of_ble_eq_true rfl) (Nat.le_of_ble_eq_true rfl) ?_
  rintro _ _ ⟨rfl, M, hM, hRx, rfl⟩
  have hv2 : cV d e n (G.set 11 (cI 1 M)) := hv.set (by decide) (by decide)
  obtain ⟨hO2, hN2, -⟩ := id hv2
  have hP2 : cPo d G (G.set 11 (cI 1 M)) := hP.row (by decide) (by decide) (by omega)
  refine xj_if_eq (tgt := 25) dX0_rotate_9 rfl (fun c9 => ?_) (fun c9 => ?_)
  · refine xj_icm1 dX0_rotate_25 ?_
    exact xj_ireturn dX0_rotate_26 rfl rfl (by first | exact ⟨by unfold o_rotate; rw [b1_z c9]; rfl, hP2⟩ | exact ⟨by unfold o_rotate; rw [decide_eq_true c13, Bool.not_true, Bool.and_false, Bool.false_and]; rfl, hP2⟩ | exact ⟨by unfold o_rotate; rw [b1_z c22, Bool.and_false]; rfl, hP2⟩)
  · refine xj_iload_n dX0_rotate_12 rfl ?_
    refine xj_if_lt (tgt := 25) dX0_rotate_13 rfl (fun c13 => ?_) (fun c13 => ?_)
    · refine xj_icm1 dX0_rotate_25 ?_
      exact xj_ireturn dX0_rotate_26 rfl rfl (by first | exact ⟨by unfold o_rotate; rw [b1_z c9]; rfl, hP2⟩ | exact ⟨by unfold o_rotate; rw [decide_eq_true c13, Bool.not_true, Bool.and_false, Bool.false_and]; rfl, hP2⟩ | exact ⟨by unfold o_rotate; rw [b1_z c22, Bool.and_false]; rfl, hP2⟩)
    · refine xj_iload_n dX0_rotate_16 rfl ?_
      refine xj_ic0 dX0_rotate_17 ?_
      refine xj_ic1 dX0_rotate_18 ?_
      refine xj_cS dX0_rotate_19 q585 kS_X0_isIn A_isIn rfl rfl (Nat.le_of_ble_eq_true rfl) ⟨(Nat.le_of_ble_eq_true rfl), (Nat.le_of_ble_eq_true rfl)⟩ (Nat.le_of_ble_eq_true rfl) (Nat.le_of_ble_eq_true rfl) ?_
      rw [show inC w 0 1 = inI w 2 from inC_inI (m := 2) (by decide)]
      refine xj_if_ne (tgt := 27) dX0_rotate_22 rfl (fun c22 => ?_) (fun c22 => ?_)
      · have hbb := b1_nz c9
        obtain ⟨R, hR, rfl⟩ := rowB_t (by omega) h1n hbb
        have hRM := hRx R hR rfl
        have tR := tn_nI (by omega) hR
        have hw2 := b1_nz c22
        obtain ⟨t, rfl, ht⟩ := bit_of hw2
        obtain ⟨k, hk31, rfl⟩ := nI_of c13
        have tk : tn (nI k) = k := nI_clamp hk31
        have g13 : (G.set 11 (cI 1 M))[13]? = some (cI 1 L3) := by rw [gset (by decide)]; exact h13
        have g14 : (G.set 11 (cI 1 M))[14]? = some (cI 1 L4) := by rw [gset (by decide)]; exact h14
        have g21 : (G.set 11 (cI 1 M))[21]? = some (cI 0 F0) := by rw [gset (by decide)]; exact h21
        refine xj_aload_n dX0_rotate_27 rfl rfl ?_
        refine xj_aload_n dX0_rotate_28 rfl rfl ?_
        refine xj_get dX0_rotate_29 K0 8 (by decide) q477 hO2 rfl ?_
        refine xj_iload_n dX0_rotate_32 rfl ?_
        refine xj_dV dX0_rotate_33 q1361 kV_X0_findRotations (A_findRotations (t := t) hv2 hn3 hg (gset_self h11) hRM hR g13 g14 g21 hl3 hl4 hlF) hO2 rfl rfl rfl rfl (Nat.le_of_ble_eq_true rfl) ⟨(Nat.le_of_ble_eq_true rfl), (Nat.le_of_ble_eq_true rfl)⟩ (Nat.le_of_ble_eq_true rfl) (Nat.le_of_ble_eq_true rfl) ?_
        rintro _ H ⟨rfl, M3, M4, F, hM3, hM4, hF, hlk, hfr, k13, k14, k21, k0⟩
        have hP3 := hP2.rot hd22 hfr hM3 hM4 hF k13 k14 k21 k0 hs
        have hrl := rot_le (n := n) (g := g) (r := R) (t := t)
        refine xj_iload_n dX0_rotate_36 rfl ?_
        refine xj_aload_n dX0_rotate_37 rfl rfl ?_
        refine xj_get dX0_rotate_38 K0 22 (by decide) q491 k0 rfl ?_
        refine xj_icmp_ge (tgt := 53) dX0_rotate_41 rfl (fun c41 => ?_) (fun c41 => ?_)
        · refine xj_bipush (v := -3) dX0_rotate_53 rfl ?_
          exact xj_ireturn dX0_rotate_55 rfl rfl (by first | exact ⟨by unfold o_rotate; rw [hbb, decide_eq_false c13, hw2, tR, tk, ht, hvv]; rfl, hP3⟩ | exact ⟨by unfold o_rotate; rw [hbb, decide_eq_false c13, hw2, tR, tk, ht, List.getElem?_eq_none (Nat.le_of_not_lt fun h => absurd c41 (nI_ge h (by omega)))]; rfl, hP3⟩)
        · have hkl : k < (rot n g R t).length := Nat.lt_of_not_le fun h => c41 (nI_le h (by omega))
          obtain ⟨v, hvv⟩ : ∃ v, (rot n g R t)[k]? = some v := ⟨_, List.getElem?_eq_getElem hkl⟩
          refine xj_aload_n dX0_rotate_44 rfl rfl ?_
          refine xj_get dX0_rotate_45 K0 21 (by decide) q490 k0 rfl ?_
          refine xj_iload_n dX0_rotate_48 rfl ?_
          refine xj_iald dX0_rotate_49 k21 rfl (by omega) (hlk k v hvv) ?_
          refine xj_goto (tgt := 55) dX0_rotate_50 rfl ?_
          exact xj_ireturn dX0_rotate_55 rfl rfl (by first | exact ⟨by unfold o_rotate; rw [hbb, decide_eq_false c13, hw2, tR, tk, ht, hvv]; rfl, hP3⟩ | exact ⟨by unfold o_rotate; rw [hbb, decide_eq_false c13, hw2, tR, tk, ht, List.getElem?_eq_none (Nat.le_of_not_lt fun h => absurd c41 (nI_ge h (by omega)))]; rfl, hP3⟩)
      · refine xj_icm1 dX0_rotate_25 ?_
        exact xj_ireturn dX0_rotate_26 rfl rfl (by first | exact ⟨by unfold o_rotate; rw [b1_z c9]; rfl, hP2⟩ | exact ⟨by unfold o_rotate; rw [decide_eq_true c13, Bool.not_true, Bool.and_false, Bool.false_and]; rfl, hP2⟩ | exact ⟨by unfold o_rotate; rw [b1_z c22, Bool.and_false]; rfl, hP2⟩)
end A9
