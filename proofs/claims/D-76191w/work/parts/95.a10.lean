/-! ===== the class: questions (3) ===== -/
set_option maxRecDepth 100000

theorem in3_2 {w : Int32} (h : inI w 3 = true) (h0 : ¬ w = 0) (h1 : ¬ w = 1) : w = 2 := by
  obtain ⟨k, hk, -, rfl⟩ := inI_t h
  match k, hk with
  | 0, _ => exact absurd rfl h0
  | 1, _ => exact absurd rfl h1
  | 2, _ => rfl
section A10
variable {E : xE} {G : xH} {d e : Nat → Value} {n : Nat}
theorem A_classes {x y w : Int32} {g : Nat}  (hv : cV d e n G) (hn3 : e 3 = .long (lN g)) (hg : g < 2 ^ 64) (hs : sIn d) (hc : scr G) : xMet E yX0_classes cX0_classes 4 (some FieldType.int) 3 0 0 [.ref 0, .int x, .int y, .int w] G (xre (fun v_ G' => v_ = some (.int (o_classes n g x y w)) ∧ cPo d G G')) := by
  obtain ⟨hO, hN, hn0, h1n, hn6⟩ := id hv
  have hP := cPo.refl hv hs hc
  obtain ⟨L1, hl1, h11⟩ := hc.at (r := 11) (by decide) (by decide)
  obtain ⟨L2, hl2, h12⟩ := hc.at (r := 12) (by decide) (by decide)
  obtain ⟨L3, hl3, h13⟩ := hc.at (r := 13) (by decide) (by decide)
  refine xMet.of (lv := [some (.ref 0), some (.int x), some (.int y), some (.int w)]) rfl rfl (Nat.le_of_ble_eq_true rfl) ?_
  refine xj_aload_n dX0_classes_0 rfl rfl ?_
  refine xj_iload_n dX0_classes_1 rfl ?_
  refine xj_iload_n dX0_classes_2 rfl ?_
  refine xj_dV dX0_classes_3 q592 kV_X0_areRows (A_areRows hv h11 h12 (by omega) (by omega) (by omega) (by omega)) hO rfl rfl rfl rfl (Nat.le_of_ble_eq_true rfl) ⟨(Nat.le_of_ble_eq_true rfl), (Nat.le_of_ble_eq_true rfl)⟩ (Nat.le_of_ble_eq_true rfl) (Nat.le_of_ble_eq_true rfl) ?_
  rintro _ _ ⟨rfl, M, M2, hM, hM2, hRx, hRy, rfl⟩
  have hv2 : cV d e n ((G.set 11 (cI 1 M)).set 12 (cI 1 M2)) := (hv.set (by decide) (by decide)).set (by decide) (by decide)
  obtain ⟨hO2, hN2, -⟩ := id hv2
  have hP2 : cPo d G ((G.set 11 (cI 1 M)).set 12 (cI 1 M2)) := (hP.row (by decide) (by decide) (by omega)).row (by decide) (by decide) (by omega)
  have g11 : ((G.set 11 (cI 1 M)).set 12 (cI 1 M2))[11]? = some (cI 1 M) := by rw [gset (by decide)]; exact gset_self h11
  have g12 : ((G.set 11 (cI 1 M)).set 12 (cI 1 M2))[12]? = some (cI 1 M2) := gset_self (by rw [gset (by decide)]; exact h12)
  have g13 : ((G.set 11 (cI 1 M)).set 12 (cI 1 M2))[13]? = some (cI 1 L3) := by rw [gset (by decide), gset (by decide)]; exact h13
  refine xj_if_eq (tgt := 18) dX0_classes_6 rfl (fun c6 => ?_) (fun c6 => ?_)
  · refine xj_icm1 dX0_classes_18 ?_
    exact xj_ireturn dX0_classes_19 rfl rfl (by first | exact ⟨by unfold o_classes; rw [b1_z c6]; rfl, hP2⟩ | exact ⟨by unfold o_classes; rw [b1_z c15, Bool.and_false]; rfl, hP2⟩)
  · refine xj_iload_n dX0_classes_9 rfl ?_
    refine xj_ic0 dX0_classes_10 ?_
    refine xj_ic2 dX0_classes_11 ?_
    refine xj_cS dX0_classes_12 q585 kS_X0_isIn A_isIn rfl rfl (Nat.le_of_ble_eq_true rfl) ⟨(Nat.le_of_ble_eq_true rfl), (Nat.le_of_ble_eq_true rfl)⟩ (Nat.le_of_ble_eq_true rfl) (Nat.le_of_ble_eq_true rfl) ?_
    rw [show inC w 0 2 = inI w 3 from inC_inI (m := 3) (by decide)]
    refine xj_if_ne (tgt := 20) dX0_classes_15 rfl (fun c15 => ?_) (fun c15 => ?_)
    · have hbb := b1_nz c6
      have hb2 := hbb
      rw [Bool.and_eq_true] at hb2
      obtain ⟨R, hR, rfl⟩ := rowB_t (by omega) h1n hb2.1
      obtain ⟨S, hS, rfl⟩ := rowB_t (by omega) h1n hb2.2
      have hRM := hRx R hR rfl
      have hSM := hRy hb2.1 S hS rfl
      have tR := tn_nI (by omega) hR
      have tS := tn_nI (by omega) hS
      have hw3 := b1_nz c15
      have hRg : gos n true g R ∈ rws n := gos_mem' (by omega) hR
      have hSg : gos n true g S ∈ rws n := gos_mem' (by omega) hS
      refine xj_aload_n dX0_classes_20 rfl rfl ?_
      refine xj_aload_n dX0_classes_21 rfl rfl ?_
      refine xj_get dX0_classes_22 K0 8 (by decide) q477 hO2 rfl ?_
      refine xj_ic1 dX0_classes_25 ?_
      refine xj_dV dX0_classes_26 q1231 kV_X0_goes (A_goes (t := true) hv2 hn3 hg g11 (by decide) (by decide) hRM hR (by omega)) hO2 rfl rfl rfl rfl (Nat.le_of_ble_eq_true rfl) ⟨(Nat.le_of_ble_eq_true rfl), (Nat.le_of_ble_eq_true rfl)⟩ (Nat.le_of_ble_eq_true rfl) (Nat.le_of_ble_eq_true rfl) ?_
      rintro _ _ ⟨rfl, N1, hN1, hN1R, rfl⟩
      have hv3 : cV d e n (((G.set 11 (cI 1 M)).set 12 (cI 1 M2)).set 11 (cI 1 N1)) := hv2.set (by decide) (by decide)
      obtain ⟨hO3, hN3, -⟩ := id hv3
      have k12 : (((G.set 11 (cI 1 M)).set 12 (cI 1 M2)).set 11 (cI 1 N1))[12]? = some (cI 1 M2) := by rw [gset (by decide)]; exact g12
      refine xj_aload_n dX0_classes_29 rfl rfl ?_
      refine xj_aload_n dX0_classes_30 rfl rfl ?_
      refine xj_get dX0_classes_31 K0 9 (by decide) q478 hO3 rfl ?_
      refine xj_ic1 dX0_classes_34 ?_
      refine xj_dV dX0_classes_35 q1231 kV_X0_goes (A_goes (t := true) hv3 hn3 hg k12 (by decide) (by decide) hSM hS (by omega)) hO3 rfl rfl rfl rfl (Nat.le_of_ble_eq_true rfl) ⟨(Nat.le_of_ble_eq_true rfl), (Nat.le_of_ble_eq_true rfl)⟩ (Nat.le_of_ble_eq_true rfl) (Nat.le_of_ble_eq_true rfl) ?_
      rintro _ _ ⟨rfl, N2, hN2, hN2R, rfl⟩
      have hv4 : cV d e n ((((G.set 11 (cI 1 M)).set 12 (cI 1 M2)).set 11 (cI 1 N1)).set 12 (cI 1 N2)) := hv3.set (by decide) (by decide)
      obtain ⟨hO4, hN4, -⟩ := id hv4
      have q11 : ((((G.set 11 (cI 1 M)).set 12 (cI 1 M2)).set 11 (cI 1 N1)).set 12 (cI 1 N2))[11]? = some (cI 1 N1) := by rw [gset (by decide)]; exact gset_self g11
      have q12 : ((((G.set 11 (cI 1 M)).set 12 (cI 1 M2)).set 11 (cI 1 N1)).set 12 (cI 1 N2))[12]? = some (cI 1 N2) := gset_self k12
      have q13 : ((((G.set 11 (cI 1 M)).set 12 (cI 1 M2)).set 11 (cI 1 N1)).set 12 (cI 1 N2))[13]? = some (cI 1 L3) := by rw [gset (by decide), gset (by decide)]; exact g13
      have hP4 : cPo d G ((((G.set 11 (cI 1 M)).set 12 (cI 1 M2)).set 11 (cI 1 N1)).set 12 (cI 1 N2)) := (hP2.row (by decide) (by decide) (by omega)).row (by decide) (by decide) (by omega)
      refine xj_iload_n dX0_classes_38 rfl ?_
      refine xj_if_ne (tgt := 63) dX0_classes_39 rfl (fun c39 => ?_) (fun c39 => ?_)
      · refine xj_iload_n dX0_classes_63 rfl ?_
        refine xj_ic1 dX0_classes_64 ?_
        refine xj_icmp_ne (tgt := 87) dX0_classes_65 rfl (fun c65 => ?_) (fun c65 => ?_)
        · refine xj_aload_n dX0_classes_87 rfl rfl ?_
          refine xj_aload_n dX0_classes_88 rfl rfl ?_
          refine xj_get dX0_classes_89 K0 8 (by decide) q477 hO4 rfl ?_
          refine xj_aload_n dX0_classes_92 rfl rfl ?_
          refine xj_get dX0_classes_93 K0 9 (by decide) q478 hO4 rfl ?_
          refine xj_aload_n dX0_classes_96 rfl rfl ?_
          refine xj_get dX0_classes_97 K0 10 (by decide) q479 hO4 rfl ?_
          refine xj_dV dX0_classes_100 q640 kV_X0_joined (A_joined hv4 q11 hN1R hRg q12 hN2R hSg q13 (by decide) (by decide) (J := jnS n (inv n (gos n true g R) ||| inv n (gos n true g S))) (jn2_mem (by omega) h1n hRg hSg) (by omega) (by omega) (jn_law (by omega) h1n hRg hSg)) hO4 rfl rfl rfl rfl (Nat.le_of_ble_eq_true rfl) ⟨(Nat.le_of_ble_eq_true rfl), (Nat.le_of_ble_eq_true rfl)⟩ (Nat.le_of_ble_eq_true rfl) (Nat.le_of_ble_eq_true rfl) ?_
          rintro _ _ ⟨rfl, N3, hN3, hN3R, rfl⟩
          have hJ : jnS n (inv n (gos n true g R) ||| inv n (gos n true g S)) ∈ rws n := jn2_mem (by omega) h1n hRg hSg
          have hv5 : cV d e n (((((G.set 11 (cI 1 M)).set 12 (cI 1 M2)).set 11 (cI 1 N1)).set 12 (cI 1 N2)).set 13 (cI 1 N3)) := hv4.set (by decide) (by decide)
          obtain ⟨hO5, hN5, -⟩ := id hv5
          refine xj_aload_n dX0_classes_103 rfl rfl ?_
          refine xj_aload_n dX0_classes_104 rfl rfl ?_
          refine xj_get dX0_classes_105 K0 10 (by decide) q479 hO5 rfl ?_
          refine xj_ic1 dX0_classes_108 ?_
          refine xj_dV dX0_classes_109 q1231 kV_X0_goes (A_goes (t := true) hv5 hn3 hg (gset_self q13) (by decide) (by decide) hN3R hJ (by omega)) hO5 rfl rfl rfl rfl (Nat.le_of_ble_eq_true rfl) ⟨(Nat.le_of_ble_eq_true rfl), (Nat.le_of_ble_eq_true rfl)⟩ (Nat.le_of_ble_eq_true rfl) (Nat.le_of_ble_eq_true rfl) ?_
          rintro _ _ ⟨rfl, N4, hN4, hN4R, rfl⟩
          rw [gset_set]
          have hv6 : cV d e n (((((G.set 11 (cI 1 M)).set 12 (cI 1 M2)).set 11 (cI 1 N1)).set 12 (cI 1 N2)).set 13 (cI 1 N4)) := hv4.set (by decide) (by decide)
          obtain ⟨hO6, hN6, -⟩ := id hv6
          refine xj_aload_n dX0_classes_112 rfl rfl ?_
          refine xj_aload_n dX0_classes_113 rfl rfl ?_
          refine xj_get dX0_classes_114 K0 10 (by decide) q479 hO6 rfl ?_
          refine xj_cV dX0_classes_117 q632 kV_X0_told (A_told hv6 (gset_self q13) hN4R (f_tl n (by omega) _ (gos_mem' (by omega) hJ))) hO6 rfl rfl rfl rfl (Nat.le_of_ble_eq_true rfl) ⟨(Nat.le_of_ble_eq_true rfl), (Nat.le_of_ble_eq_true rfl)⟩ (Nat.le_of_ble_eq_true rfl) (Nat.le_of_ble_eq_true rfl) ?_
          exact xj_ireturn dX0_classes_120 rfl rfl (by first | exact ⟨by subst c65; unfold o_classes; rw [hbb, tR, tS]; rfl, hP4.row (by decide) (by decide) (by omega)⟩ | exact ⟨by have e2 : w = 2 := in3_2 hw3 c39 c65; subst e2; unfold o_classes; rw [hbb, tR, tS]; rfl, hP4.row (by decide) (by decide) (by omega)⟩)
        · refine xj_aload_n dX0_classes_68 rfl rfl ?_
          refine xj_aload_n dX0_classes_69 rfl rfl ?_
          refine xj_get dX0_classes_70 K0 8 (by decide) q477 hO4 rfl ?_
          refine xj_aload_n dX0_classes_73 rfl rfl ?_
          refine xj_get dX0_classes_74 K0 9 (by decide) q478 hO4 rfl ?_
          refine xj_aload_n dX0_classes_77 rfl rfl ?_
          refine xj_get dX0_classes_78 K0 10 (by decide) q479 hO4 rfl ?_
          refine xj_dV dX0_classes_81 q616 kV_X0_met (A_met hv4 q11 hN1R hRg q12 hN2R hSg q13 (by decide) (by decide) (J := mtS n (inv n (gos n true g R) &&& inv n (gos n true g S))) (mtS_mem (by omega) h1n) (by omega) (by omega) (cp_lt (by omega) h1n hRg hSg) (mt_law (by omega) h1n hRg hSg)) hO4 rfl rfl rfl rfl (Nat.le_of_ble_eq_true rfl) ⟨(Nat.le_of_ble_eq_true rfl), (Nat.le_of_ble_eq_true rfl)⟩ (Nat.le_of_ble_eq_true rfl) (Nat.le_of_ble_eq_true rfl) ?_
          rintro _ _ ⟨rfl, N3, hN3, hN3R, rfl⟩
          have hJ : mtS n (inv n (gos n true g R) &&& inv n (gos n true g S)) ∈ rws n := mtS_mem (by omega) h1n
          have hv5 : cV d e n (((((G.set 11 (cI 1 M)).set 12 (cI 1 M2)).set 11 (cI 1 N1)).set 12 (cI 1 N2)).set 13 (cI 1 N3)) := hv4.set (by decide) (by decide)
          obtain ⟨hO5, hN5, -⟩ := id hv5
          refine xj_goto (tgt := 103) dX0_classes_84 rfl ?_
          refine xj_aload_n dX0_classes_103 rfl rfl ?_
          refine xj_aload_n dX0_classes_104 rfl rfl ?_
          refine xj_get dX0_classes_105 K0 10 (by decide) q479 hO5 rfl ?_
          refine xj_ic1 dX0_classes_108 ?_
          refine xj_dV dX0_classes_109 q1231 kV_X0_goes (A_goes (t := true) hv5 hn3 hg (gset_self q13) (by decide) (by decide) hN3R hJ (by omega)) hO5 rfl rfl rfl rfl (Nat.le_of_ble_eq_true rfl) ⟨(Nat.le_of_ble_eq_true rfl), (Nat.le_of_ble_eq_true rfl)⟩ (Nat.le_of_ble_eq_true rfl) (Nat.le_of_ble_eq_true rfl) ?_
          rintro _ _ ⟨rfl, N4, hN4, hN4R, rfl⟩
          rw [gset_set]
          have hv6 : cV d e n (((((G.set 11 (cI 1 M)).set 12 (cI 1 M2)).set 11 (cI 1 N1)).set 12 (cI 1 N2)).set 13 (cI 1 N4)) := hv4.set (by decide) (by decide)
          obtain ⟨hO6, hN6, -⟩ := id hv6
          refine xj_aload_n dX0_classes_112 rfl rfl ?_
          refine xj_aload_n dX0_classes_113 rfl rfl ?_
          refine xj_get dX0_classes_114 K0 10 (by decide) q479 hO6 rfl ?_
          refine xj_cV dX0_classes_117 q632 kV_X0_told (A_told hv6 (gset_self q13) hN4R (f_tl n (by omega) _ (gos_mem' (by omega) hJ))) hO6 rfl rfl rfl rfl (Nat.le_of_ble_eq_true rfl) ⟨(Nat.le_of_ble_eq_true rfl), (Nat.le_of_ble_eq_true rfl)⟩ (Nat.le_of_ble_eq_true rfl) (Nat.le_of_ble_eq_true rfl) ?_
          exact xj_ireturn dX0_classes_120 rfl rfl (by first | exact ⟨by subst c65; unfold o_classes; rw [hbb, tR, tS]; rfl, hP4.row (by decide) (by decide) (by omega)⟩ | exact ⟨by have e2 : w = 2 := in3_2 hw3 c39 c65; subst e2; unfold o_classes; rw [hbb, tR, tS]; rfl, hP4.row (by decide) (by decide) (by omega)⟩)
      · refine xj_aload_n dX0_classes_42 rfl rfl ?_
        refine xj_aload_n dX0_classes_43 rfl rfl ?_
        refine xj_get dX0_classes_44 K0 8 (by decide) q477 hO4 rfl ?_
        refine xj_aload_n dX0_classes_47 rfl rfl ?_
        refine xj_get dX0_classes_48 K0 9 (by decide) q478 hO4 rfl ?_
        refine xj_cV dX0_classes_51 q600 kV_X0_isBelow (A_isBelow hv4 q11 hN1R hRg q12 hN2R hSg) hO4 rfl rfl rfl rfl (Nat.le_of_ble_eq_true rfl) ⟨(Nat.le_of_ble_eq_true rfl), (Nat.le_of_ble_eq_true rfl)⟩ (Nat.le_of_ble_eq_true rfl) (Nat.le_of_ble_eq_true rfl) ?_
        refine xj_sI_if_eq (tgt := 61) (M := 62) dX0_classes_54 rfl (fun c54 k => by
            refine xj_ic0 dX0_classes_61 ?_
            exact k) (fun c54 k => by
            refine xj_ic1 dX0_classes_57 ?_
            refine xj_goto (tgt := 62) dX0_classes_58 rfl ?_
            exact k) ?_
        exact xj_ireturn dX0_classes_62 rfl rfl ⟨by subst c39; unfold o_classes; rw [hbb, tR, tS]; rw [← sub6_subB (by omega) hRg hSg]; cases sub6 n (gos n true g R) (gos n true g S) <;> rfl, hP4⟩
    · refine xj_icm1 dX0_classes_18 ?_
      exact xj_ireturn dX0_classes_19 rfl rfl (by first | exact ⟨by unfold o_classes; rw [b1_z c6]; rfl, hP2⟩ | exact ⟨by unfold o_classes; rw [b1_z c15, Bool.and_false]; rfl, hP2⟩)
theorem A_gone {g : Nat}  (hv : cV d e n G) (hn3 : e 3 = .long (lN g)) (hg : g < 2 ^ 64) : xMet E yX0_gone cX0_gone 1 (some FieldType.long) 0 0 0 [.ref 0] G (xrv (some (.long (lN g))) G) := by
  obtain ⟨hO, hN, hn0, h1n, hn6⟩ := id hv
  refine xMet.of (lv := [some (.ref 0)]) rfl rfl (Nat.le_of_ble_eq_true rfl) ?_
  refine xj_aload_n dX0_gone_0 rfl rfl ?_
  refine xj_get dX0_gone_1 K0 4 (by decide) q473 hO rfl ?_
  refine xj_getN dX0_gone_4 K3 3 (by decide) q327 hN (congrArg some hn3) ?_
  exact xj_lreturn dX0_gone_7 rfl ⟨rfl, rfl⟩
end A10
