/-! ===== the class: stairs (1) ===== -/
set_option maxRecDepth 100000
theorem kV_X0_isStep : xsV yX0_isStep cX0_isStep 3 (some FieldType.boolean) 2 := ⟨q1512, qs71, q151, q1513, by decide, by decide, by decide +kernel⟩
/-- steps in two arrays -/
def cSL (A B : List Int32) (l : List (Int32 × Int32)) : Prop := A.length = 15 ∧ B.length = 15 ∧ l.length ≤ 15 ∧ ∀ (i : Nat) (p : Int32 × Int32), l[i]? = some p → A[i]? = some p.1 ∧ B[i]? = some p.2
theorem cSL_a {A B : List Int32} {l : List (Int32 × Int32)} {j : Nat} {v : Int32} (h : cSL A B l) (hj : j < l.length) : cSL (A.set j v) B (l.set j (v, (stAt l j).2)) := by
  obtain ⟨h1, h2, h3, h4⟩ := h
  refine ⟨by rw [List.length_set, h1], h2, by rw [List.length_set]; exact h3, fun i p hp => ?_⟩
  by_cases e : j = i
  · subst e
    rw [List.getElem?_set_self hj] at hp
    cases hp
    exact ⟨List.getElem?_set_self (by omega), (h4 j _ (stAt_some hj)).2⟩
  · rw [List.getElem?_set_ne e] at hp
    rw [List.getElem?_set_ne e]; exact h4 i p hp
theorem cSL_b {A B : List Int32} {l : List (Int32 × Int32)} {j : Nat} {v : Int32} (h : cSL A B l) (hj : j < l.length) : cSL A (B.set j v) (l.set j ((stAt l j).1, v)) := by
  obtain ⟨h1, h2, h3, h4⟩ := h
  refine ⟨h1, by rw [List.length_set, h2], by rw [List.length_set]; exact h3, fun i p hp => ?_⟩
  by_cases e : j = i
  · subst e
    rw [List.getElem?_set_self hj] at hp
    cases hp
    exact ⟨(h4 j _ (stAt_some hj)).1, List.getElem?_set_self (by omega)⟩
  · rw [List.getElem?_set_ne e] at hp
    rw [List.getElem?_set_ne e]; exact h4 i p hp
section A11
variable {E : xE} {G : xH} {d e : Nat → Value} {n : Nat}
theorem A_isStep {i w : Int32} {l : List (Int32 × Int32)}  (hv : cV d e n G) (hd32 : d 32 = .int (nI l.length)) (hl15 : l.length ≤ 15) : xMet E yX0_isStep cX0_isStep 3 (some FieldType.boolean) 1 0 0 [.ref 0, .int i, .int w] G (xrv (some (.int (b1 (stepB l i w)))) G) := by
  obtain ⟨hO, hN, hn0, h1n, hn6⟩ := id hv
  refine xMet.of (lv := [some (.ref 0), some (.int i), some (.int w)]) rfl rfl (Nat.le_of_ble_eq_true rfl) ?_
  refine xj_iload_n dX0_isStep_0 rfl ?_
  refine xj_ic0 dX0_isStep_1 ?_
  refine xj_aload_n dX0_isStep_2 rfl rfl ?_
  refine xj_get dX0_isStep_3 K0 32 (by decide) q504 hO (congrArg some hd32) ?_
  refine xj_ic1 dX0_isStep_6 ?_
  refine xj_isub dX0_isStep_7 ?_
  refine xj_cS dX0_isStep_8 q585 kS_X0_isIn A_isIn rfl rfl (Nat.le_of_ble_eq_true rfl) ⟨(Nat.le_of_ble_eq_true rfl), (Nat.le_of_ble_eq_true rfl)⟩ (Nat.le_of_ble_eq_true rfl) (Nat.le_of_ble_eq_true rfl) ?_
  rw [inC_inI (by omega)]
  refine xj_sI_if_eq (tgt := 27) (M := 28) dX0_isStep_11 rfl (fun c11 k => by
      refine xj_ic0 dX0_isStep_27 ?_
      exact k) (fun c11 k => by
      refine xj_iload_n dX0_isStep_14 rfl ?_
      refine xj_ic0 dX0_isStep_15 ?_
      refine xj_ic1 dX0_isStep_16 ?_
      refine xj_cS dX0_isStep_17 q585 kS_X0_isIn A_isIn rfl rfl (Nat.le_of_ble_eq_true rfl) ⟨(Nat.le_of_ble_eq_true rfl), (Nat.le_of_ble_eq_true rfl)⟩ (Nat.le_of_ble_eq_true rfl) (Nat.le_of_ble_eq_true rfl) ?_
      rw [show inC w 0 1 = inI w 2 from inC_inI (m := 2) (by decide)]
      refine xj_sI_if_eq (tgt := 27) (M := 28) dX0_isStep_20 rfl (fun c20 k => by
          refine xj_ic0 dX0_isStep_27 ?_
          exact k) (fun c20 k => by
          refine xj_ic1 dX0_isStep_23 ?_
          refine xj_goto (tgt := 28) dX0_isStep_24 rfl ?_
          exact k) ?_
      exact k) ?_
  exact xj_ireturn dX0_isStep_28 rfl (by rw [b1_and]; exact b1_nar _) (xrv_i (b1_and _ _))
theorem A_step {i w : Int32} {l : List (Int32 × Int32)} {A B : List Int32}  (hv : cV d e n G) (hd32 : d 32 = .int (nI l.length)) (hcs : cSL A B l) (h28 : G[28]? = some (cI 0 A)) (h29 : G[29]? = some (cI 0 B)) : xMet E yX0_step cX0_step 3 (some FieldType.int) 2 0 0 [.ref 0, .int i, .int w] G (xrv (some (.int (o_step l i w))) G) := by
  obtain ⟨hO, hN, hn0, h1n, hn6⟩ := id hv
  obtain ⟨hA, hB, hl15, hAB⟩ := id hcs
  refine xMet.of (lv := [some (.ref 0), some (.int i), some (.int w)]) rfl rfl (Nat.le_of_ble_eq_true rfl) ?_
  refine xj_aload_n dX0_step_0 rfl rfl ?_
  refine xj_iload_n dX0_step_1 rfl ?_
  refine xj_iload_n dX0_step_2 rfl ?_
  refine xj_cV dX0_step_3 q1510 kV_X0_isStep (A_isStep hv hd32 hl15) hO rfl rfl rfl rfl (Nat.le_of_ble_eq_true rfl) ⟨(Nat.le_of_ble_eq_true rfl), (Nat.le_of_ble_eq_true rfl)⟩ (Nat.le_of_ble_eq_true rfl) (Nat.le_of_ble_eq_true rfl) ?_
  refine xj_if_ne (tgt := 14) dX0_step_6 rfl (fun c6 => ?_) (fun c6 => ?_)
  · have hb := b1_nz c6
    obtain ⟨j, b, hj, hj31, hb2, rfl, rfl⟩ := stepB_t hb
    have tj : tn (nI j) = j := nI_clamp hj31
    have hst := hAB j _ (stAt_some hj)
    refine xj_iload_n dX0_step_14 rfl ?_
    refine xj_if_ne (tgt := 27) dX0_step_15 rfl (fun c15 => ?_) (fun c15 => ?_)
    · refine xj_aload_n dX0_step_27 rfl rfl ?_
      refine xj_get dX0_step_28 K0 31 (by decide) q503 hO rfl ?_
      refine xj_iload_n dX0_step_31 rfl ?_
      refine xj_iald dX0_step_32 h29 rfl (by omega) hst.2 ?_
      exact xj_ireturn dX0_step_33 rfl rfl (xrv_i (by unfold o_step; first | (rw [b1_z c6]; rfl) | (rw [if_pos hb, if_pos c15, tj]) | (rw [if_pos hb, if_neg c15, tj])))
    · refine xj_aload_n dX0_step_18 rfl rfl ?_
      refine xj_get dX0_step_19 K0 30 (by decide) q502 hO rfl ?_
      refine xj_iload_n dX0_step_22 rfl ?_
      refine xj_iald dX0_step_23 h28 rfl (by omega) hst.1 ?_
      refine xj_goto (tgt := 33) dX0_step_24 rfl ?_
      exact xj_ireturn dX0_step_33 rfl rfl (xrv_i (by unfold o_step; first | (rw [b1_z c6]; rfl) | (rw [if_pos hb, if_pos c15, tj]) | (rw [if_pos hb, if_neg c15, tj])))
  · refine xj_bipush (v := -9) dX0_step_9 rfl ?_
    refine xj_goto (tgt := 33) dX0_step_11 rfl ?_
    exact xj_ireturn dX0_step_33 rfl rfl (xrv_i (by unfold o_step; first | (rw [b1_z c6]; rfl) | (rw [if_pos hb, if_pos c15, tj]) | (rw [if_pos hb, if_neg c15, tj])))
theorem A_alterStep {i w v : Int32} {l : List (Int32 × Int32)} {A B : List Int32}  (hv : cV d e n G) (hd32 : d 32 = .int (nI l.length)) (hcs : cSL A B l) (h28 : G[28]? = some (cI 0 A)) (h29 : G[29]? = some (cI 0 B)) : xMet E yX0_alterStep cX0_alterStep 6 (some FieldType.int) 2 0 0 [.ref 0, .int i, .int w, .int v] G (xre (fun v_ G' => v_ = some (.int (o_step l i w)) ∧ ∃ A' B' : List Int32, cSL A' B' (s_alter l i w v) ∧ G' = (G.set 28 (cI 0 A')).set 29 (cI 0 B'))) := by
  obtain ⟨hO, hN, hn0, h1n, hn6⟩ := id hv
  obtain ⟨hA, hB, hl15, hAB⟩ := id hcs
  refine xMet.of (lv := [some (.ref 0), some (.int i), some (.int w), some (.int v), none, none]) rfl rfl (Nat.le_of_ble_eq_true rfl) ?_
  refine xj_aload_n dX0_alterStep_0 rfl rfl ?_
  refine xj_iload_n dX0_alterStep_1 rfl ?_
  refine xj_iload_n dX0_alterStep_2 rfl ?_
  refine xj_cV dX0_alterStep_3 q1510 kV_X0_isStep (A_isStep hv hd32 hl15) hO rfl rfl rfl rfl (Nat.le_of_ble_eq_true rfl) ⟨(Nat.le_of_ble_eq_true rfl), (Nat.le_of_ble_eq_true rfl)⟩ (Nat.le_of_ble_eq_true rfl) (Nat.le_of_ble_eq_true rfl) ?_
  refine xj_if_ne (tgt := 12) dX0_alterStep_6 rfl (fun c6 => ?_) (fun c6 => ?_)
  · have hb := b1_nz c6
    obtain ⟨j, b, hj, hj31, hb2, rfl, rfl⟩ := stepB_t hb
    have tj : tn (nI j) = j := nI_clamp hj31
    have hst := hAB j _ (stAt_some hj)
    refine xj_iload_n dX0_alterStep_12 rfl ?_
    refine xj_if_ne (tgt := 23) dX0_alterStep_13 rfl (fun c13 => ?_) (fun c13 => ?_)
    · refine xj_aload_n dX0_alterStep_23 rfl rfl ?_
      refine xj_get dX0_alterStep_24 K0 31 (by decide) q503 hO rfl ?_
      refine xj_ast4 dX0_alterStep_27 rfl rfl ?_
      refine xj_aload dX0_alterStep_29 rfl rfl ?_
      refine xj_iload_n dX0_alterStep_31 rfl ?_
      refine xj_iald dX0_alterStep_32 h29 rfl (by omega) hst.2 ?_
      refine xj_ist5 dX0_alterStep_33 rfl ?_
      refine xj_aload dX0_alterStep_35 rfl rfl ?_
      refine xj_iload_n dX0_alterStep_37 rfl ?_
      refine xj_iload_n dX0_alterStep_38 rfl ?_
      refine xj_iast dX0_alterStep_39 h29 rfl (by omega) (by omega) ?_
      refine xj_iload dX0_alterStep_40 rfl ?_
      exact xj_ireturn dX0_alterStep_42 rfl rfl ⟨by unfold o_step; rw [if_pos hb, if_neg c13, tj], A, B.set j v, by unfold s_alter; rw [if_pos hb, if_neg c13, tj]; exact cSL_b hcs hj, by rw [gset_id h28]⟩
    · refine xj_aload_n dX0_alterStep_16 rfl rfl ?_
      refine xj_get dX0_alterStep_17 K0 30 (by decide) q502 hO rfl ?_
      refine xj_goto (tgt := 27) dX0_alterStep_20 rfl ?_
      refine xj_ast4 dX0_alterStep_27 rfl rfl ?_
      refine xj_aload dX0_alterStep_29 rfl rfl ?_
      refine xj_iload_n dX0_alterStep_31 rfl ?_
      refine xj_iald dX0_alterStep_32 h28 rfl (by omega) hst.1 ?_
      refine xj_ist5 dX0_alterStep_33 rfl ?_
      refine xj_aload dX0_alterStep_35 rfl rfl ?_
      refine xj_iload_n dX0_alterStep_37 rfl ?_
      refine xj_iload_n dX0_alterStep_38 rfl ?_
      refine xj_iast dX0_alterStep_39 h28 rfl (by omega) (by omega) ?_
      refine xj_iload dX0_alterStep_40 rfl ?_
      exact xj_ireturn dX0_alterStep_42 rfl rfl ⟨by unfold o_step; rw [if_pos hb, if_pos c13, tj], A.set j v, B, by unfold s_alter; rw [if_pos hb, if_pos c13, tj]; exact cSL_a hcs hj, by rw [gset_comm (by decide), gset_id h29]⟩
  · refine xj_bipush (v := -9) dX0_alterStep_9 rfl ?_
    exact xj_ireturn dX0_alterStep_11 rfl rfl ⟨by unfold o_step; rw [b1_z c6]; rfl, A, B, by unfold s_alter; rw [b1_z c6]; exact hcs, (by rw [gset_id h28, gset_id h29])⟩
end A11
