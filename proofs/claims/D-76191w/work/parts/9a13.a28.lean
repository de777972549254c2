/-! ===== the class: rows that are alike ===== -/
set_option maxRecDepth 100000
theorem kI_X21_init : xsI yX21_init cX21_init 6 3 := ⟨q1242, q184, q1243, rfl, by decide, by decide, by decide +kernel⟩
theorem kU_X21_X21_X20_ofAll : xsU "CoarserOrders$1Between" "CoarserOrders$Tally" ⟨"CoarserOrders$1Between", "ofAll", "()I"⟩ yX20_ofAll cX20_ofAll 4 (some FieldType.int) 0 := ⟨q1262, Or.inl q1263, q1264, q1265, q183, q1266, by decide, by decide +kernel⟩
section A28
variable {E : xE} {G : xH} {d e : Nat → Value} {n : Nat}
theorem A_manyAlike {R g : Nat} {L1 L2 : List Int32}  (hv : cV d e n G) (hn3 : e 3 = .long (lN g)) (hg : g < 2 ^ 57) (hl83 : 83 ≤ G.length) (h11 : G[11]? = some (cI 1 L1)) (hl1 : L1.length = 6) (hR : rwL n R L1) (hRm : R ∈ rws n) (h12 : G[12]? = some (cI 1 L2)) (hl2 : L2.length = 6) : xMet E yX0_manyAlike cX0_manyAlike 5 (some FieldType.int) 6 3 14 [.ref 0] G (xre (fun v_ G' => v_ = some (.int (nI (lpN (fun i s => s + (if btB (iv6 n (gos n true g R)) (iv6 n (rb n i)) (iv6 n (gos n false g R)) then 1 else 0)) 0 (wy n) 0))) ∧ ∃ M M2 : List Int32, M.length = 6 ∧ M2.length = 6 ∧ gfa [11, 12] G G' ∧ G'[11]? = some (cI 1 M) ∧ G'[12]? = some (cI 1 M2))) := by
  obtain ⟨hO, hN, hn0, h1n, hn6⟩ := id hv
  refine xMet.of (lv := [some (.ref 0), none, none, none, none]) rfl rfl (Nat.le_of_ble_eq_true rfl) ?_
  refine xj_aload_n dX0_manyAlike_0 rfl rfl ?_
  refine xj_aload_n dX0_manyAlike_1 rfl rfl ?_
  refine xj_get dX0_manyAlike_2 K0 8 (by decide) q477 hO rfl ?_
  refine xj_aload_n dX0_manyAlike_5 rfl rfl ?_
  refine xj_get dX0_manyAlike_6 K0 9 (by decide) q478 hO rfl ?_
  refine xj_dV dX0_manyAlike_9 q728 kV_X0_copy (A_copy hv h11 h12 hR (by omega)) hO rfl rfl rfl rfl (Nat.le_of_ble_eq_true rfl) ⟨(Nat.le_of_ble_eq_true rfl), (Nat.le_of_ble_eq_true rfl)⟩ (Nat.le_of_ble_eq_true rfl) (Nat.le_of_ble_eq_true rfl) ?_
  rintro _ _ ⟨rfl, M2, hM2, hM2R, rfl⟩
  have hv2 : cV d e n (G.set 12 (cI 1 M2)) := hv.set (by decide) (by decide)
  obtain ⟨hO2, hN2, -⟩ := id hv2
  have g11 : (G.set 12 (cI 1 M2))[11]? = some (cI 1 L1) := by rw [gset (by decide)]; exact h11
  have hlo := gos_mem' (g := g) (t := true) (by omega) hRm
  have hhi := gos_mem' (g := g) (t := false) (by omega) hRm
  refine xj_aload_n dX0_manyAlike_12 rfl rfl ?_
  refine xj_aload_n dX0_manyAlike_13 rfl rfl ?_
  refine xj_get dX0_manyAlike_14 K0 8 (by decide) q477 hO2 rfl ?_
  refine xj_ic1 dX0_manyAlike_17 ?_
  refine xj_dV dX0_manyAlike_18 q1231 kV_X0_goes (A_goes (t := true) hv2 hn3 (Nat.lt_trans hg (by decide)) g11 (by decide) (by decide) hR hRm (by omega)) hO2 rfl rfl rfl rfl (Nat.le_of_ble_eq_true rfl) ⟨(Nat.le_of_ble_eq_true rfl), (Nat.le_of_ble_eq_true rfl)⟩ (Nat.le_of_ble_eq_true rfl) (Nat.le_of_ble_eq_true rfl) ?_
  rintro _ _ ⟨rfl, M, hM, hMR, rfl⟩
  have hv3 : cV d e n ((G.set 12 (cI 1 M2)).set 11 (cI 1 M)) := hv2.set (by decide) (by decide)
  obtain ⟨hO3, hN3, -⟩ := id hv3
  have g12 : ((G.set 12 (cI 1 M2)).set 11 (cI 1 M))[12]? = some (cI 1 M2) := by rw [gset (by decide)]; exact gset_self h12
  refine xj_aload_n dX0_manyAlike_21 rfl rfl ?_
  refine xj_aload_n dX0_manyAlike_22 rfl rfl ?_
  refine xj_get dX0_manyAlike_23 K0 9 (by decide) q478 hO3 rfl ?_
  refine xj_ic0 dX0_manyAlike_26 ?_
  refine xj_dV dX0_manyAlike_27 q1231 kV_X0_goes (A_goes (t := false) hv3 hn3 (Nat.lt_trans hg (by decide)) g12 (by decide) (by decide) hM2R hRm (by omega)) hO3 rfl rfl rfl rfl (Nat.le_of_ble_eq_true rfl) ⟨(Nat.le_of_ble_eq_true rfl), (Nat.le_of_ble_eq_true rfl)⟩ (Nat.le_of_ble_eq_true rfl) (Nat.le_of_ble_eq_true rfl) ?_
  rintro _ _ ⟨rfl, N2, hN2, hN2R, rfl⟩
  have hv4 : cV d e n (((G.set 12 (cI 1 M2)).set 11 (cI 1 M)).set 12 (cI 1 N2)) := hv3.set (by decide) (by decide)
  obtain ⟨hO4, hN4, -⟩ := id hv4
  have k11 : (((G.set 12 (cI 1 M2)).set 11 (cI 1 M)).set 12 (cI 1 N2))[11]? = some (cI 1 M) := by rw [gset (by decide)]; exact gset_self g11
  have k12 : (((G.set 12 (cI 1 M2)).set 11 (cI 1 M)).set 12 (cI 1 N2))[12]? = some (cI 1 N2) := gset_self g12
  have lc : (((G.set 12 (cI 1 M2)).set 11 (cI 1 M)).set 12 (cI 1 N2)).length = G.length := by rw [List.length_set, List.length_set, List.length_set]
  have hf4 : gfa [11, 12] G (((G.set 12 (cI 1 M2)).set 11 (cI 1 M)).set 12 (cI 1 N2)) := ((gfa.refl.set (by decide)).set (by decide)).set (by decide)
  generalize (((G.set 12 (cI 1 M2)).set 11 (cI 1 M)).set 12 (cI 1 N2)) = H4 at hv4 hO4 hN4 k11 k12 lc hf4 ⊢
  obtain ⟨lo, elo⟩ : ∃ x, x = iv6 n (gos n true g R) := ⟨_, rfl⟩
  obtain ⟨hi, ehi⟩ : ∃ x, x = iv6 n (gos n false g R) := ⟨_, rfl⟩
  have hlo36 : lo < 2 ^ 64 := by rw [elo]; exact Nat.lt_trans (iv6_lt (by omega) hlo) (by decide)
  have hhi36 : hi < 2 ^ 64 := by rw [ehi]; exact Nat.lt_trans (iv6_lt (by omega) hhi) (by decide)
  rw [← elo, ← ehi]
  refine xj_aload_n dX0_manyAlike_30 rfl rfl ?_
  refine xj_aload_n dX0_manyAlike_31 rfl rfl ?_
  refine xj_get dX0_manyAlike_32 K0 8 (by decide) q477 hO4 rfl ?_
  refine xj_cV dX0_manyAlike_35 q604 kV_X0_swapped (A_swapped hv4 k11 hMR hlo) hO4 rfl rfl rfl rfl (Nat.le_of_ble_eq_true rfl) ⟨(Nat.le_of_ble_eq_true rfl), (Nat.le_of_ble_eq_true rfl)⟩ (Nat.le_of_ble_eq_true rfl) (Nat.le_of_ble_eq_true rfl) ?_
  refine xj_lstn1 dX0_manyAlike_38 rfl ?_
  rw [← elo]
  refine xj_aload_n dX0_manyAlike_39 rfl rfl ?_
  refine xj_aload_n dX0_manyAlike_40 rfl rfl ?_
  refine xj_get dX0_manyAlike_41 K0 9 (by decide) q478 hO4 rfl ?_
  refine xj_cV dX0_manyAlike_44 q604 kV_X0_swapped (A_swapped hv4 k12 hN2R hhi) hO4 rfl rfl rfl rfl (Nat.le_of_ble_eq_true rfl) ⟨(Nat.le_of_ble_eq_true rfl), (Nat.le_of_ble_eq_true rfl)⟩ (Nat.le_of_ble_eq_true rfl) (Nat.le_of_ble_eq_true rfl) ?_
  refine xj_lstn3 dX0_manyAlike_47 rfl ?_
  rw [← ehi]
  refine xj_newD (fs := [.null, .long 0, .long 0, .null]) dX0_manyAlike_48 K21 q1239 q1240 q184 rfl (Nat.le_of_ble_eq_true rfl) (Nat.le_of_ble_eq_true rfl) ?_
  refine xj_dup dX0_manyAlike_51 rfl ?_
  refine xj_aload_n dX0_manyAlike_52 rfl rfl ?_
  refine xj_lload_n dX0_manyAlike_53 rfl ?_
  refine xj_lload_n dX0_manyAlike_54 rfl ?_
  refine xj_cI dX0_manyAlike_55 q1241 kI_X21_init (A_init21 app_at) rfl rfl (Nat.le_of_ble_eq_true rfl) ⟨(Nat.le_of_ble_eq_true rfl), (Nat.le_of_ble_eq_true rfl)⟩ (Nat.le_of_ble_eq_true rfl) (Nat.le_of_ble_eq_true rfl) ?_
  rw [app_set]
  have hv5 : cV d e n (H4 ++ [cO 21 [.ref 0, .long (lN lo), .long (lN hi), .ref 0]]) := hv4.app (by omega)
  refine xj_dU dX0_manyAlike_58 q1261 kU_X21_X21_X20_ofAll (A_ofAll21 (f := fun i => if btB lo (iv6 n (rb n i)) hi then 1 else 0) hv5 app_at rfl (by rw [List.length_append]; omega) (fun H i L hi_ hfr hL hR => A_worth21 (lo := lo) (hi := hi) (R := rb n i) ((hfr H4.length (by rw [List.length_append, List.length_singleton]; omega)).trans app_at) (hv5.fr hfr (by rw [List.length_append]; omega)) hL hR (rb_mem (by omega) h1n hi_) hlo36 hhi36)) app_at rfl rfl rfl (Nat.le_of_ble_eq_true rfl) ⟨(Nat.le_of_ble_eq_true rfl), (Nat.le_of_ble_eq_true rfl)⟩ (Nat.le_of_ble_eq_true rfl) (Nat.le_of_ble_eq_true rfl) ?_
  rintro _ H ⟨rfl, hfa⟩
  exact xj_ireturn dX0_manyAlike_61 rfl rfl ⟨rfl, M, N2, by omega, by omega, ⟨by have := hfa.1; rw [List.length_append] at this; omega, fun i hi_ hni => (hfa.2 i (by rw [List.length_append]; omega) (by simp)).trans ((List.getElem?_append_left (by omega)).trans (hf4.2 i hi_ hni))⟩, (hfa.2 11 (by rw [List.length_append]; omega) (by simp)).trans ((List.getElem?_append_left (by omega)).trans k11), (hfa.2 12 (by rw [List.length_append]; omega) (by simp)).trans ((List.getElem?_append_left (by omega)).trans k12)⟩
end A28
