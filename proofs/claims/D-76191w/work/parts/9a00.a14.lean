/-! ===== the class: clear, seed ===== -/
set_option maxRecDepth 100000
theorem kV_X0_manyGone : xsV yX0_manyGone cX0_manyGone 1 (some FieldType.int) 0 := ⟨q813, qs32, q151, q814, by decide, by decide, by decide +kernel⟩
section A14
variable {E : xE} {G : xH} {d e : Nat → Value} {n : Nat}
theorem A_clear {g : Nat}  (hv : cV d e n G) (hn3 : e 3 = .long (lN g)) (hg : g < 2 ^ 64) : xMet E yX0_clear cX0_clear 2 (some FieldType.int) 2 0 0 [.ref 0] G (xrv (some (.int (nI (pc64 g)))) (G.set 4 (cO 3 (oFs (cu e 3 (.long (lN 0))))))) := by
  obtain ⟨hO, hN, hn0, h1n, hn6⟩ := id hv
  refine xMet.of (lv := [some (.ref 0), none]) rfl rfl (Nat.le_of_ble_eq_true rfl) ?_
  refine xj_aload_n dX0_clear_0 rfl rfl ?_
  refine xj_cV dX0_clear_1 q811 kV_X0_manyGone (A_manyGone hv hn3 hg) hO rfl rfl rfl rfl (Nat.le_of_ble_eq_true rfl) ⟨(Nat.le_of_ble_eq_true rfl), (Nat.le_of_ble_eq_true rfl)⟩ (Nat.le_of_ble_eq_true rfl) (Nat.le_of_ble_eq_true rfl) ?_
  refine xj_istn1 dX0_clear_4 rfl ?_
  refine xj_aload_n dX0_clear_5 rfl rfl ?_
  refine xj_get dX0_clear_6 K0 4 (by decide) q473 hO rfl ?_
  refine xj_lc0 dX0_clear_9 ?_
  refine xj_putN dX0_clear_10 K3 3 (by decide) q327 rfl rfl hN (Nat.le_of_ble_eq_true rfl) ?_
  refine xj_iload_n dX0_clear_13 rfl ?_
  exact xj_ireturn dX0_clear_14 rfl rfl ⟨rfl, rfl⟩
theorem A_seed {z v : Int32}  (hv : cV d e n G) (hn2 : e 2 = .int z) : xMet E yX0_seed cX0_seed 3 (some FieldType.int) 0 0 0 [.ref 0, .int v] G (xrv (some (.int z)) (G.set 4 (cO 3 (oFs (cu e 2 (.int v)))))) := by
  obtain ⟨hO, hN, hn0, h1n, hn6⟩ := id hv
  refine xMet.of (lv := [some (.ref 0), some (.int v), none]) rfl rfl (Nat.le_of_ble_eq_true rfl) ?_
  refine xj_aload_n dX0_seed_0 rfl rfl ?_
  refine xj_get dX0_seed_1 K0 4 (by decide) q473 hO rfl ?_
  refine xj_getN dX0_seed_4 K3 2 (by decide) q325 hN (congrArg some hn2) ?_
  refine xj_istn2 dX0_seed_7 rfl ?_
  refine xj_aload_n dX0_seed_8 rfl rfl ?_
  refine xj_get dX0_seed_9 K0 4 (by decide) q473 hO rfl ?_
  refine xj_iload_n dX0_seed_12 rfl ?_
  refine xj_putN dX0_seed_13 K3 2 (by decide) q325 rfl rfl hN (Nat.le_of_ble_eq_true rfl) ?_
  refine xj_iload_n dX0_seed_16 rfl ?_
  exact xj_ireturn dX0_seed_17 rfl rfl ⟨rfl, rfl⟩
end A14
