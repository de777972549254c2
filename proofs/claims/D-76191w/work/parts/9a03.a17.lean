/-! ===== the class: small questions ===== -/
set_option maxRecDepth 100000

section A17
variable {E : xE} {G : xH} {d e : Nat → Value} {n : Nat}
theorem A_isKind {x : Int32}  : xMet E yX0_isKind cX0_isKind 1 (some FieldType.boolean) 1 0 0 [.int x] G (xrv (some (.int (b1 (inI x 6)))) G) := by
  refine xMet.of (lv := [some (.int x)]) rfl rfl (Nat.le_of_ble_eq_true rfl) ?_
  refine xj_iload_n dX0_isKind_0 rfl ?_
  refine xj_ic0 dX0_isKind_1 ?_
  refine xj_ic5 dX0_isKind_2 ?_
  refine xj_cS dX0_isKind_3 q585 kS_X0_isIn A_isIn rfl rfl (Nat.le_of_ble_eq_true rfl) ⟨(Nat.le_of_ble_eq_true rfl), (Nat.le_of_ble_eq_true rfl)⟩ (Nat.le_of_ble_eq_true rfl) (Nat.le_of_ble_eq_true rfl) ?_
  exact xj_ireturn dX0_isKind_6 rfl (b1_nar _) (xrv_i (by rw [show inC x 0 5 = inI x 6 from inC_inI (m := 6) (by decide)]))
theorem A_isHow {x : Int32}  : xMet E yX0_isHow cX0_isHow 1 (some FieldType.boolean) 1 0 0 [.int x] G (xrv (some (.int (b1 (inI x 3)))) G) := by
  refine xMet.of (lv := [some (.int x)]) rfl rfl (Nat.le_of_ble_eq_true rfl) ?_
  refine xj_iload_n dX0_isHow_0 rfl ?_
  refine xj_ic0 dX0_isHow_1 ?_
  refine xj_ic2 dX0_isHow_2 ?_
  refine xj_cS dX0_isHow_3 q585 kS_X0_isIn A_isIn rfl rfl (Nat.le_of_ble_eq_true rfl) ⟨(Nat.le_of_ble_eq_true rfl), (Nat.le_of_ble_eq_true rfl)⟩ (Nat.le_of_ble_eq_true rfl) (Nat.le_of_ble_eq_true rfl) ?_
  exact xj_ireturn dX0_isHow_6 rfl (b1_nar _) (xrv_i (by rw [show inC x 0 2 = inI x 3 from inC_inI (m := 3) (by decide)]))
theorem A_isShelf {x : Int32}  : xMet E yX0_isShelf cX0_isShelf 1 (some FieldType.boolean) 1 0 0 [.int x] G (xrv (some (.int (b1 (inI x 4)))) G) := by
  refine xMet.of (lv := [some (.int x)]) rfl rfl (Nat.le_of_ble_eq_true rfl) ?_
  refine xj_iload_n dX0_isShelf_0 rfl ?_
  refine xj_ic0 dX0_isShelf_1 ?_
  refine xj_ic3 dX0_isShelf_2 ?_
  refine xj_cS dX0_isShelf_3 q585 kS_X0_isIn A_isIn rfl rfl (Nat.le_of_ble_eq_true rfl) ⟨(Nat.le_of_ble_eq_true rfl), (Nat.le_of_ble_eq_true rfl)⟩ (Nat.le_of_ble_eq_true rfl) (Nat.le_of_ble_eq_true rfl) ?_
  exact xj_ireturn dX0_isShelf_6 rfl (b1_nar _) (xrv_i (by rw [show inC x 0 3 = inI x 4 from inC_inI (m := 4) (by decide)]))
theorem A_isMaker {x : Int32} {k : Nat}  (hv : cV d e n G) (hn1 : e 1 = .int (nI k)) (hk : k ≤ 6) : xMet E yX0_isMaker cX0_isMaker 2 (some FieldType.boolean) 1 0 0 [.ref 0, .int x] G (xrv (some (.int (b1 (inI x k)))) G) := by
  obtain ⟨hO, hN, hn0, h1n, hn6⟩ := id hv
  refine xMet.of (lv := [some (.ref 0), some (.int x)]) rfl rfl (Nat.le_of_ble_eq_true rfl) ?_
  refine xj_iload_n dX0_isMaker_0 rfl ?_
  refine xj_ic0 dX0_isMaker_1 ?_
  refine xj_aload_n dX0_isMaker_2 rfl rfl ?_
  refine xj_get dX0_isMaker_3 K0 4 (by decide) q473 hO rfl ?_
  refine xj_getN dX0_isMaker_6 K3 1 (by decide) q323 hN (congrArg some hn1) ?_
  refine xj_ic1 dX0_isMaker_9 ?_
  refine xj_isub dX0_isMaker_10 ?_
  refine xj_cS dX0_isMaker_11 q585 kS_X0_isIn A_isIn rfl rfl (Nat.le_of_ble_eq_true rfl) ⟨(Nat.le_of_ble_eq_true rfl), (Nat.le_of_ble_eq_true rfl)⟩ (Nat.le_of_ble_eq_true rfl) (Nat.le_of_ble_eq_true rfl) ?_
  exact xj_ireturn dX0_isMaker_14 rfl (b1_nar _) (xrv_i (by rw [inC_inI (by omega)]))
end A17
