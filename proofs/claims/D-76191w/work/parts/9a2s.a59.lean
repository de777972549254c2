/-! ===== the class: constructors of its small classes ===== -/
set_option maxRecDepth 100000

theorem set_app {G T : xH} {i : Nat} {x : xC} (h : i < G.length) : (G ++ T).set i x = G.set i x ++ T := List.set_append_left _ _ h
theorem set_app2 {G T : xH} {i : Nat} {x y : xC} (h : i < G.length) : (G.set i x ++ T).set i y = G.set i y ++ T := by rw [List.set_append_left _ _ (by rw [List.length_set]; exact h), gset_set]
section A59
variable {E : xE} {G : xH} {d e : Nat → Value} {n : Nat}
theorem A_orderInit {a : Nat}  (hP : G[a]? = some (cO 3 [.int 0, .int 0, .int 0, .long 0, .null, .null])) : xMet E yX3_init cX3_init 1 none 0 2 12 [.ref a] G (xrv none (G.set a (cO 3 [.int 4, .int 0, .int 1, .long 0, .ref G.length, .ref (G.length + 1)]) ++ [cI 0 (List.replicate 6 0), cI 0 (List.replicate 6 0)])) := by
  refine xMet.of (lv := [some (.ref a)]) rfl rfl (Nat.le_of_ble_eq_true rfl) ?_
  refine xj_aload_n dX3_init_0 rfl rfl ?_
  refine xj_objInit dX3_init_1 q318 qObjI qObjC ⟨(Nat.le_of_ble_eq_true rfl), (Nat.le_of_ble_eq_true rfl)⟩ (Nat.le_of_ble_eq_true rfl) ?_
  refine xj_aload_n dX3_init_4 rfl rfl ?_
  refine xj_ic4 dX3_init_5 ?_
  refine xj_put dX3_init_6 K3 0 (by decide) q319 rfl rfl hP (Nat.le_of_ble_eq_true rfl) ?_
  refine xj_aload_n dX3_init_9 rfl rfl ?_
  refine xj_ic1 dX3_init_10 ?_
  refine xj_put dX3_init_11 K3 2 (by decide) q324 rfl rfl (gset_self hP) (Nat.le_of_ble_eq_true rfl) ?_
  refine xj_aload_n dX3_init_14 rfl rfl ?_
  refine xj_bipush (v := 6) dX3_init_15 rfl ?_
  rw [gset_set]
  refine xj_newI dX3_init_17 q345 rfl (by decide) (Nat.le_of_ble_eq_true rfl) (Nat.le_of_ble_eq_true rfl) ?_
  rw [List.length_set]
  refine xj_putF dX3_init_19 K3 4 (by decide) q328 rfl rfl rfl rfl (app_le (gset_self hP)) (Nat.le_of_ble_eq_true rfl) ?_
  refine xj_aload_n dX3_init_22 rfl rfl ?_
  refine xj_bipush (v := 6) dX3_init_23 rfl ?_
  rw [set_app2 (List.getElem?_eq_some_iff.mp hP).1]
  refine xj_newI dX3_init_25 q345 rfl (by decide) (Nat.le_of_ble_eq_true rfl) (Nat.le_of_ble_eq_true rfl) ?_
  rw [List.length_append, List.length_set, List.length_singleton]
  refine xj_putF dX3_init_27 K3 5 (by decide) q330 rfl rfl rfl rfl (app_le (app_le (gset_self hP))) (Nat.le_of_ble_eq_true rfl) ?_
  exact xj_return dX3_init_30 rfl ⟨rfl, by rw [List.append_assoc, set_app2 (List.getElem?_eq_some_iff.mp hP).1]; rfl⟩
theorem A_traceInit {a : Nat}  (hP : G[a]? = some (cO 4 [.null, .int 0])) : xMet E yX4_init cX4_init 1 none 0 1 30 [.ref a] G (xrv none (G.set a (cO 4 [.ref G.length, .int 0]) ++ [cI 0 (List.replicate 30 0)])) := by
  refine xMet.of (lv := [some (.ref a)]) rfl rfl (Nat.le_of_ble_eq_true rfl) ?_
  refine xj_aload_n dX4_init_0 rfl rfl ?_
  refine xj_objInit dX4_init_1 q364 qObjI qObjC ⟨(Nat.le_of_ble_eq_true rfl), (Nat.le_of_ble_eq_true rfl)⟩ (Nat.le_of_ble_eq_true rfl) ?_
  refine xj_aload_n dX4_init_4 rfl rfl ?_
  refine xj_bipush (v := 30) dX4_init_5 rfl ?_
  refine xj_newI dX4_init_7 q345 rfl (by decide) (Nat.le_of_ble_eq_true rfl) (Nat.le_of_ble_eq_true rfl) ?_
  refine xj_putF dX4_init_9 K4 0 (by decide) q365 rfl rfl rfl rfl (app_le hP) (Nat.le_of_ble_eq_true rfl) ?_
  exact xj_return dX4_init_12 rfl ⟨rfl, by rw [set_app (List.getElem?_eq_some_iff.mp hP).1]; rfl⟩
theorem A_shelfInit {a : Nat}  : xMet E yX5_init cX5_init 1 none 0 0 0 [.ref a] G (xrv none G) := by
  refine xMet.of (lv := [some (.ref a)]) rfl rfl (Nat.le_of_ble_eq_true rfl) ?_
  refine xj_aload_n dX5_init_0 rfl rfl ?_
  refine xj_objInit dX5_init_1 q380 qObjI qObjC ⟨(Nat.le_of_ble_eq_true rfl), (Nat.le_of_ble_eq_true rfl)⟩ (Nat.le_of_ble_eq_true rfl) ?_
  exact xj_return dX5_init_4 rfl ⟨rfl, rfl⟩
end A59
