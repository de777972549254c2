/-! ===== the class: makers of kinds ===== -/
set_option maxRecDepth 100000
theorem K8 : xcls 8 RX8 TX8 2 tyX8 := ⟨rfl, in_X8, tyX8_ok, nmX8⟩
theorem K9 : xcls 9 RX9 TX9 2 tyX9 := ⟨rfl, in_X9, tyX9_ok, nmX9⟩
theorem K10 : xcls 10 RX10 TX10 2 tyX10 := ⟨rfl, in_X10, tyX10_ok, nmX10⟩
theorem K11 : xcls 11 RX11 TX11 2 tyX11 := ⟨rfl, in_X11, tyX11_ok, nmX11⟩
theorem K12 : xcls 12 RX12 TX12 2 tyX12 := ⟨rfl, in_X12, tyX12_ok, nmX12⟩
theorem K13 : xcls 13 RX13 TX13 2 tyX13 := ⟨rfl, in_X13, tyX13_ok, nmX13⟩
theorem kV_X6_isLeft : xsV yX6_isLeft cX6_isLeft 2 (some FieldType.boolean) 1 := ⟨q777, q778, q160, q779, by decide, by decide, by decide +kernel⟩
theorem kV_X6_rights : xsV yX6_rights cX6_rights 1 (some FieldType.int) 0 := ⟨q970, q971, q160, q972, by decide, by decide, by decide +kernel⟩
theorem kI_X9_init : xsI yX9_init cX9_init 3 2 := ⟨q843, q168, q844, rfl, by decide, by decide, by decide +kernel⟩
theorem kI_X10_init : xsI yX10_init cX10_init 3 2 := ⟨q859, q169, q860, rfl, by decide, by decide, by decide +kernel⟩
theorem kI_X8_init : xsI yX8_init cX8_init 3 2 := ⟨q846, q167, q847, rfl, by decide, by decide, by decide +kernel⟩
theorem kP_X11_X9_takes : xsP "CoarserOrders$Twosided" yX9_takes cX9_takes 2 (some FieldType.boolean) 1 := ⟨q2609, q873, q944, q168, q945, by decide, by decide +kernel⟩
theorem kP_X13_X10_takes : xsP "CoarserOrders$Mixed" yX10_takes cX10_takes 2 (some FieldType.boolean) 1 := ⟨q2608, q891, q957, q169, q958, by decide, by decide +kernel⟩
theorem kU_X10_X10_X8_mark : xsU "CoarserOrders$Longer" "CoarserOrders$Plain" ⟨"CoarserOrders$Longer", "mark", "()I"⟩ yX8_mark cX8_mark 1 (some FieldType.int) 0 := ⟨q960, Or.inl q961, q962, q926, q167, q934, by decide, by decide +kernel⟩
theorem kU_X12_X12_X8_mark : xsU "CoarserOrders$Signed" "CoarserOrders$Plain" ⟨"CoarserOrders$Signed", "mark", "()I"⟩ yX8_mark cX8_mark 1 (some FieldType.int) 0 := ⟨q979, Or.inl q961, q980, q926, q167, q934, by decide, by decide +kernel⟩
theorem kU_X13_X10_X8_mark : xsU "CoarserOrders$Mixed" "CoarserOrders$Plain" ⟨"CoarserOrders$Longer", "mark", "()I"⟩ yX8_mark cX8_mark 1 (some FieldType.int) 0 := ⟨q960, Or.inl q961, q963, q926, q167, q934, by decide, by decide +kernel⟩
theorem c_gt0 {a : Nat} (ha : a < 2 ^ 31) : (if nI a ≤ 0 then (0 : Int32) else 1) = b1 (decide (0 < a)) := by
  by_cases h : nI a ≤ 0
  · rw [if_pos h, decide_eq_false (nI_nlt0 ha h)]; rfl
  · rw [if_neg h, decide_eq_true (nI_lt0 h)]; rfl
theorem sg_true {n m a : Nat} : ∀ (k c : Nat), lpN (sgF n m a) c k true = true := by
  intro k
  induction k with
  | zero => intro c; rfl
  | succ k ih => intro c; rw [lpN_s]; exact ih (c + 1)
section A24
variable {E : xE} {G : xH} {d e : Nat → Value} {n : Nat}
theorem A_plainInit8 {a : Nat} {u v : Int32}  (hP : G[a]? = some (cO 8 [.int 0, .int 0])) : xMet E yX8_init cX8_init 3 none 0 0 0 [.ref a, .int u, .int v] G (xrv none (G.set a (cO 8 [.int u, .int v]))) := by
  refine xMet.of (lv := [some (.ref a), some (.int u), some (.int v)]) rfl rfl (Nat.le_of_ble_eq_true rfl) ?_
  refine xj_aload_n dX8_init_0 rfl rfl ?_
  refine xj_objInit dX8_init_1 q848 qObjI qObjC ⟨(Nat.le_of_ble_eq_true rfl), (Nat.le_of_ble_eq_true rfl)⟩ (Nat.le_of_ble_eq_true rfl) ?_
  refine xj_aload_n dX8_init_4 rfl rfl ?_
  refine xj_iload_n dX8_init_5 rfl ?_
  refine xj_putF dX8_init_6 K8 0 (by decide) q849 rfl rfl rfl rfl hP (Nat.le_of_ble_eq_true rfl) ?_
  refine xj_aload_n dX8_init_9 rfl rfl ?_
  refine xj_iload_n dX8_init_10 rfl ?_
  refine xj_putF dX8_init_11 K8 1 (by decide) q850 rfl rfl rfl rfl (gset_self hP) (Nat.le_of_ble_eq_true rfl) ?_
  exact xj_return dX8_init_14 rfl ⟨rfl, by rw [gset_set]; rfl⟩
theorem A_number8 {a : Nat} {u v : Int32}  (hP : G[a]? = some (cO 8 [.int u, .int v])) : xMet E yX8_number cX8_number 1 (some FieldType.int) 0 0 0 [.ref a] G (xrv (some (.int u)) G) := by
  refine xMet.of (lv := [some (.ref a)]) rfl rfl (Nat.le_of_ble_eq_true rfl) ?_
  refine xj_aload_n dX8_number_0 rfl rfl ?_
  refine xj_get dX8_number_1 K8 0 (by decide) q849 hP rfl ?_
  exact xj_ireturn dX8_number_4 rfl rfl ⟨rfl, rfl⟩
theorem A_mark8 {a : Nat} {u v : Int32}  (hP : G[a]? = some (cO 8 [.int u, .int v])) : xMet E yX8_mark cX8_mark 1 (some FieldType.int) 0 0 0 [.ref a] G (xrv (some (.int v)) G) := by
  refine xMet.of (lv := [some (.ref a)]) rfl rfl (Nat.le_of_ble_eq_true rfl) ?_
  refine xj_aload_n dX8_mark_0 rfl rfl ?_
  refine xj_get dX8_mark_1 K8 1 (by decide) q850 hP rfl ?_
  exact xj_ireturn dX8_mark_4 rfl rfl ⟨rfl, rfl⟩
theorem A_plainInit9 {a : Nat} {u v : Int32}  (hP : G[a]? = some (cO 9 [.int 0, .int 0])) : xMet E yX8_init cX8_init 3 none 0 0 0 [.ref a, .int u, .int v] G (xrv none (G.set a (cO 9 [.int u, .int v]))) := by
  refine xMet.of (lv := [some (.ref a), some (.int u), some (.int v)]) rfl rfl (Nat.le_of_ble_eq_true rfl) ?_
  refine xj_aload_n dX8_init_0 rfl rfl ?_
  refine xj_objInit dX8_init_1 q848 qObjI qObjC ⟨(Nat.le_of_ble_eq_true rfl), (Nat.le_of_ble_eq_true rfl)⟩ (Nat.le_of_ble_eq_true rfl) ?_
  refine xj_aload_n dX8_init_4 rfl rfl ?_
  refine xj_iload_n dX8_init_5 rfl ?_
  refine xj_putF dX8_init_6 K9 0 (by decide) q849 rfl rfl rfl rfl hP (Nat.le_of_ble_eq_true rfl) ?_
  refine xj_aload_n dX8_init_9 rfl rfl ?_
  refine xj_iload_n dX8_init_10 rfl ?_
  refine xj_putF dX8_init_11 K9 1 (by decide) q850 rfl rfl rfl rfl (gset_self hP) (Nat.le_of_ble_eq_true rfl) ?_
  exact xj_return dX8_init_14 rfl ⟨rfl, by rw [gset_set]; rfl⟩
theorem A_number9 {a : Nat} {u v : Int32}  (hP : G[a]? = some (cO 9 [.int u, .int v])) : xMet E yX8_number cX8_number 1 (some FieldType.int) 0 0 0 [.ref a] G (xrv (some (.int u)) G) := by
  refine xMet.of (lv := [some (.ref a)]) rfl rfl (Nat.le_of_ble_eq_true rfl) ?_
  refine xj_aload_n dX8_number_0 rfl rfl ?_
  refine xj_get dX8_number_1 K9 0 (by decide) q849 hP rfl ?_
  exact xj_ireturn dX8_number_4 rfl rfl ⟨rfl, rfl⟩
theorem A_mark9 {a : Nat} {u v : Int32}  (hP : G[a]? = some (cO 9 [.int u, .int v])) : xMet E yX8_mark cX8_mark 1 (some FieldType.int) 0 0 0 [.ref a] G (xrv (some (.int v)) G) := by
  refine xMet.of (lv := [some (.ref a)]) rfl rfl (Nat.le_of_ble_eq_true rfl) ?_
  refine xj_aload_n dX8_mark_0 rfl rfl ?_
  refine xj_get dX8_mark_1 K9 1 (by decide) q850 hP rfl ?_
  exact xj_ireturn dX8_mark_4 rfl rfl ⟨rfl, rfl⟩
theorem A_plainInit10 {a : Nat} {u v : Int32}  (hP : G[a]? = some (cO 10 [.int 0, .int 0])) : xMet E yX8_init cX8_init 3 none 0 0 0 [.ref a, .int u, .int v] G (xrv none (G.set a (cO 10 [.int u, .int v]))) := by
  refine xMet.of (lv := [some (.ref a), some (.int u), some (.int v)]) rfl rfl (Nat.le_of_ble_eq_true rfl) ?_
  refine xj_aload_n dX8_init_0 rfl rfl ?_
  refine xj_objInit dX8_init_1 q848 qObjI qObjC ⟨(Nat.le_of_ble_eq_true rfl), (Nat.le_of_ble_eq_true rfl)⟩ (Nat.le_of_ble_eq_true rfl) ?_
  refine xj_aload_n dX8_init_4 rfl rfl ?_
  refine xj_iload_n dX8_init_5 rfl ?_
  refine xj_putF dX8_init_6 K10 0 (by decide) q849 rfl rfl rfl rfl hP (Nat.le_of_ble_eq_true rfl) ?_
  refine xj_aload_n dX8_init_9 rfl rfl ?_
  refine xj_iload_n dX8_init_10 rfl ?_
  refine xj_putF dX8_init_11 K10 1 (by decide) q850 rfl rfl rfl rfl (gset_self hP) (Nat.le_of_ble_eq_true rfl) ?_
  exact xj_return dX8_init_14 rfl ⟨rfl, by rw [gset_set]; rfl⟩
theorem A_number10 {a : Nat} {u v : Int32}  (hP : G[a]? = some (cO 10 [.int u, .int v])) : xMet E yX8_number cX8_number 1 (some FieldType.int) 0 0 0 [.ref a] G (xrv (some (.int u)) G) := by
  refine xMet.of (lv := [some (.ref a)]) rfl rfl (Nat.le_of_ble_eq_true rfl) ?_
  refine xj_aload_n dX8_number_0 rfl rfl ?_
  refine xj_get dX8_number_1 K10 0 (by decide) q849 hP rfl ?_
  exact xj_ireturn dX8_number_4 rfl rfl ⟨rfl, rfl⟩
theorem A_mark10 {a : Nat} {u v : Int32}  (hP : G[a]? = some (cO 10 [.int u, .int v])) : xMet E yX8_mark cX8_mark 1 (some FieldType.int) 0 0 0 [.ref a] G (xrv (some (.int v)) G) := by
  refine xMet.of (lv := [some (.ref a)]) rfl rfl (Nat.le_of_ble_eq_true rfl) ?_
  refine xj_aload_n dX8_mark_0 rfl rfl ?_
  refine xj_get dX8_mark_1 K10 1 (by decide) q850 hP rfl ?_
  exact xj_ireturn dX8_mark_4 rfl rfl ⟨rfl, rfl⟩
theorem A_plainInit11 {a : Nat} {u v : Int32}  (hP : G[a]? = some (cO 11 [.int 0, .int 0])) : xMet E yX8_init cX8_init 3 none 0 0 0 [.ref a, .int u, .int v] G (xrv none (G.set a (cO 11 [.int u, .int v]))) := by
  refine xMet.of (lv := [some (.ref a), some (.int u), some (.int v)]) rfl rfl (Nat.le_of_ble_eq_true rfl) ?_
  refine xj_aload_n dX8_init_0 rfl rfl ?_
  refine xj_objInit dX8_init_1 q848 qObjI qObjC ⟨(Nat.le_of_ble_eq_true rfl), (Nat.le_of_ble_eq_true rfl)⟩ (Nat.le_of_ble_eq_true rfl) ?_
  refine xj_aload_n dX8_init_4 rfl rfl ?_
  refine xj_iload_n dX8_init_5 rfl ?_
  refine xj_putF dX8_init_6 K11 0 (by decide) q849 rfl rfl rfl rfl hP (Nat.le_of_ble_eq_true rfl) ?_
  refine xj_aload_n dX8_init_9 rfl rfl ?_
  refine xj_iload_n dX8_init_10 rfl ?_
  refine xj_putF dX8_init_11 K11 1 (by decide) q850 rfl rfl rfl rfl (gset_self hP) (Nat.le_of_ble_eq_true rfl) ?_
  exact xj_return dX8_init_14 rfl ⟨rfl, by rw [gset_set]; rfl⟩
theorem A_number11 {a : Nat} {u v : Int32}  (hP : G[a]? = some (cO 11 [.int u, .int v])) : xMet E yX8_number cX8_number 1 (some FieldType.int) 0 0 0 [.ref a] G (xrv (some (.int u)) G) := by
  refine xMet.of (lv := [some (.ref a)]) rfl rfl (Nat.le_of_ble_eq_true rfl) ?_
  refine xj_aload_n dX8_number_0 rfl rfl ?_
  refine xj_get dX8_number_1 K11 0 (by decide) q849 hP rfl ?_
  exact xj_ireturn dX8_number_4 rfl rfl ⟨rfl, rfl⟩
theorem A_mark11 {a : Nat} {u v : Int32}  (hP : G[a]? = some (cO 11 [.int u, .int v])) : xMet E yX8_mark cX8_mark 1 (some FieldType.int) 0 0 0 [.ref a] G (xrv (some (.int v)) G) := by
  refine xMet.of (lv := [some (.ref a)]) rfl rfl (Nat.le_of_ble_eq_true rfl) ?_
  refine xj_aload_n dX8_mark_0 rfl rfl ?_
  refine xj_get dX8_mark_1 K11 1 (by decide) q850 hP rfl ?_
  exact xj_ireturn dX8_mark_4 rfl rfl ⟨rfl, rfl⟩
theorem A_plainInit12 {a : Nat} {u v : Int32}  (hP : G[a]? = some (cO 12 [.int 0, .int 0])) : xMet E yX8_init cX8_init 3 none 0 0 0 [.ref a, .int u, .int v] G (xrv none (G.set a (cO 12 [.int u, .int v]))) := by
  refine xMet.of (lv := [some (.ref a), some (.int u), some (.int v)]) rfl rfl (Nat.le_of_ble_eq_true rfl) ?_
  refine xj_aload_n dX8_init_0 rfl rfl ?_
  refine xj_objInit dX8_init_1 q848 qObjI qObjC ⟨(Nat.le_of_ble_eq_true rfl), (Nat.le_of_ble_eq_true rfl)⟩ (Nat.le_of_ble_eq_true rfl) ?_
  refine xj_aload_n dX8_init_4 rfl rfl ?_
  refine xj_iload_n dX8_init_5 rfl ?_
  refine xj_putF dX8_init_6 K12 0 (by decide) q849 rfl rfl rfl rfl hP (Nat.le_of_ble_eq_true rfl) ?_
  refine xj_aload_n dX8_init_9 rfl rfl ?_
  refine xj_iload_n dX8_init_10 rfl ?_
  refine xj_putF dX8_init_11 K12 1 (by decide) q850 rfl rfl rfl rfl (gset_self hP) (Nat.le_of_ble_eq_true rfl) ?_
  exact xj_return dX8_init_14 rfl ⟨rfl, by rw [gset_set]; rfl⟩
theorem A_number12 {a : Nat} {u v : Int32}  (hP : G[a]? = some (cO 12 [.int u, .int v])) : xMet E yX8_number cX8_number 1 (some FieldType.int) 0 0 0 [.ref a] G (xrv (some (.int u)) G) := by
  refine xMet.of (lv := [some (.ref a)]) rfl rfl (Nat.le_of_ble_eq_true rfl) ?_
  refine xj_aload_n dX8_number_0 rfl rfl ?_
  refine xj_get dX8_number_1 K12 0 (by decide) q849 hP rfl ?_
  exact xj_ireturn dX8_number_4 rfl rfl ⟨rfl, rfl⟩
theorem A_mark12 {a : Nat} {u v : Int32}  (hP : G[a]? = some (cO 12 [.int u, .int v])) : xMet E yX8_mark cX8_mark 1 (some FieldType.int) 0 0 0 [.ref a] G (xrv (some (.int v)) G) := by
  refine xMet.of (lv := [some (.ref a)]) rfl rfl (Nat.le_of_ble_eq_true rfl) ?_
  refine xj_aload_n dX8_mark_0 rfl rfl ?_
  refine xj_get dX8_mark_1 K12 1 (by decide) q850 hP rfl ?_
  exact xj_ireturn dX8_mark_4 rfl rfl ⟨rfl, rfl⟩
theorem A_plainInit13 {a : Nat} {u v : Int32}  (hP : G[a]? = some (cO 13 [.int 0, .int 0])) : xMet E yX8_init cX8_init 3 none 0 0 0 [.ref a, .int u, .int v] G (xrv none (G.set a (cO 13 [.int u, .int v]))) := by
  refine xMet.of (lv := [some (.ref a), some (.int u), some (.int v)]) rfl rfl (Nat.le_of_ble_eq_true rfl) ?_
  refine xj_aload_n dX8_init_0 rfl rfl ?_
  refine xj_objInit dX8_init_1 q848 qObjI qObjC ⟨(Nat.le_of_ble_eq_true rfl), (Nat.le_of_ble_eq_true rfl)⟩ (Nat.le_of_ble_eq_true rfl) ?_
  refine xj_aload_n dX8_init_4 rfl rfl ?_
  refine xj_iload_n dX8_init_5 rfl ?_
  refine xj_putF dX8_init_6 K13 0 (by decide) q849 rfl rfl rfl rfl hP (Nat.le_of_ble_eq_true rfl) ?_
  refine xj_aload_n dX8_init_9 rfl rfl ?_
  refine xj_iload_n dX8_init_10 rfl ?_
  refine xj_putF dX8_init_11 K13 1 (by decide) q850 rfl rfl rfl rfl (gset_self hP) (Nat.le_of_ble_eq_true rfl) ?_
  exact xj_return dX8_init_14 rfl ⟨rfl, by rw [gset_set]; rfl⟩
theorem A_number13 {a : Nat} {u v : Int32}  (hP : G[a]? = some (cO 13 [.int u, .int v])) : xMet E yX8_number cX8_number 1 (some FieldType.int) 0 0 0 [.ref a] G (xrv (some (.int u)) G) := by
  refine xMet.of (lv := [some (.ref a)]) rfl rfl (Nat.le_of_ble_eq_true rfl) ?_
  refine xj_aload_n dX8_number_0 rfl rfl ?_
  refine xj_get dX8_number_1 K13 0 (by decide) q849 hP rfl ?_
  exact xj_ireturn dX8_number_4 rfl rfl ⟨rfl, rfl⟩
theorem A_mark13 {a : Nat} {u v : Int32}  (hP : G[a]? = some (cO 13 [.int u, .int v])) : xMet E yX8_mark cX8_mark 1 (some FieldType.int) 0 0 0 [.ref a] G (xrv (some (.int v)) G) := by
  refine xMet.of (lv := [some (.ref a)]) rfl rfl (Nat.le_of_ble_eq_true rfl) ?_
  refine xj_aload_n dX8_mark_0 rfl rfl ?_
  refine xj_get dX8_mark_1 K13 1 (by decide) q850 hP rfl ?_
  exact xj_ireturn dX8_mark_4 rfl rfl ⟨rfl, rfl⟩
theorem A_init9_9 {a : Nat} {u v : Int32}  (hP : G[a]? = some (cO 9 [.int 0, .int 0])) : xMet E yX9_init cX9_init 3 none 1 0 0 [.ref a, .int u, .int v] G (xrv none (G.set a (cO 9 [.int u, .int v]))) := by
  refine xMet.of (lv := [some (.ref a), some (.int u), some (.int v)]) rfl rfl (Nat.le_of_ble_eq_true rfl) ?_
  refine xj_aload_n dX9_init_0 rfl rfl ?_
  refine xj_iload_n dX9_init_1 rfl ?_
  refine xj_iload_n dX9_init_2 rfl ?_
  refine xj_cI dX9_init_3 q845 kI_X8_init (A_plainInit9 hP) rfl rfl (Nat.le_of_ble_eq_true rfl) ⟨(Nat.le_of_ble_eq_true rfl), (Nat.le_of_ble_eq_true rfl)⟩ (Nat.le_of_ble_eq_true rfl) (Nat.le_of_ble_eq_true rfl) ?_
  exact xj_return dX9_init_6 rfl ⟨rfl, rfl⟩
theorem A_init9_11 {a : Nat} {u v : Int32}  (hP : G[a]? = some (cO 11 [.int 0, .int 0])) : xMet E yX9_init cX9_init 3 none 1 0 0 [.ref a, .int u, .int v] G (xrv none (G.set a (cO 11 [.int u, .int v]))) := by
  refine xMet.of (lv := [some (.ref a), some (.int u), some (.int v)]) rfl rfl (Nat.le_of_ble_eq_true rfl) ?_
  refine xj_aload_n dX9_init_0 rfl rfl ?_
  refine xj_iload_n dX9_init_1 rfl ?_
  refine xj_iload_n dX9_init_2 rfl ?_
  refine xj_cI dX9_init_3 q845 kI_X8_init (A_plainInit11 hP) rfl rfl (Nat.le_of_ble_eq_true rfl) ⟨(Nat.le_of_ble_eq_true rfl), (Nat.le_of_ble_eq_true rfl)⟩ (Nat.le_of_ble_eq_true rfl) (Nat.le_of_ble_eq_true rfl) ?_
  exact xj_return dX9_init_6 rfl ⟨rfl, rfl⟩
theorem A_init9_12 {a : Nat} {u v : Int32}  (hP : G[a]? = some (cO 12 [.int 0, .int 0])) : xMet E yX9_init cX9_init 3 none 1 0 0 [.ref a, .int u, .int v] G (xrv none (G.set a (cO 12 [.int u, .int v]))) := by
  refine xMet.of (lv := [some (.ref a), some (.int u), some (.int v)]) rfl rfl (Nat.le_of_ble_eq_true rfl) ?_
  refine xj_aload_n dX9_init_0 rfl rfl ?_
  refine xj_iload_n dX9_init_1 rfl ?_
  refine xj_iload_n dX9_init_2 rfl ?_
  refine xj_cI dX9_init_3 q845 kI_X8_init (A_plainInit12 hP) rfl rfl (Nat.le_of_ble_eq_true rfl) ⟨(Nat.le_of_ble_eq_true rfl), (Nat.le_of_ble_eq_true rfl)⟩ (Nat.le_of_ble_eq_true rfl) (Nat.le_of_ble_eq_true rfl) ?_
  exact xj_return dX9_init_6 rfl ⟨rfl, rfl⟩
theorem A_init10_10 {a : Nat} {u v : Int32}  (hP : G[a]? = some (cO 10 [.int 0, .int 0])) : xMet E yX10_init cX10_init 3 none 1 0 0 [.ref a, .int u, .int v] G (xrv none (G.set a (cO 10 [.int u, .int v]))) := by
  refine xMet.of (lv := [some (.ref a), some (.int u), some (.int v)]) rfl rfl (Nat.le_of_ble_eq_true rfl) ?_
  refine xj_aload_n dX10_init_0 rfl rfl ?_
  refine xj_iload_n dX10_init_1 rfl ?_
  refine xj_iload_n dX10_init_2 rfl ?_
  refine xj_cI dX10_init_3 q861 kI_X8_init (A_plainInit10 hP) rfl rfl (Nat.le_of_ble_eq_true rfl) ⟨(Nat.le_of_ble_eq_true rfl), (Nat.le_of_ble_eq_true rfl)⟩ (Nat.le_of_ble_eq_true rfl) (Nat.le_of_ble_eq_true rfl) ?_
  exact xj_return dX10_init_6 rfl ⟨rfl, rfl⟩
theorem A_init10_13 {a : Nat} {u v : Int32}  (hP : G[a]? = some (cO 13 [.int 0, .int 0])) : xMet E yX10_init cX10_init 3 none 1 0 0 [.ref a, .int u, .int v] G (xrv none (G.set a (cO 13 [.int u, .int v]))) := by
  refine xMet.of (lv := [some (.ref a), some (.int u), some (.int v)]) rfl rfl (Nat.le_of_ble_eq_true rfl) ?_
  refine xj_aload_n dX10_init_0 rfl rfl ?_
  refine xj_iload_n dX10_init_1 rfl ?_
  refine xj_iload_n dX10_init_2 rfl ?_
  refine xj_cI dX10_init_3 q861 kI_X8_init (A_plainInit13 hP) rfl rfl (Nat.le_of_ble_eq_true rfl) ⟨(Nat.le_of_ble_eq_true rfl), (Nat.le_of_ble_eq_true rfl)⟩ (Nat.le_of_ble_eq_true rfl) (Nat.le_of_ble_eq_true rfl) ?_
  exact xj_return dX10_init_6 rfl ⟨rfl, rfl⟩
theorem A_init11_11 {a : Nat} {u v : Int32}  (hP : G[a]? = some (cO 11 [.int 0, .int 0])) : xMet E yX11_init cX11_init 3 none 2 0 0 [.ref a, .int u, .int v] G (xrv none (G.set a (cO 11 [.int u, .int v]))) := by
  refine xMet.of (lv := [some (.ref a), some (.int u), some (.int v)]) rfl rfl (Nat.le_of_ble_eq_true rfl) ?_
  refine xj_aload_n dX11_init_0 rfl rfl ?_
  refine xj_iload_n dX11_init_1 rfl ?_
  refine xj_iload_n dX11_init_2 rfl ?_
  refine xj_cI dX11_init_3 q870 kI_X9_init (A_init9_11 hP) rfl rfl (Nat.le_of_ble_eq_true rfl) ⟨(Nat.le_of_ble_eq_true rfl), (Nat.le_of_ble_eq_true rfl)⟩ (Nat.le_of_ble_eq_true rfl) (Nat.le_of_ble_eq_true rfl) ?_
  exact xj_return dX11_init_6 rfl ⟨rfl, rfl⟩
theorem A_init12_12 {a : Nat} {u v : Int32}  (hP : G[a]? = some (cO 12 [.int 0, .int 0])) : xMet E yX12_init cX12_init 3 none 2 0 0 [.ref a, .int u, .int v] G (xrv none (G.set a (cO 12 [.int u, .int v]))) := by
  refine xMet.of (lv := [some (.ref a), some (.int u), some (.int v)]) rfl rfl (Nat.le_of_ble_eq_true rfl) ?_
  refine xj_aload_n dX12_init_0 rfl rfl ?_
  refine xj_iload_n dX12_init_1 rfl ?_
  refine xj_iload_n dX12_init_2 rfl ?_
  refine xj_cI dX12_init_3 q879 kI_X9_init (A_init9_12 hP) rfl rfl (Nat.le_of_ble_eq_true rfl) ⟨(Nat.le_of_ble_eq_true rfl), (Nat.le_of_ble_eq_true rfl)⟩ (Nat.le_of_ble_eq_true rfl) (Nat.le_of_ble_eq_true rfl) ?_
  exact xj_return dX12_init_6 rfl ⟨rfl, rfl⟩
theorem A_init13_13 {a : Nat} {u v : Int32}  (hP : G[a]? = some (cO 13 [.int 0, .int 0])) : xMet E yX13_init cX13_init 3 none 2 0 0 [.ref a, .int u, .int v] G (xrv none (G.set a (cO 13 [.int u, .int v]))) := by
  refine xMet.of (lv := [some (.ref a), some (.int u), some (.int v)]) rfl rfl (Nat.le_of_ble_eq_true rfl) ?_
  refine xj_aload_n dX13_init_0 rfl rfl ?_
  refine xj_iload_n dX13_init_1 rfl ?_
  refine xj_iload_n dX13_init_2 rfl ?_
  refine xj_cI dX13_init_3 q888 kI_X10_init (A_init10_13 hP) rfl rfl (Nat.le_of_ble_eq_true rfl) ⟨(Nat.le_of_ble_eq_true rfl), (Nat.le_of_ble_eq_true rfl)⟩ (Nat.le_of_ble_eq_true rfl) (Nat.le_of_ble_eq_true rfl) ?_
  exact xj_return dX13_init_6 rfl ⟨rfl, rfl⟩
theorem A_kind8 {a : Nat}  : xMet E yX8_kind cX8_kind 1 (some FieldType.int) 0 0 0 [.ref a] G (xrv (some (.int (nI 0))) G) := by
  refine xMet.of (lv := [some (.ref a)]) rfl rfl (Nat.le_of_ble_eq_true rfl) ?_
  refine xj_ic0 dX8_kind_0 ?_
  exact xj_ireturn dX8_kind_1 rfl rfl ⟨rfl, rfl⟩
theorem A_kind9 {a : Nat}  : xMet E yX9_kind cX9_kind 1 (some FieldType.int) 0 0 0 [.ref a] G (xrv (some (.int (nI 1))) G) := by
  refine xMet.of (lv := [some (.ref a)]) rfl rfl (Nat.le_of_ble_eq_true rfl) ?_
  refine xj_ic1 dX9_kind_0 ?_
  exact xj_ireturn dX9_kind_1 rfl rfl ⟨rfl, rfl⟩
theorem A_kind10 {a : Nat}  : xMet E yX10_kind cX10_kind 1 (some FieldType.int) 0 0 0 [.ref a] G (xrv (some (.int (nI 2))) G) := by
  refine xMet.of (lv := [some (.ref a)]) rfl rfl (Nat.le_of_ble_eq_true rfl) ?_
  refine xj_ic2 dX10_kind_0 ?_
  exact xj_ireturn dX10_kind_1 rfl rfl ⟨rfl, rfl⟩
theorem A_kind11 {a : Nat}  : xMet E yX11_kind cX11_kind 1 (some FieldType.int) 0 0 0 [.ref a] G (xrv (some (.int (nI 3))) G) := by
  refine xMet.of (lv := [some (.ref a)]) rfl rfl (Nat.le_of_ble_eq_true rfl) ?_
  refine xj_ic3 dX11_kind_0 ?_
  exact xj_ireturn dX11_kind_1 rfl rfl ⟨rfl, rfl⟩
theorem A_kind12 {a : Nat}  : xMet E yX12_kind cX12_kind 1 (some FieldType.int) 0 0 0 [.ref a] G (xrv (some (.int (nI 4))) G) := by
  refine xMet.of (lv := [some (.ref a)]) rfl rfl (Nat.le_of_ble_eq_true rfl) ?_
  refine xj_ic4 dX12_kind_0 ?_
  exact xj_ireturn dX12_kind_1 rfl rfl ⟨rfl, rfl⟩
theorem A_kind13 {a : Nat}  : xMet E yX13_kind cX13_kind 1 (some FieldType.int) 0 0 0 [.ref a] G (xrv (some (.int (nI 5))) G) := by
  refine xMet.of (lv := [some (.ref a)]) rfl rfl (Nat.le_of_ble_eq_true rfl) ?_
  refine xj_ic5 dX13_kind_0 ?_
  exact xj_ireturn dX13_kind_1 rfl rfl ⟨rfl, rfl⟩
theorem A_takes8 {a b k mk : Nat} {nu : Int32} {w : Nat → Value}  : xMet E yX8_takes cX8_takes 2 (some FieldType.boolean) 0 0 0 [.ref a, .ref b] G (xrv (some (.int (b1 (tkB n 0 mk k)))) G) := by
  refine xMet.of (lv := [some (.ref a), some (.ref b)]) rfl rfl (Nat.le_of_ble_eq_true rfl) ?_
  refine xj_ic0 dX8_takes_0 ?_
  exact xj_ireturn dX8_takes_1 rfl rfl ⟨rfl, rfl⟩
theorem A_takes9 {a b k mk : Nat} {nu : Int32} {w : Nat → Value}  (h6 : G[b]? = some (cO 6 (aFs n k w))) (hn7 : n < 7) (hk : k < na n) : xMet E yX9_takes cX9_takes 2 (some FieldType.boolean) 2 0 0 [.ref a, .ref b] G (xrv (some (.int (b1 (tkB n 1 mk k)))) G) := by
  have hac := f_ac n hn7 k hk
  have hlf := f_lf n hn7 k hk
  have hbw : bw n k < 8 := by unfold bw; omega
  refine xMet.of (lv := [some (.ref a), some (.ref b)]) rfl rfl (Nat.le_of_ble_eq_true rfl) ?_
  refine xj_aload_n dX9_takes_0 rfl rfl ?_
  refine xj_cV dX9_takes_1 q946 kV_X6_lefts (A_lefts h6 hn7 hk) h6 rfl rfl rfl rfl (Nat.le_of_ble_eq_true rfl) ⟨(Nat.le_of_ble_eq_true rfl), (Nat.le_of_ble_eq_true rfl)⟩ (Nat.le_of_ble_eq_true rfl) (Nat.le_of_ble_eq_true rfl) ?_
  refine xj_sI_if_le (tgt := 11) (M := 12) dX9_takes_4 rfl (fun c4 k => by
      refine xj_ic0 dX9_takes_11 ?_
      exact k) (fun c4 k => by
      refine xj_ic1 dX9_takes_7 ?_
      refine xj_goto (tgt := 12) dX9_takes_8 rfl ?_
      exact k) ?_
  exact xj_ireturn dX9_takes_12 rfl (b1_10) (xrv_i (by rw [c_gt0 (by omega)]; unfold tkB; rw [if_pos rfl]))
theorem A_takes10_10 {a b k mk : Nat} {nu : Int32} {w : Nat → Value}  (hP : G[a]? = some (cO 10 [.int nu, .int (nI mk)])) (h6 : G[b]? = some (cO 6 (aFs n k w))) (hn7 : n < 7) (hk : k < na n) (hmk : mk < 16) : xMet E yX10_takes cX10_takes 2 (some FieldType.boolean) 1 0 0 [.ref a, .ref b] G (xrv (some (.int (b1 (tkB n 2 mk k)))) G) := by
  have hac := f_ac n hn7 k hk
  have hlf := f_lf n hn7 k hk
  have hbw : bw n k < 8 := by unfold bw; omega
  refine xMet.of (lv := [some (.ref a), some (.ref b)]) rfl rfl (Nat.le_of_ble_eq_true rfl) ?_
  refine xj_aload_n dX10_takes_0 rfl rfl ?_
  refine xj_getN dX10_takes_1 K6 2 (by decide) q408 h6 rfl ?_
  refine xj_aload_n dX10_takes_4 rfl rfl ?_
  refine xj_getN dX10_takes_5 K6 1 (by decide) q405 h6 rfl ?_
  refine xj_isub dX10_takes_8 ?_
  refine xj_aload_n dX10_takes_9 rfl rfl ?_
  refine xj_cU dX10_takes_10 q959 kU_X10_X10_X8_mark (A_mark10 hP) hP rfl rfl rfl (Nat.le_of_ble_eq_true rfl) ⟨(Nat.le_of_ble_eq_true rfl), (Nat.le_of_ble_eq_true rfl)⟩ (Nat.le_of_ble_eq_true rfl) (Nat.le_of_ble_eq_true rfl) ?_
  refine xj_eq rfl (show _ = [Value.int (nI mk), Value.int (nI (bw n k + 1))] from by rw [pk_sub (by omega), show aH n k - aL n k = bw n k + 1 by unfold bw; omega]; rfl) rfl ?_
  refine xj_sI_icmp_le (tgt := 20) (M := 21) dX10_takes_13 rfl (fun c13 k => by
      refine xj_ic0 dX10_takes_20 ?_
      exact k) (fun c13 k => by
      refine xj_ic1 dX10_takes_16 ?_
      refine xj_goto (tgt := 21) dX10_takes_17 rfl ?_
      exact k) ?_
  exact xj_ireturn dX10_takes_21 rfl (b1_10) (xrv_i (by rw [c_le (by omega) (by omega), b1_nof]; unfold tkB; rw [if_neg (by decide), if_pos rfl]; congr 1; by_cases h : bw n k + 1 ≤ mk <;> simp [h] <;> omega))
theorem A_takes10_13 {a b k mk : Nat} {nu : Int32} {w : Nat → Value}  (hP : G[a]? = some (cO 13 [.int nu, .int (nI mk)])) (h6 : G[b]? = some (cO 6 (aFs n k w))) (hn7 : n < 7) (hk : k < na n) (hmk : mk < 16) : xMet E yX10_takes cX10_takes 2 (some FieldType.boolean) 1 0 0 [.ref a, .ref b] G (xrv (some (.int (b1 (tkB n 2 mk k)))) G) := by
  have hac := f_ac n hn7 k hk
  have hlf := f_lf n hn7 k hk
  have hbw : bw n k < 8 := by unfold bw; omega
  refine xMet.of (lv := [some (.ref a), some (.ref b)]) rfl rfl (Nat.le_of_ble_eq_true rfl) ?_
  refine xj_aload_n dX10_takes_0 rfl rfl ?_
  refine xj_getN dX10_takes_1 K6 2 (by decide) q408 h6 rfl ?_
  refine xj_aload_n dX10_takes_4 rfl rfl ?_
  refine xj_getN dX10_takes_5 K6 1 (by decide) q405 h6 rfl ?_
  refine xj_isub dX10_takes_8 ?_
  refine xj_aload_n dX10_takes_9 rfl rfl ?_
  refine xj_cU dX10_takes_10 q959 kU_X13_X10_X8_mark (A_mark13 hP) hP rfl rfl rfl (Nat.le_of_ble_eq_true rfl) ⟨(Nat.le_of_ble_eq_true rfl), (Nat.le_of_ble_eq_true rfl)⟩ (Nat.le_of_ble_eq_true rfl) (Nat.le_of_ble_eq_true rfl) ?_
  refine xj_eq rfl (show _ = [Value.int (nI mk), Value.int (nI (bw n k + 1))] from by rw [pk_sub (by omega), show aH n k - aL n k = bw n k + 1 by unfold bw; omega]; rfl) rfl ?_
  refine xj_sI_icmp_le (tgt := 20) (M := 21) dX10_takes_13 rfl (fun c13 k => by
      refine xj_ic0 dX10_takes_20 ?_
      exact k) (fun c13 k => by
      refine xj_ic1 dX10_takes_16 ?_
      refine xj_goto (tgt := 21) dX10_takes_17 rfl ?_
      exact k) ?_
  exact xj_ireturn dX10_takes_21 rfl (b1_10) (xrv_i (by rw [c_le (by omega) (by omega), b1_nof]; unfold tkB; rw [if_neg (by decide), if_pos rfl]; congr 1; by_cases h : bw n k + 1 ≤ mk <;> simp [h] <;> omega))
theorem A_takes11 {a b k mk : Nat} {nu : Int32} {w : Nat → Value}  (hP : G[a]? = some (cO 11 [.int nu, .int (nI mk)])) (h6 : G[b]? = some (cO 6 (aFs n k w))) (hn7 : n < 7) (hk : k < na n) : xMet E yX11_takes cX11_takes 2 (some FieldType.boolean) 3 0 0 [.ref a, .ref b] G (xrv (some (.int (b1 (tkB n 3 mk k)))) G) := by
  have hac := f_ac n hn7 k hk
  have hlf := f_lf n hn7 k hk
  have hbw : bw n k < 8 := by unfold bw; omega
  refine xMet.of (lv := [some (.ref a), some (.ref b)]) rfl rfl (Nat.le_of_ble_eq_true rfl) ?_
  refine xj_aload_n dX11_takes_0 rfl rfl ?_
  refine xj_aload_n dX11_takes_1 rfl rfl ?_
  refine xj_cP dX11_takes_2 q984 kP_X11_X9_takes (A_takes9 (mk := mk) (nu := 0) h6 hn7 hk) hP rfl rfl rfl (Nat.le_of_ble_eq_true rfl) ⟨(Nat.le_of_ble_eq_true rfl), (Nat.le_of_ble_eq_true rfl)⟩ (Nat.le_of_ble_eq_true rfl) (Nat.le_of_ble_eq_true rfl) ?_
  refine xj_if_eq (tgt := 19) dX11_takes_5 rfl (fun c5 => ?_) (fun c5 => ?_)
  · refine xj_ic0 dX11_takes_19 ?_
    exact xj_ireturn dX11_takes_20 rfl rfl (xrv_i (by unfold tkB at c5 ⊢; rw [if_neg (by decide), if_neg (by decide), if_pos rfl]; rw [if_pos rfl] at c5; first | (rw [b1_z c5]; rfl) | (rw [b1_nz c5, decide_eq_false (fun h => nI_nlt0 (by omega) c12 h)]; rfl) | (rw [b1_nz c5, decide_eq_true (nI_lt0 c12)]; rfl)))
  · refine xj_aload_n dX11_takes_8 rfl rfl ?_
    refine xj_cV dX11_takes_9 q985 kV_X6_rights (A_rights h6 hn7 hk) h6 rfl rfl rfl rfl (Nat.le_of_ble_eq_true rfl) ⟨(Nat.le_of_ble_eq_true rfl), (Nat.le_of_ble_eq_true rfl)⟩ (Nat.le_of_ble_eq_true rfl) (Nat.le_of_ble_eq_true rfl) ?_
    refine xj_if_le (tgt := 19) dX11_takes_12 rfl (fun c12 => ?_) (fun c12 => ?_)
    · refine xj_ic0 dX11_takes_19 ?_
      exact xj_ireturn dX11_takes_20 rfl rfl (xrv_i (by unfold tkB at c5 ⊢; rw [if_neg (by decide), if_neg (by decide), if_pos rfl]; rw [if_pos rfl] at c5; first | (rw [b1_z c5]; rfl) | (rw [b1_nz c5, decide_eq_false (fun h => nI_nlt0 (by omega) c12 h)]; rfl) | (rw [b1_nz c5, decide_eq_true (nI_lt0 c12)]; rfl)))
    · refine xj_ic1 dX11_takes_15 ?_
      refine xj_goto (tgt := 20) dX11_takes_16 rfl ?_
      exact xj_ireturn dX11_takes_20 rfl rfl (xrv_i (by unfold tkB at c5 ⊢; rw [if_neg (by decide), if_neg (by decide), if_pos rfl]; rw [if_pos rfl] at c5; first | (rw [b1_z c5]; rfl) | (rw [b1_nz c5, decide_eq_false (fun h => nI_nlt0 (by omega) c12 h)]; rfl) | (rw [b1_nz c5, decide_eq_true (nI_lt0 c12)]; rfl)))
theorem A_takes13 {a b k mk : Nat} {nu : Int32} {w : Nat → Value}  (hP : G[a]? = some (cO 13 [.int nu, .int (nI mk)])) (h6 : G[b]? = some (cO 6 (aFs n k w))) (hn7 : n < 7) (hk : k < na n) (hmk : mk < 16) : xMet E yX13_takes cX13_takes 2 (some FieldType.boolean) 3 0 0 [.ref a, .ref b] G (xrv (some (.int (b1 (tkB n 5 mk k)))) G) := by
  have hac := f_ac n hn7 k hk
  have hlf := f_lf n hn7 k hk
  have hbw : bw n k < 8 := by unfold bw; omega
  refine xMet.of (lv := [some (.ref a), some (.ref b)]) rfl rfl (Nat.le_of_ble_eq_true rfl) ?_
  refine xj_aload_n dX13_takes_0 rfl rfl ?_
  refine xj_aload_n dX13_takes_1 rfl rfl ?_
  refine xj_cP dX13_takes_2 q967 kP_X13_X10_takes (A_takes10_13 hP h6 hn7 hk hmk) hP rfl rfl rfl (Nat.le_of_ble_eq_true rfl) ⟨(Nat.le_of_ble_eq_true rfl), (Nat.le_of_ble_eq_true rfl)⟩ (Nat.le_of_ble_eq_true rfl) (Nat.le_of_ble_eq_true rfl) ?_
  refine xj_if_ne (tgt := 19) dX13_takes_5 rfl (fun c5 => ?_) (fun c5 => ?_)
  · refine xj_ic1 dX13_takes_19 ?_
    refine xj_goto (tgt := 24) dX13_takes_20 rfl ?_
    exact xj_ireturn dX13_takes_24 rfl rfl (xrv_i (by unfold tkB at c5 ⊢; rw [if_neg (by decide), if_neg (by decide), if_neg (by decide), if_neg (by decide), if_pos rfl]; rw [if_neg (by decide), if_pos rfl] at c5; first | (rw [b1_nz c5]; rfl) | (rw [b1_z c5, decide_eq_false (fun h => nI_ge h (by omega) c16)]; rfl) | (rw [b1_z c5, decide_eq_true (Nat.lt_of_not_le fun h => c16 (nI_le h (by omega)))]; rfl)))
  · refine xj_aload_n dX13_takes_8 rfl rfl ?_
    refine xj_cV dX13_takes_9 q968 kV_X6_lefts (A_lefts h6 hn7 hk) h6 rfl rfl rfl rfl (Nat.le_of_ble_eq_true rfl) ⟨(Nat.le_of_ble_eq_true rfl), (Nat.le_of_ble_eq_true rfl)⟩ (Nat.le_of_ble_eq_true rfl) (Nat.le_of_ble_eq_true rfl) ?_
    refine xj_aload_n dX13_takes_12 rfl rfl ?_
    refine xj_cV dX13_takes_13 q969 kV_X6_rights (A_rights h6 hn7 hk) h6 rfl rfl rfl rfl (Nat.le_of_ble_eq_true rfl) ⟨(Nat.le_of_ble_eq_true rfl), (Nat.le_of_ble_eq_true rfl)⟩ (Nat.le_of_ble_eq_true rfl) (Nat.le_of_ble_eq_true rfl) ?_
    refine xj_icmp_le (tgt := 23) dX13_takes_16 rfl (fun c16 => ?_) (fun c16 => ?_)
    · refine xj_ic0 dX13_takes_23 ?_
      exact xj_ireturn dX13_takes_24 rfl rfl (xrv_i (by unfold tkB at c5 ⊢; rw [if_neg (by decide), if_neg (by decide), if_neg (by decide), if_neg (by decide), if_pos rfl]; rw [if_neg (by decide), if_pos rfl] at c5; first | (rw [b1_nz c5]; rfl) | (rw [b1_z c5, decide_eq_false (fun h => nI_ge h (by omega) c16)]; rfl) | (rw [b1_z c5, decide_eq_true (Nat.lt_of_not_le fun h => c16 (nI_le h (by omega)))]; rfl)))
    · refine xj_ic1 dX13_takes_19 ?_
      refine xj_goto (tgt := 24) dX13_takes_20 rfl ?_
      exact xj_ireturn dX13_takes_24 rfl rfl (xrv_i (by unfold tkB at c5 ⊢; rw [if_neg (by decide), if_neg (by decide), if_neg (by decide), if_neg (by decide), if_pos rfl]; rw [if_neg (by decide), if_pos rfl] at c5; first | (rw [b1_nz c5]; rfl) | (rw [b1_z c5, decide_eq_false (fun h => nI_ge h (by omega) c16)]; rfl) | (rw [b1_z c5, decide_eq_true (Nat.lt_of_not_le fun h => c16 (nI_le h (by omega)))]; rfl)))
theorem A_takes12 {a b k mk : Nat} {nu : Int32} {w : Nat → Value}  (hP : G[a]? = some (cO 12 [.int nu, .int (nI mk)])) (h6 : G[b]? = some (cO 6 (aFs n k w))) (hn7 : n < 7) (hk : k < na n) (hmk : mk < 16) : xMet E yX12_takes cX12_takes 3 (some FieldType.boolean) 1 0 0 [.ref a, .ref b] G (xrv (some (.int (b1 (tkB n 4 mk k)))) G) := by
  have hac := f_ac n hn7 k hk
  have hlf := f_lf n hn7 k hk
  have hbw : bw n k < 8 := by unfold bw; omega
  refine xMet.of (lv := [some (.ref a), some (.ref b), none]) rfl rfl (Nat.le_of_ble_eq_true rfl) ?_
  refine xj_aload_n dX12_takes_0 rfl rfl ?_
  refine xj_getN dX12_takes_1 K6 1 (by decide) q404 h6 rfl ?_
  refine xj_ic1 dX12_takes_4 ?_
  refine xj_iadd dX12_takes_5 ?_
  rw [nI_1]
  refine xj_istn2 dX12_takes_6 rfl ?_
  have lp : ∀ (K : Nat) (c : Nat), aH n k - c < K → (aL n k < c ∧ c ≤ aH n k) → (lpN (sgF n mk k) c (aH n k - c) false = sgB n mk k) → xJ E (yX12_takes, cX12_takes, 3, (some FieldType.boolean), []) (xR 1 0 0) (xrv (some (.int (b1 (tkB n 4 mk k)))) G) 0 0 7 [some (.ref a), some (.ref b), some (.int (nI c))] [] G := by
    intro K
    induction K with
    | zero => intro c h; exact absurd h (Nat.not_lt_zero _)
    | succ K ih_lp =>
      intro c hK hc hs
      refine xj_iload_n dX12_takes_7 rfl ?_
      refine xj_aload_n dX12_takes_8 rfl rfl ?_
      refine xj_getN dX12_takes_9 K6 2 (by decide) q409 h6 rfl ?_
      refine xj_icmp_ge (tgt := 50) dX12_takes_12 rfl (fun c12 => ?_) (fun c12 => ?_)
      · refine xj_ic0 dX12_takes_50 ?_
        exact xj_ireturn dX12_takes_51 rfl rfl (xrv_i (by have hcH : aH n k ≤ c := Nat.le_of_not_lt fun h => absurd c12 (nI_ge h (by omega)); rw [lp_end _ hcH] at hs; unfold tkB; rw [if_neg (by decide), if_neg (by decide), if_neg (by decide), if_pos rfl, ← hs]; rfl))
      · have hcH : c < aH n k := Nat.lt_of_not_le fun h => c12 (nI_le h (by omega))
        rw [lp_step _ hcH] at hs
        refine xj_aload_n dX12_takes_15 rfl rfl ?_
        refine xj_iload_n dX12_takes_16 rfl ?_
        refine xj_cV dX12_takes_17 q977 kV_X6_isLeft (A_isLeftA h6 hn7 hk (by omega) (by omega)) h6 rfl rfl rfl rfl (Nat.le_of_ble_eq_true rfl) ⟨(Nat.le_of_ble_eq_true rfl), (Nat.le_of_ble_eq_true rfl)⟩ (Nat.le_of_ble_eq_true rfl) (Nat.le_of_ble_eq_true rfl) ?_
        refine xj_aload_n dX12_takes_20 rfl rfl ?_
        refine xj_cU dX12_takes_21 q978 kU_X12_X12_X8_mark (A_mark12 hP) hP rfl rfl rfl (Nat.le_of_ble_eq_true rfl) ⟨(Nat.le_of_ble_eq_true rfl), (Nat.le_of_ble_eq_true rfl)⟩ (Nat.le_of_ble_eq_true rfl) (Nat.le_of_ble_eq_true rfl) ?_
        refine xj_iload_n dX12_takes_24 rfl ?_
        refine xj_ic2 dX12_takes_25 ?_
        refine xj_isub dX12_takes_26 ?_
        rw [show (2 : Int32) = nI 2 from rfl, pk_sub (by omega)]
        refine xj_ishr dX12_takes_27 ?_
        refine xj_ic1 dX12_takes_28 ?_
        refine xj_iand dX12_takes_29 ?_
        rw [c_bitI mk (by omega) (c - 2) (by omega)]
        refine xj_ic1 dX12_takes_30 ?_
        refine xj_sI_icmp_ge (tgt := 38) (M := 39) dX12_takes_31 rfl (fun c31 k => by
            refine xj_ic0 dX12_takes_38 ?_
            exact k) (fun c31 k => by
            refine xj_ic1 dX12_takes_34 ?_
            refine xj_goto (tgt := 39) dX12_takes_35 rfl ?_
            exact k) ?_
        refine xj_top (y := b1 (!mk.testBit (c - 2))) (by cases mk.testBit (c - 2) <;> decide) ?_
        refine xj_icmp_ne (tgt := 44) dX12_takes_39 rfl (fun c39 => ?_) (fun c39 => ?_)
        · have hd : ¬ lft n k c = !mk.testBit (c - 2) := fun q => c39 (by rw [q])
          rw [show sgF n mk k c false = false from by unfold sgF; revert hd; cases lft n k c <;> cases mk.testBit (c - 2) <;> decide] at hs
          refine xj_iinc2 (cst := 1) dX12_takes_44 rfl rfl ?_
          rw [nI_1]
          refine xj_goto (tgt := 7) dX12_takes_47 rfl ?_
          exact ih_lp (c + 1) (by omega) (by omega) hs
        · refine xj_ic1 dX12_takes_42 ?_
          exact xj_ireturn dX12_takes_43 rfl rfl (xrv_i (by have hd : lft n k c = !mk.testBit (c - 2) := b1_eqI.mp c39; rw [show sgF n mk k c false = true from by unfold sgF; rw [hd]; cases mk.testBit (c - 2) <;> rfl, sg_true] at hs; unfold tkB; rw [if_neg (by decide), if_neg (by decide), if_neg (by decide), if_pos rfl, ← hs]; rfl))
  exact lp 9 (aL n k + 1) (by omega) (by omega) rfl
end A24
