/-! ===== the class: constructors of Refusal and Fault ===== -/
set_option maxRecDepth 100000
theorem kI_X1_init : xsI yX1_init cX1_init 1 0 := ⟨q263, q155, q264, rfl, by decide, by decide, by decide +kernel⟩
theorem kI_J1_init : xsI yJ1_init cJ1_init 5 4 := ⟨q269, q153, q270, rfl, by decide, by decide, by decide +kernel⟩
theorem kI_J2_init : xsI yJ2_init cJ2_init 5 4 := ⟨q266, q154, q267, rfl, by decide, by decide, by decide +kernel⟩
theorem kI_J0_init_2 : xsI yJ0_init_2 cJ0_init_2 5 4 := ⟨q272, q152, q273, rfl, by decide, by decide, by decide +kernel⟩
section A60
variable {E : xE} {G : xH} {d e : Nat → Value} {n : Nat}
theorem A_thrInit1 {a : Nat}  (hthr : xThr E) (hP : G[a]? = some (cO 1 [.null, .null, .null, .null, .null, .int 0, .int 0])) : xMet E yJ0_init_2 cJ0_init_2 5 none 0 0 0 [.ref a, .null, .null, .int 0, .int 0] G (xrv none (G.set a (cO 1 [.null, .null, .null, .null, .null, .int 0, .int 0]))) := by
  refine xMet.of (lv := [some (.ref a), some (.null), some (.null), some (.int 0), some (.int 0)]) rfl rfl (Nat.le_of_ble_eq_true rfl) ?_
  refine xj_aload_n dJ0_init_2_0 rfl rfl ?_
  refine xj_objInit dJ0_init_2_1 q228 qObjI qObjC ⟨(Nat.le_of_ble_eq_true rfl), (Nat.le_of_ble_eq_true rfl)⟩ (Nat.le_of_ble_eq_true rfl) ?_
  refine xj_aload_n dJ0_init_2_4 rfl rfl ?_
  refine xj_aload_n dJ0_init_2_5 rfl rfl ?_
  refine xj_put dJ0_init_2_6 K1 0 (by decide) q280 rfl rfl hP (Nat.le_of_ble_eq_true rfl) ?_
  refine xj_aload_n dJ0_init_2_9 rfl rfl ?_
  refine xj_gsU hthr dJ0_init_2_10 q229 (fun v51 hv51 => ?_)
  refine xj_put dJ0_init_2_13 K1 1 (by decide) q281 rfl hv51 (gset_self hP) (Nat.le_of_ble_eq_true rfl) ?_
  refine xj_aload_n dJ0_init_2_16 rfl rfl ?_
  rw [gset_set]
  refine xj_gsN hthr dJ0_init_2_17 q231 (fun v52 hv52 => ?_)
  refine xj_put dJ0_init_2_20 K1 2 (by decide) q282 rfl hv52 (gset_self hP) (Nat.le_of_ble_eq_true rfl) ?_
  refine xj_iload dJ0_init_2_23 rfl ?_
  refine xj_if_eq (tgt := 36) dJ0_init_2_25 rfl (fun c25 => ?_) (fun c25 => absurd rfl c25)
  rw [gset_set]
  refine xj_aload_n dJ0_init_2_36 rfl rfl ?_
  refine xj_null dJ0_init_2_37 ?_
  refine xj_put dJ0_init_2_38 K1 1 (by decide) q281 rfl rfl (gset_self hP) (Nat.le_of_ble_eq_true rfl) ?_
  rw [gset_set]
  refine xj_aload_n dJ0_init_2_41 rfl rfl ?_
  refine xj_aload_n dJ0_init_2_42 rfl rfl ?_
  refine xj_put dJ0_init_2_43 K1 3 (by decide) q279 rfl rfl (gset_self hP) (Nat.le_of_ble_eq_true rfl) ?_
  rw [gset_set]
  refine xj_aload_n dJ0_init_2_46 rfl rfl ?_
  refine xj_aload_n dJ0_init_2_47 rfl rfl ?_
  refine xj_put dJ0_init_2_48 K1 0 (by decide) q280 rfl rfl (gset_self hP) (Nat.le_of_ble_eq_true rfl) ?_
  rw [gset_set]
  refine xj_iload_n dJ0_init_2_51 rfl ?_
  refine xj_if_ne (tgt := 60) dJ0_init_2_52 rfl (fun c52 => absurd rfl c52) (fun c52 => ?_)
  refine xj_aload_n dJ0_init_2_55 rfl rfl ?_
  refine xj_null dJ0_init_2_56 ?_
  refine xj_put dJ0_init_2_57 K1 2 (by decide) q282 rfl rfl (gset_self hP) (Nat.le_of_ble_eq_true rfl) ?_
  exact xj_return dJ0_init_2_60 rfl ⟨rfl, by rw [gset_set]; rfl⟩
theorem A_excInit1 {a : Nat}  (hthr : xThr E) (hP : G[a]? = some (cO 1 [.null, .null, .null, .null, .null, .int 0, .int 0])) : xMet E yJ1_init cJ1_init 5 none 1 0 0 [.ref a, .null, .null, .int 0, .int 0] G (xrv none (G.set a (cO 1 [.null, .null, .null, .null, .null, .int 0, .int 0]))) := by
  refine xMet.of (lv := [some (.ref a), some (.null), some (.null), some (.int 0), some (.int 0)]) rfl rfl (Nat.le_of_ble_eq_true rfl) ?_
  refine xj_aload_n dJ1_init_0 rfl rfl ?_
  refine xj_aload_n dJ1_init_1 rfl rfl ?_
  refine xj_aload_n dJ1_init_2 rfl rfl ?_
  refine xj_iload_n dJ1_init_3 rfl ?_
  refine xj_iload dJ1_init_4 rfl ?_
  refine xj_cI dJ1_init_6 q271 kI_J0_init_2 (A_thrInit1 hthr hP) rfl rfl (Nat.le_of_ble_eq_true rfl) ⟨(Nat.le_of_ble_eq_true rfl), (Nat.le_of_ble_eq_true rfl)⟩ (Nat.le_of_ble_eq_true rfl) (Nat.le_of_ble_eq_true rfl) ?_
  exact xj_return dJ1_init_9 rfl ⟨rfl, rfl⟩
theorem A_rteInit1 {a : Nat}  (hthr : xThr E) (hP : G[a]? = some (cO 1 [.null, .null, .null, .null, .null, .int 0, .int 0])) : xMet E yJ2_init cJ2_init 5 none 2 0 0 [.ref a, .null, .null, .int 0, .int 0] G (xrv none (G.set a (cO 1 [.null, .null, .null, .null, .null, .int 0, .int 0]))) := by
  refine xMet.of (lv := [some (.ref a), some (.null), some (.null), some (.int 0), some (.int 0)]) rfl rfl (Nat.le_of_ble_eq_true rfl) ?_
  refine xj_aload_n dJ2_init_0 rfl rfl ?_
  refine xj_aload_n dJ2_init_1 rfl rfl ?_
  refine xj_aload_n dJ2_init_2 rfl rfl ?_
  refine xj_iload_n dJ2_init_3 rfl ?_
  refine xj_iload dJ2_init_4 rfl ?_
  refine xj_cI dJ2_init_6 q268 kI_J1_init (A_excInit1 hthr hP) rfl rfl (Nat.le_of_ble_eq_true rfl) ⟨(Nat.le_of_ble_eq_true rfl), (Nat.le_of_ble_eq_true rfl)⟩ (Nat.le_of_ble_eq_true rfl) (Nat.le_of_ble_eq_true rfl) ?_
  exact xj_return dJ2_init_9 rfl ⟨rfl, rfl⟩
theorem A_refInit1 {a : Nat}  (hthr : xThr E) (hP : G[a]? = some (cO 1 [.null, .null, .null, .null, .null, .int 0, .int 0])) : xMet E yX1_init cX1_init 1 none 3 0 0 [.ref a] G (xrv none (G.set a (cO 1 [.null, .null, .null, .null, .null, .int 0, .int 0]))) := by
  refine xMet.of (lv := [some (.ref a)]) rfl rfl (Nat.le_of_ble_eq_true rfl) ?_
  refine xj_aload_n dX1_init_0 rfl rfl ?_
  refine xj_null dX1_init_1 ?_
  refine xj_null dX1_init_2 ?_
  refine xj_ic0 dX1_init_3 ?_
  refine xj_ic0 dX1_init_4 ?_
  refine xj_cI dX1_init_5 q265 kI_J2_init (A_rteInit1 hthr hP) rfl rfl (Nat.le_of_ble_eq_true rfl) ⟨(Nat.le_of_ble_eq_true rfl), (Nat.le_of_ble_eq_true rfl)⟩ (Nat.le_of_ble_eq_true rfl) (Nat.le_of_ble_eq_true rfl) ?_
  exact xj_return dX1_init_8 rfl ⟨rfl, rfl⟩
theorem A_thrInit2 {a : Nat}  (hthr : xThr E) (hP : G[a]? = some (cO 2 [.null, .null, .null, .null, .null, .int 0, .int 0])) : xMet E yJ0_init_2 cJ0_init_2 5 none 0 0 0 [.ref a, .null, .null, .int 0, .int 0] G (xrv none (G.set a (cO 2 [.null, .null, .null, .null, .null, .int 0, .int 0]))) := by
  refine xMet.of (lv := [some (.ref a), some (.null), some (.null), some (.int 0), some (.int 0)]) rfl rfl (Nat.le_of_ble_eq_true rfl) ?_
  refine xj_aload_n dJ0_init_2_0 rfl rfl ?_
  refine xj_objInit dJ0_init_2_1 q228 qObjI qObjC ⟨(Nat.le_of_ble_eq_true rfl), (Nat.le_of_ble_eq_true rfl)⟩ (Nat.le_of_ble_eq_true rfl) ?_
  refine xj_aload_n dJ0_init_2_4 rfl rfl ?_
  refine xj_aload_n dJ0_init_2_5 rfl rfl ?_
  refine xj_put dJ0_init_2_6 K2 0 (by decide) q280 rfl rfl hP (Nat.le_of_ble_eq_true rfl) ?_
  refine xj_aload_n dJ0_init_2_9 rfl rfl ?_
  refine xj_gsU hthr dJ0_init_2_10 q229 (fun v51 hv51 => ?_)
  refine xj_put dJ0_init_2_13 K2 1 (by decide) q281 rfl hv51 (gset_self hP) (Nat.le_of_ble_eq_true rfl) ?_
  refine xj_aload_n dJ0_init_2_16 rfl rfl ?_
  rw [gset_set]
  refine xj_gsN hthr dJ0_init_2_17 q231 (fun v52 hv52 => ?_)
  refine xj_put dJ0_init_2_20 K2 2 (by decide) q282 rfl hv52 (gset_self hP) (Nat.le_of_ble_eq_true rfl) ?_
  refine xj_iload dJ0_init_2_23 rfl ?_
  refine xj_if_eq (tgt := 36) dJ0_init_2_25 rfl (fun c25 => ?_) (fun c25 => absurd rfl c25)
  rw [gset_set]
  refine xj_aload_n dJ0_init_2_36 rfl rfl ?_
  refine xj_null dJ0_init_2_37 ?_
  refine xj_put dJ0_init_2_38 K2 1 (by decide) q281 rfl rfl (gset_self hP) (Nat.le_of_ble_eq_true rfl) ?_
  rw [gset_set]
  refine xj_aload_n dJ0_init_2_41 rfl rfl ?_
  refine xj_aload_n dJ0_init_2_42 rfl rfl ?_
  refine xj_put dJ0_init_2_43 K2 3 (by decide) q279 rfl rfl (gset_self hP) (Nat.le_of_ble_eq_true rfl) ?_
  rw [gset_set]
  refine xj_aload_n dJ0_init_2_46 rfl rfl ?_
  refine xj_aload_n dJ0_init_2_47 rfl rfl ?_
  refine xj_put dJ0_init_2_48 K2 0 (by decide) q280 rfl rfl (gset_self hP) (Nat.le_of_ble_eq_true rfl) ?_
  rw [gset_set]
  refine xj_iload_n dJ0_init_2_51 rfl ?_
  refine xj_if_ne (tgt := 60) dJ0_init_2_52 rfl (fun c52 => absurd rfl c52) (fun c52 => ?_)
  refine xj_aload_n dJ0_init_2_55 rfl rfl ?_
  refine xj_null dJ0_init_2_56 ?_
  refine xj_put dJ0_init_2_57 K2 2 (by decide) q282 rfl rfl (gset_self hP) (Nat.le_of_ble_eq_true rfl) ?_
  exact xj_return dJ0_init_2_60 rfl ⟨rfl, by rw [gset_set]; rfl⟩
theorem A_excInit2 {a : Nat}  (hthr : xThr E) (hP : G[a]? = some (cO 2 [.null, .null, .null, .null, .null, .int 0, .int 0])) : xMet E yJ1_init cJ1_init 5 none 1 0 0 [.ref a, .null, .null, .int 0, .int 0] G (xrv none (G.set a (cO 2 [.null, .null, .null, .null, .null, .int 0, .int 0]))) := by
  refine xMet.of (lv := [some (.ref a), some (.null), some (.null), some (.int 0), some (.int 0)]) rfl rfl (Nat.le_of_ble_eq_true rfl) ?_
  refine xj_aload_n dJ1_init_0 rfl rfl ?_
  refine xj_aload_n dJ1_init_1 rfl rfl ?_
  refine xj_aload_n dJ1_init_2 rfl rfl ?_
  refine xj_iload_n dJ1_init_3 rfl ?_
  refine xj_iload dJ1_init_4 rfl ?_
  refine xj_cI dJ1_init_6 q271 kI_J0_init_2 (A_thrInit2 hthr hP) rfl rfl (Nat.le_of_ble_eq_true rfl) ⟨(Nat.le_of_ble_eq_true rfl), (Nat.le_of_ble_eq_true rfl)⟩ (Nat.le_of_ble_eq_true rfl) (Nat.le_of_ble_eq_true rfl) ?_
  exact xj_return dJ1_init_9 rfl ⟨rfl, rfl⟩
theorem A_rteInit2 {a : Nat}  (hthr : xThr E) (hP : G[a]? = some (cO 2 [.null, .null, .null, .null, .null, .int 0, .int 0])) : xMet E yJ2_init cJ2_init 5 none 2 0 0 [.ref a, .null, .null, .int 0, .int 0] G (xrv none (G.set a (cO 2 [.null, .null, .null, .null, .null, .int 0, .int 0]))) := by
  refine xMet.of (lv := [some (.ref a), some (.null), some (.null), some (.int 0), some (.int 0)]) rfl rfl (Nat.le_of_ble_eq_true rfl) ?_
  refine xj_aload_n dJ2_init_0 rfl rfl ?_
  refine xj_aload_n dJ2_init_1 rfl rfl ?_
  refine xj_aload_n dJ2_init_2 rfl rfl ?_
  refine xj_iload_n dJ2_init_3 rfl ?_
  refine xj_iload dJ2_init_4 rfl ?_
  refine xj_cI dJ2_init_6 q268 kI_J1_init (A_excInit2 hthr hP) rfl rfl (Nat.le_of_ble_eq_true rfl) ⟨(Nat.le_of_ble_eq_true rfl), (Nat.le_of_ble_eq_true rfl)⟩ (Nat.le_of_ble_eq_true rfl) (Nat.le_of_ble_eq_true rfl) ?_
  exact xj_return dJ2_init_9 rfl ⟨rfl, rfl⟩
theorem A_refInit2 {a : Nat}  (hthr : xThr E) (hP : G[a]? = some (cO 2 [.null, .null, .null, .null, .null, .int 0, .int 0])) : xMet E yX1_init cX1_init 1 none 3 0 0 [.ref a] G (xrv none (G.set a (cO 2 [.null, .null, .null, .null, .null, .int 0, .int 0]))) := by
  refine xMet.of (lv := [some (.ref a)]) rfl rfl (Nat.le_of_ble_eq_true rfl) ?_
  refine xj_aload_n dX1_init_0 rfl rfl ?_
  refine xj_null dX1_init_1 ?_
  refine xj_null dX1_init_2 ?_
  refine xj_ic0 dX1_init_3 ?_
  refine xj_ic0 dX1_init_4 ?_
  refine xj_cI dX1_init_5 q265 kI_J2_init (A_rteInit2 hthr hP) rfl rfl (Nat.le_of_ble_eq_true rfl) ⟨(Nat.le_of_ble_eq_true rfl), (Nat.le_of_ble_eq_true rfl)⟩ (Nat.le_of_ble_eq_true rfl) (Nat.le_of_ble_eq_true rfl) ?_
  exact xj_return dX1_init_8 rfl ⟨rfl, rfl⟩
theorem A_faultInit {a : Nat}  (hthr : xThr E) (hP : G[a]? = some (cO 2 [.null, .null, .null, .null, .null, .int 0, .int 0])) : xMet E yX2_init cX2_init 1 none 4 0 0 [.ref a] G (xrv none (G.set a (cO 2 [.null, .null, .null, .null, .null, .int 0, .int 0]))) := by
  refine xMet.of (lv := [some (.ref a)]) rfl rfl (Nat.le_of_ble_eq_true rfl) ?_
  refine xj_aload_n dX2_init_0 rfl rfl ?_
  refine xj_cI dX2_init_1 q306 kI_X1_init (A_refInit2 hthr hP) rfl rfl (Nat.le_of_ble_eq_true rfl) ⟨(Nat.le_of_ble_eq_true rfl), (Nat.le_of_ble_eq_true rfl)⟩ (Nat.le_of_ble_eq_true rfl) (Nat.le_of_ble_eq_true rfl) ?_
  exact xj_return dX2_init_4 rfl ⟨rfl, rfl⟩
end A60
