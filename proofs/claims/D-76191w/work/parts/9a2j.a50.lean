/-! ===== the class: values ===== -/
set_option maxRecDepth 100000
theorem kV_X0_figure : xsV yX0_figure cX0_figure 4 (some FieldType.int) 0 := ⟨q1149, qs49, q151, q1150, by decide, by decide, by decide +kernel⟩
theorem kV_X0_nameOf : xsV yX0_nameOf cX0_nameOf 3 (some FieldType.int) 1 := ⟨q1132, qs48, q151, q1133, by decide, by decide, by decide +kernel⟩
theorem kI_X18_init : xsI yX18_init cX18_init 3 2 := ⟨q1171, q181, q1172, rfl, by decide, by decide, by decide +kernel⟩
theorem kI_X14_init : xsI yX14_init cX14_init 1 0 := ⟨q1103, q177, q1104, rfl, by decide, by decide, by decide +kernel⟩
theorem kI_X16_init : xsI yX16_init cX16_init 3 2 := ⟨q1137, q179, q1138, rfl, by decide, by decide, by decide +kernel⟩
def vFs (v : Int32) : List Value := if v < 0 then [.int (-1 - v), .int 0] else [.int (-1), .int v]
theorem vFs_f {i : Nat} (h : i < 5) : vFs (-1 - nI i) = [.int (nI i), .int 0] := by
  match i, h with
  | 0, _ => rfl
  | 1, _ => rfl
  | 2, _ => rfl
  | 3, _ => rfl
  | 4, _ => rfl
theorem vFs_n {i : Nat} (h : i < 10000) : vFs (nI i) = [.int (-1), .int (nI i)] := by
  unfold vFs; rw [if_neg (nI_pos (by omega))]
theorem app_le {G : xH} {i : Nat} {x y : xC} (h : G[i]? = some x) : (G ++ [y])[i]? = some x := by rw [List.getElem?_append_left (List.getElem?_eq_some_iff.mp h).1]; exact h
theorem gtE_app {G T : xH} {d : Nat → Value} {tp : List Nat} {e : Nat} (h : 0 < G.length) : gtE (G ++ T) d tp e = gtE G d tp e ++ T := List.set_append_left _ _ h
theorem dgF_lt2 {tp : List Nat} : ∀ (k p v : Nat), (∀ j, p ≤ j → j < p + k → tp.getD j 0 ≤ 57) → dgF tp k p v < 10 ^ k * (v + 1) := by
  intro k
  induction k with
  | zero => intro p v _; show v < 1 * (v + 1); omega
  | succ k ih =>
    intro p v h
    have h1 := ih (p + 1) (10 * v + (tp.getD p 0 - 48)) (fun j h1 h2 => h j (by omega) (by omega))
    have h2 := h p (Nat.le_refl _) (by omega)
    have h3 : 10 ^ k * (10 * v + (tp.getD p 0 - 48) + 1) ≤ 10 ^ k * (10 * (v + 1)) := Nat.mul_le_mul_left _ (by omega)
    have h4 : 10 ^ (k + 1) * (v + 1) = 10 ^ k * (10 * (v + 1)) := by rw [Nat.pow_succ, Nat.mul_assoc]
    show dgF tp k (p + 1) (10 * v + (tp.getD p 0 - 48)) < _
    omega
theorem pNum_lt {tp : List Nat} {e : Nat} (he : e ≤ tp.length) (h : numB tp e = true) : pNum tp e < 10000 := by
  have hb := nxT_b he
  have h1 := dgF_lt2 (tp := tp) (nxT tp e - nxF tp e) (nxF tp e) 0 (fun j h1 h2 => (dgs_dig he h h1 (by omega)).2)
  have h2 : nxT tp e - nxF tp e ≤ 4 := by
    unfold numB at h
    rw [Bool.and_eq_true, Bool.and_eq_true, decide_eq_true_eq, decide_eq_true_eq] at h
    exact h.2.2
  have h3 : 10 ^ (nxT tp e - nxF tp e) ≤ 10 ^ 4 := Nat.pow_le_pow_right (by decide) h2
  unfold pNum
  omega
theorem K15 : xcls 15 RX15 TX15 1 tyX15 := ⟨rfl, in_X15, tyX15_ok, nmX15⟩
theorem K16 : xcls 16 RX16 TX16 2 tyX16 := ⟨rfl, in_X16, tyX16_ok, nmX16⟩
theorem K17 : xcls 17 RX17 TX17 3 tyX17 := ⟨rfl, in_X17, tyX17_ok, nmX17⟩
theorem K18 : xcls 18 RX18 TX18 2 tyX18 := ⟨rfl, in_X18, tyX18_ok, nmX18⟩
theorem K19 : xcls 19 RX19 TX19 2 tyX19 := ⟨rfl, in_X19, tyX19_ok, nmX19⟩
section A50
variable {E : xE} {G : xH} {d : Nat → Value} {n : Nat}
theorem A_condInit {a : Nat}  : xMet E yX14_init cX14_init 1 none 0 0 0 [.ref a] G (xrv none G) := by
  refine xMet.of (lv := [some (.ref a)]) rfl rfl (Nat.le_of_ble_eq_true rfl) ?_
  refine xj_aload_n dX14_init_0 rfl rfl ?_
  refine xj_objInit dX14_init_1 q1105 qObjI qObjC ⟨(Nat.le_of_ble_eq_true rfl), (Nat.le_of_ble_eq_true rfl)⟩ (Nat.le_of_ble_eq_true rfl) ?_
  exact xj_return dX14_init_4 rfl ⟨rfl, rfl⟩
theorem A_valueInit {a : Nat} {u v : Int32}  (hP : G[a]? = some (cO 16 [.int 0, .int 0])) : xMet E yX16_init cX16_init 3 none 0 0 0 [.ref a, .int u, .int v] G (xrv none (G.set a (cO 16 [.int u, .int v]))) := by
  refine xMet.of (lv := [some (.ref a), some (.int u), some (.int v)]) rfl rfl (Nat.le_of_ble_eq_true rfl) ?_
  refine xj_aload_n dX16_init_0 rfl rfl ?_
  refine xj_objInit dX16_init_1 q1139 qObjI qObjC ⟨(Nat.le_of_ble_eq_true rfl), (Nat.le_of_ble_eq_true rfl)⟩ (Nat.le_of_ble_eq_true rfl) ?_
  refine xj_aload_n dX16_init_4 rfl rfl ?_
  refine xj_iload_n dX16_init_5 rfl ?_
  refine xj_putF dX16_init_6 K16 0 (by decide) q1140 rfl rfl rfl rfl hP (Nat.le_of_ble_eq_true rfl) ?_
  refine xj_aload_n dX16_init_9 rfl rfl ?_
  refine xj_iload_n dX16_init_10 rfl ?_
  refine xj_putF dX16_init_11 K16 1 (by decide) q1141 rfl rfl rfl rfl (gset_self hP) (Nat.le_of_ble_eq_true rfl) ?_
  exact xj_return dX16_init_14 rfl ⟨rfl, by rw [gset_set]; rfl⟩
theorem A_notInit {a x : Nat}  (hP : G[a]? = some (cO 15 [.null])) : xMet E yX15_init cX15_init 2 none 1 0 0 [.ref a, .ref x] G (xrv none (G.set a (cO 15 [.ref x]))) := by
  refine xMet.of (lv := [some (.ref a), some (.ref x)]) rfl rfl (Nat.le_of_ble_eq_true rfl) ?_
  refine xj_aload_n dX15_init_0 rfl rfl ?_
  refine xj_cIN dX15_init_1 q1102 kI_X14_init A_condInit rfl rfl (Nat.le_of_ble_eq_true rfl) ⟨(Nat.le_of_ble_eq_true rfl), (Nat.le_of_ble_eq_true rfl)⟩ (Nat.le_of_ble_eq_true rfl) (Nat.le_of_ble_eq_true rfl) ?_
  refine xj_aload_n dX15_init_4 rfl rfl ?_
  refine xj_aload_n dX15_init_5 rfl rfl ?_
  refine xj_putF dX15_init_6 K15 0 (by decide) q1106 rfl rfl rfl rfl hP (Nat.le_of_ble_eq_true rfl) ?_
  exact xj_return dX15_init_9 rfl ⟨rfl, rfl⟩
theorem A_init18 {a x y : Nat}  (hP : G[a]? = some (cO 18 [.null, .null])) : xMet E yX18_init cX18_init 3 none 1 0 0 [.ref a, .ref x, .ref y] G (xrv none (G.set a (cO 18 [.ref x, .ref y]))) := by
  refine xMet.of (lv := [some (.ref a), some (.ref x), some (.ref y)]) rfl rfl (Nat.le_of_ble_eq_true rfl) ?_
  refine xj_aload_n dX18_init_0 rfl rfl ?_
  refine xj_cIN dX18_init_1 q1173 kI_X14_init A_condInit rfl rfl (Nat.le_of_ble_eq_true rfl) ⟨(Nat.le_of_ble_eq_true rfl), (Nat.le_of_ble_eq_true rfl)⟩ (Nat.le_of_ble_eq_true rfl) (Nat.le_of_ble_eq_true rfl) ?_
  refine xj_aload_n dX18_init_4 rfl rfl ?_
  refine xj_aload_n dX18_init_5 rfl rfl ?_
  refine xj_putF dX18_init_6 K18 0 (by decide) q1174 rfl rfl rfl rfl hP (Nat.le_of_ble_eq_true rfl) ?_
  refine xj_aload_n dX18_init_9 rfl rfl ?_
  refine xj_aload_n dX18_init_10 rfl rfl ?_
  refine xj_putF dX18_init_11 K18 1 (by decide) q1177 rfl rfl rfl rfl (gset_self hP) (Nat.le_of_ble_eq_true rfl) ?_
  exact xj_return dX18_init_14 rfl ⟨rfl, by rw [gset_set]; rfl⟩
theorem A_init19 {a x y : Nat}  (hP : G[a]? = some (cO 19 [.null, .null])) : xMet E yX18_init cX18_init 3 none 1 0 0 [.ref a, .ref x, .ref y] G (xrv none (G.set a (cO 19 [.ref x, .ref y]))) := by
  refine xMet.of (lv := [some (.ref a), some (.ref x), some (.ref y)]) rfl rfl (Nat.le_of_ble_eq_true rfl) ?_
  refine xj_aload_n dX18_init_0 rfl rfl ?_
  refine xj_cIN dX18_init_1 q1173 kI_X14_init A_condInit rfl rfl (Nat.le_of_ble_eq_true rfl) ⟨(Nat.le_of_ble_eq_true rfl), (Nat.le_of_ble_eq_true rfl)⟩ (Nat.le_of_ble_eq_true rfl) (Nat.le_of_ble_eq_true rfl) ?_
  refine xj_aload_n dX18_init_4 rfl rfl ?_
  refine xj_aload_n dX18_init_5 rfl rfl ?_
  refine xj_putF dX18_init_6 K19 0 (by decide) q1174 rfl rfl rfl rfl hP (Nat.le_of_ble_eq_true rfl) ?_
  refine xj_aload_n dX18_init_9 rfl rfl ?_
  refine xj_aload_n dX18_init_10 rfl rfl ?_
  refine xj_putF dX18_init_11 K19 1 (by decide) q1177 rfl rfl rfl rfl (gset_self hP) (Nat.le_of_ble_eq_true rfl) ?_
  exact xj_return dX18_init_14 rfl ⟨rfl, by rw [gset_set]; rfl⟩
theorem A_someInit {a x y : Nat}  (hP : G[a]? = some (cO 19 [.null, .null])) : xMet E yX19_init cX19_init 3 none 2 0 0 [.ref a, .ref x, .ref y] G (xrv none (G.set a (cO 19 [.ref x, .ref y]))) := by
  refine xMet.of (lv := [some (.ref a), some (.ref x), some (.ref y)]) rfl rfl (Nat.le_of_ble_eq_true rfl) ?_
  refine xj_aload_n dX19_init_0 rfl rfl ?_
  refine xj_aload_n dX19_init_1 rfl rfl ?_
  refine xj_aload_n dX19_init_2 rfl rfl ?_
  refine xj_cI dX19_init_3 q1191 kI_X18_init (A_init19 hP) rfl rfl (Nat.le_of_ble_eq_true rfl) ⟨(Nat.le_of_ble_eq_true rfl), (Nat.le_of_ble_eq_true rfl)⟩ (Nat.le_of_ble_eq_true rfl) (Nat.le_of_ble_eq_true rfl) ?_
  exact xj_return dX19_init_6 rfl ⟨rfl, rfl⟩
theorem A_asksInit {a x y : Nat} {s : Int32}  (hP : G[a]? = some (cO 17 [.null, .null, .int 0])) : xMet E yX17_init cX17_init 4 none 1 0 0 [.ref a, .ref x, .int s, .ref y] G (xrv none (G.set a (cO 17 [.ref x, .ref y, .int s]))) := by
  refine xMet.of (lv := [some (.ref a), some (.ref x), some (.int s), some (.ref y)]) rfl rfl (Nat.le_of_ble_eq_true rfl) ?_
  refine xj_aload_n dX17_init_0 rfl rfl ?_
  refine xj_cIN dX17_init_1 q1156 kI_X14_init A_condInit rfl rfl (Nat.le_of_ble_eq_true rfl) ⟨(Nat.le_of_ble_eq_true rfl), (Nat.le_of_ble_eq_true rfl)⟩ (Nat.le_of_ble_eq_true rfl) (Nat.le_of_ble_eq_true rfl) ?_
  refine xj_aload_n dX17_init_4 rfl rfl ?_
  refine xj_aload_n dX17_init_5 rfl rfl ?_
  refine xj_putF dX17_init_6 K17 0 (by decide) q1157 rfl rfl rfl rfl hP (Nat.le_of_ble_eq_true rfl) ?_
  refine xj_aload_n dX17_init_9 rfl rfl ?_
  refine xj_iload_n dX17_init_10 rfl ?_
  refine xj_putF dX17_init_11 K17 2 (by decide) q1159 rfl rfl rfl rfl (gset_self hP) (Nat.le_of_ble_eq_true rfl) ?_
  refine xj_aload_n dX17_init_14 rfl rfl ?_
  refine xj_aload_n dX17_init_15 rfl rfl ?_
  refine xj_putF dX17_init_16 K17 1 (by decide) q1158 rfl rfl rfl rfl (gset_self (gset_self hP)) (Nat.le_of_ble_eq_true rfl) ?_
  exact xj_return dX17_init_19 rfl ⟨rfl, by rw [gset_set, gset_set]; rfl⟩
theorem A_valueY {q : Int32 × Nat} {e : Nat} {tp : List Nat} {LT : List Int32}  (hO : G[0]? = some (cO 0 (cFs (dT d (nxF tp e) (nxT tp e))))) (hd17 : d 17 = .int (nI tp.length)) (h19 : G[19]? = some (cI 1 LT)) (hLT : tpB LT tp) (he : e ≤ tp.length) (hN : G[18]? = some (cR 9 [.float 0, .float 1, .float 2, .float 3, .float 4])) (hq : pVal tp e = .inr q) : xMet E yX0_value cX0_value 2 (some (FieldType.object "CoarserOrders$Value")) 6 1 2 [.ref 0] G (xre (fun v_ G' => v_ = some (.ref G.length) ∧ G' = gtE G d tp q.2 ++ [cO 16 (vFs q.1)])) := by
  have htp := hLT.2.1
  have hl200 := hLT.1
  have hnb := nxT_b he
  have hnf := nxF_b he
  unfold pVal at hq
  refine xMet.of (lv := [some (.ref 0), none]) rfl rfl (Nat.le_of_ble_eq_true rfl) ?_
  by_cases hf : fct tp e < 0
  · rw [if_pos hf] at hq
    cases hq
    obtain ⟨i, hi, hw, hf, hno⟩ := fct_pos hf
    refine xj_aload_n dX0_value_0 rfl rfl ?_
    refine xj_aload_n dX0_value_1 rfl rfl ?_
    refine xj_get dX0_value_2 K0 15 (by decide) q484 hO rfl ?_
    refine xj_cV dX0_value_5 q1130 kV_X0_nameOf (A_nameOfY hO hd17 h19 hLT he hN hi hw hno) hO rfl rfl rfl rfl (Nat.le_of_ble_eq_true rfl) ⟨(Nat.le_of_ble_eq_true rfl), (Nat.le_of_ble_eq_true rfl)⟩ (Nat.le_of_ble_eq_true rfl) (Nat.le_of_ble_eq_true rfl) ?_
    refine xj_istn1 dX0_value_8 rfl ?_
    refine xj_iload_n dX0_value_9 rfl ?_
    refine xj_if_lt (tgt := 25) dX0_value_10 rfl (fun c10 => absurd c10 (nI_pos (by omega))) (fun c10 => ?_)
    refine xj_new (fs := [.int 0, .int 0]) dX0_value_13 K16 q1134 q1135 q179 rfl (Nat.le_of_ble_eq_true rfl) (Nat.le_of_ble_eq_true rfl) ?_
    refine xj_dup dX0_value_16 rfl ?_
    refine xj_iload_n dX0_value_17 rfl ?_
    refine xj_ic0 dX0_value_18 ?_
    refine xj_cI dX0_value_19 q1136 kI_X16_init (A_valueInit app_at) rfl rfl (Nat.le_of_ble_eq_true rfl) ⟨(Nat.le_of_ble_eq_true rfl), (Nat.le_of_ble_eq_true rfl)⟩ (Nat.le_of_ble_eq_true rfl) (Nat.le_of_ble_eq_true rfl) ?_
    refine xj_goto (tgt := 37) dX0_value_22 rfl ?_
    exact xj_areturn dX0_value_37 rfl (Or.inl ⟨_, rfl⟩) rfl ⟨by rw [gtE_len], by rw [app_set, hf, vFs_f hi]⟩
  · rw [if_neg hf] at hq
    by_cases hnum : numB tp e = true
    · rw [if_pos hnum] at hq
      cases hq
      refine xj_aload_n dX0_value_0 rfl rfl ?_
      refine xj_aload_n dX0_value_1 rfl rfl ?_
      refine xj_get dX0_value_2 K0 15 (by decide) q484 hO rfl ?_
      refine xj_cV dX0_value_5 q1130 kV_X0_nameOf (A_nameOfN hO hd17 h19 hLT he hN (fct_none hf)) hO rfl rfl rfl rfl (Nat.le_of_ble_eq_true rfl) ⟨(Nat.le_of_ble_eq_true rfl), (Nat.le_of_ble_eq_true rfl)⟩ (Nat.le_of_ble_eq_true rfl) (Nat.le_of_ble_eq_true rfl) ?_
      refine xj_istn1 dX0_value_8 rfl ?_
      refine xj_iload_n dX0_value_9 rfl ?_
      refine xj_if_lt (tgt := 25) dX0_value_10 rfl (fun c10 => ?_) (fun c10 => absurd (by decide) c10)
      refine xj_new (fs := [.int 0, .int 0]) dX0_value_25 K16 q1134 q1135 q179 rfl (Nat.le_of_ble_eq_true rfl) (Nat.le_of_ble_eq_true rfl) ?_
      refine xj_dup dX0_value_28 rfl ?_
      refine xj_icm1 dX0_value_29 ?_
      have hO2 : (G ++ [cO 16 [.int 0, .int 0]])[0]? = some (cO 0 (cFs (dT d (nxF tp e) (nxT tp e)))) := app_le hO
      have h192 : (G ++ [cO 16 [.int 0, .int 0]])[19]? = some (cI 1 LT) := app_le h19
      refine xj_aload_n dX0_value_30 rfl rfl ?_
      refine xj_cV dX0_value_31 q1147 kV_X0_figure (A_figureY hO2 hd17 h192 hLT he hnum) hO2 rfl rfl rfl rfl (Nat.le_of_ble_eq_true rfl) ⟨(Nat.le_of_ble_eq_true rfl), (Nat.le_of_ble_eq_true rfl)⟩ (Nat.le_of_ble_eq_true rfl) (Nat.le_of_ble_eq_true rfl) ?_
      rw [gtE_app (List.getElem?_eq_some_iff.mp hO).1]
      refine xj_eq rfl (show _ = [Value.int (nI (pNum tp e)), .int (-1), .ref (gtE G d tp (nxT tp e)).length, .ref (gtE G d tp (nxT tp e)).length] from by rw [gtE_len]; rfl) rfl ?_
      refine xj_cI dX0_value_34 q1136 kI_X16_init (A_valueInit app_at) rfl rfl (Nat.le_of_ble_eq_true rfl) ⟨(Nat.le_of_ble_eq_true rfl), (Nat.le_of_ble_eq_true rfl)⟩ (Nat.le_of_ble_eq_true rfl) (Nat.le_of_ble_eq_true rfl) ?_
      exact xj_areturn dX0_value_37 rfl (Or.inl ⟨_, rfl⟩) rfl ⟨by rw [gtE_len], by rw [app_set, vFs_n (pNum_lt he hnum)]⟩
    · rw [if_neg hnum] at hq
      cases hq
theorem A_valueN {p : Nat} {r : Nat → Value} {fv : Int32} {e : Nat} {tp : List Nat} {LT : List Int32}  (hO : G[0]? = some (cO 0 (cFs (dT d (nxF tp e) (nxT tp e))))) (hd17 : d 17 = .int (nI tp.length)) (h19 : G[19]? = some (cI 1 LT)) (hLT : tpB LT tp) (he : e ≤ tp.length) (hN : G[18]? = some (cR 9 [.float 0, .float 1, .float 2, .float 3, .float 4])) (hF : G[2]? = some (cO 2 (rFs r (.int fv)))) (hq : pVal tp e = .inl p) : xMet E yX0_value cX0_value 2 (some (FieldType.object "CoarserOrders$Value")) 6 1 2 [.ref 0] G (xth "CoarserOrders$Fault" (some (.ref 2)) (fun G' => G' = (G ++ [cO 16 [.int 0, .int 0]]).set 2 (cO 2 (rFs r (.int (nI p)))))) := by
  have htp := hLT.2.1
  have hl200 := hLT.1
  have hnb := nxT_b he
  have hnf := nxF_b he
  unfold pVal at hq
  refine xMet.of (lv := [some (.ref 0), none]) rfl rfl (Nat.le_of_ble_eq_true rfl) ?_
  by_cases hf : fct tp e < 0
  · rw [if_pos hf] at hq
    cases hq
  · rw [if_neg hf] at hq
    by_cases hnum : numB tp e = true
    · rw [if_pos hnum] at hq
      cases hq
    · rw [if_neg hnum] at hq
      cases hq
      refine xj_aload_n dX0_value_0 rfl rfl ?_
      refine xj_aload_n dX0_value_1 rfl rfl ?_
      refine xj_get dX0_value_2 K0 15 (by decide) q484 hO rfl ?_
      refine xj_cV dX0_value_5 q1130 kV_X0_nameOf (A_nameOfN hO hd17 h19 hLT he hN (fct_none hf)) hO rfl rfl rfl rfl (Nat.le_of_ble_eq_true rfl) ⟨(Nat.le_of_ble_eq_true rfl), (Nat.le_of_ble_eq_true rfl)⟩ (Nat.le_of_ble_eq_true rfl) (Nat.le_of_ble_eq_true rfl) ?_
      refine xj_istn1 dX0_value_8 rfl ?_
      refine xj_iload_n dX0_value_9 rfl ?_
      refine xj_if_lt (tgt := 25) dX0_value_10 rfl (fun c10 => ?_) (fun c10 => absurd (by decide) c10)
      refine xj_new (fs := [.int 0, .int 0]) dX0_value_25 K16 q1134 q1135 q179 rfl (Nat.le_of_ble_eq_true rfl) (Nat.le_of_ble_eq_true rfl) ?_
      refine xj_dup dX0_value_28 rfl ?_
      refine xj_icm1 dX0_value_29 ?_
      have hO2 : (G ++ [cO 16 [.int 0, .int 0]])[0]? = some (cO 0 (cFs (dT d (nxF tp e) (nxT tp e)))) := app_le hO
      have h192 : (G ++ [cO 16 [.int 0, .int 0]])[19]? = some (cI 1 LT) := app_le h19
      refine xj_aload_n dX0_value_30 rfl rfl ?_
      refine xj_tV dX0_value_31 q1147 kV_X0_figure (A_figureN hO2 hd17 h192 hLT he (app_le hF) ((Bool.not_eq_true _).mp hnum)) hO2 rfl rfl rfl rfl (Nat.le_of_ble_eq_true rfl) ⟨(Nat.le_of_ble_eq_true rfl), (Nat.le_of_ble_eq_true rfl)⟩ (Nat.le_of_ble_eq_true rfl) (Nat.le_of_ble_eq_true rfl) ?_
      rintro _ rfl
      exact xjT_out (fun _ hx => by cases hx) ⟨rfl, rfl⟩
end A50
