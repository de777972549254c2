/-! ===== the class: makers ===== -/
set_option maxRecDepth 100000
theorem kV_X0_comes : xsV yX0_comes cX0_comes 6 (some FieldType.int) 2 := ⟨q996, qs36, q151, q997, by decide, by decide, by decide +kernel⟩
theorem kS_X0_isHow : xsS yX0_isHow cX0_isHow 1 (some FieldType.boolean) 1 := ⟨q992, q151, q993, by decide, by decide, by decide +kernel⟩
theorem kS_X0_isKind : xsS yX0_isKind cX0_isKind 1 (some FieldType.boolean) 1 := ⟨q835, q151, q836, by decide, by decide, by decide +kernel⟩
theorem kV_X0_isMaker : xsV yX0_isMaker cX0_isMaker 2 (some FieldType.boolean) 1 := ⟨q903, qs34, q151, q904, by decide, by decide, by decide +kernel⟩
theorem kS_X0_made : xsS yX0_made cX0_made 3 (some (FieldType.object "CoarserOrders$Plain")) 3 := ⟨q838, q151, q839, by decide, by decide, by decide +kernel⟩
theorem kV_X0_takenBy : xsV yX0_takenBy cX0_takenBy 5 (some FieldType.long) 1 := ⟨q937, qs35, q151, q938, by decide, by decide, by decide +kernel⟩
theorem kI_X13_init : xsI yX13_init cX13_init 3 2 := ⟨q886, q172, q887, rfl, by decide, by decide, by decide +kernel⟩
theorem kI_X12_init : xsI yX12_init cX12_init 3 2 := ⟨q877, q171, q878, rfl, by decide, by decide, by decide +kernel⟩
theorem kI_X11_init : xsI yX11_init cX11_init 3 2 := ⟨q868, q170, q869, rfl, by decide, by decide, by decide +kernel⟩
theorem kU_X10_X8_X10_kind : xsU "CoarserOrders$Longer" "CoarserOrders$Plain" ⟨"CoarserOrders$Plain", "kind", "()I"⟩ yX10_kind cX10_kind 1 (some FieldType.int) 0 := ⟨q908, Or.inr ⟨q906, _, _, _, q924⟩, q912, q913, q169, q914, by decide, by decide +kernel⟩
theorem kU_X10_X8_X10_takes : xsU "CoarserOrders$Longer" "CoarserOrders$Plain" ⟨"CoarserOrders$Plain", "takes", "(LCoarserOrders$Arc;)Z"⟩ yX10_takes cX10_takes 2 (some FieldType.boolean) 1 := ⟨q942, Or.inr ⟨q940, _, _, _, q986⟩, q956, q957, q169, q958, by decide, by decide +kernel⟩
theorem kU_X10_X8_X8_mark : xsU "CoarserOrders$Longer" "CoarserOrders$Plain" ⟨"CoarserOrders$Plain", "mark", "()I"⟩ yX8_mark cX8_mark 1 (some FieldType.int) 0 := ⟨q928, Or.inl q961, q930, q926, q167, q934, by decide, by decide +kernel⟩
theorem kU_X10_X8_X8_number : xsU "CoarserOrders$Longer" "CoarserOrders$Plain" ⟨"CoarserOrders$Plain", "number", "()I"⟩ yX8_number cX8_number 1 (some FieldType.int) 0 := ⟨q1660, Or.inl q1804, q1662, q1658, q167, q1666, by decide, by decide +kernel⟩
theorem kU_X11_X8_X11_kind : xsU "CoarserOrders$Twosided" "CoarserOrders$Plain" ⟨"CoarserOrders$Plain", "kind", "()I"⟩ yX11_kind cX11_kind 1 (some FieldType.int) 0 := ⟨q908, Or.inr ⟨q906, _, _, _, q924⟩, q921, q922, q170, q923, by decide, by decide +kernel⟩
theorem kU_X11_X8_X11_takes : xsU "CoarserOrders$Twosided" "CoarserOrders$Plain" ⟨"CoarserOrders$Plain", "takes", "(LCoarserOrders$Arc;)Z"⟩ yX11_takes cX11_takes 2 (some FieldType.boolean) 1 := ⟨q942, Or.inr ⟨q940, _, _, _, q986⟩, q981, q982, q170, q983, by decide, by decide +kernel⟩
theorem kU_X11_X8_X8_mark : xsU "CoarserOrders$Twosided" "CoarserOrders$Plain" ⟨"CoarserOrders$Plain", "mark", "()I"⟩ yX8_mark cX8_mark 1 (some FieldType.int) 0 := ⟨q928, Or.inl q961, q933, q926, q167, q934, by decide, by decide +kernel⟩
theorem kU_X11_X8_X8_number : xsU "CoarserOrders$Twosided" "CoarserOrders$Plain" ⟨"CoarserOrders$Plain", "number", "()I"⟩ yX8_number cX8_number 1 (some FieldType.int) 0 := ⟨q1660, Or.inl q1804, q1665, q1658, q167, q1666, by decide, by decide +kernel⟩
theorem kU_X12_X8_X12_kind : xsU "CoarserOrders$Signed" "CoarserOrders$Plain" ⟨"CoarserOrders$Plain", "kind", "()I"⟩ yX12_kind cX12_kind 1 (some FieldType.int) 0 := ⟨q908, Or.inr ⟨q906, _, _, _, q924⟩, q918, q919, q171, q920, by decide, by decide +kernel⟩
theorem kU_X12_X8_X12_takes : xsU "CoarserOrders$Signed" "CoarserOrders$Plain" ⟨"CoarserOrders$Plain", "takes", "(LCoarserOrders$Arc;)Z"⟩ yX12_takes cX12_takes 3 (some FieldType.boolean) 1 := ⟨q942, Or.inr ⟨q940, _, _, _, q986⟩, q974, q975, q171, q976, by decide, by decide +kernel⟩
theorem kU_X12_X8_X8_mark : xsU "CoarserOrders$Signed" "CoarserOrders$Plain" ⟨"CoarserOrders$Plain", "mark", "()I"⟩ yX8_mark cX8_mark 1 (some FieldType.int) 0 := ⟨q928, Or.inl q961, q932, q926, q167, q934, by decide, by decide +kernel⟩
theorem kU_X12_X8_X8_number : xsU "CoarserOrders$Signed" "CoarserOrders$Plain" ⟨"CoarserOrders$Plain", "number", "()I"⟩ yX8_number cX8_number 1 (some FieldType.int) 0 := ⟨q1660, Or.inl q1804, q1664, q1658, q167, q1666, by decide, by decide +kernel⟩
theorem kU_X13_X8_X13_kind : xsU "CoarserOrders$Mixed" "CoarserOrders$Plain" ⟨"CoarserOrders$Plain", "kind", "()I"⟩ yX13_kind cX13_kind 1 (some FieldType.int) 0 := ⟨q908, Or.inr ⟨q906, _, _, _, q924⟩, q915, q916, q172, q917, by decide, by decide +kernel⟩
theorem kU_X13_X8_X13_takes : xsU "CoarserOrders$Mixed" "CoarserOrders$Plain" ⟨"CoarserOrders$Plain", "takes", "(LCoarserOrders$Arc;)Z"⟩ yX13_takes cX13_takes 2 (some FieldType.boolean) 1 := ⟨q942, Or.inr ⟨q940, _, _, _, q986⟩, q964, q965, q172, q966, by decide, by decide +kernel⟩
theorem kU_X13_X8_X8_mark : xsU "CoarserOrders$Mixed" "CoarserOrders$Plain" ⟨"CoarserOrders$Plain", "mark", "()I"⟩ yX8_mark cX8_mark 1 (some FieldType.int) 0 := ⟨q928, Or.inl q961, q931, q926, q167, q934, by decide, by decide +kernel⟩
theorem kU_X13_X8_X8_number : xsU "CoarserOrders$Mixed" "CoarserOrders$Plain" ⟨"CoarserOrders$Plain", "number", "()I"⟩ yX8_number cX8_number 1 (some FieldType.int) 0 := ⟨q1660, Or.inl q1804, q1663, q1658, q167, q1666, by decide, by decide +kernel⟩
theorem kU_X8_X8_X8_kind : xsU "CoarserOrders$Plain" "CoarserOrders$Plain" ⟨"CoarserOrders$Plain", "kind", "()I"⟩ yX8_kind cX8_kind 1 (some FieldType.int) 0 := ⟨q908, Or.inr ⟨q906, _, _, _, q924⟩, q907, q906, q167, q924, by decide, by decide +kernel⟩
theorem kU_X8_X8_X8_mark : xsU "CoarserOrders$Plain" "CoarserOrders$Plain" ⟨"CoarserOrders$Plain", "mark", "()I"⟩ yX8_mark cX8_mark 1 (some FieldType.int) 0 := ⟨q928, Or.inl q961, q927, q926, q167, q934, by decide, by decide +kernel⟩
theorem kU_X8_X8_X8_number : xsU "CoarserOrders$Plain" "CoarserOrders$Plain" ⟨"CoarserOrders$Plain", "number", "()I"⟩ yX8_number cX8_number 1 (some FieldType.int) 0 := ⟨q1660, Or.inl q1804, q1659, q1658, q167, q1666, by decide, by decide +kernel⟩
theorem kU_X8_X8_X8_takes : xsU "CoarserOrders$Plain" "CoarserOrders$Plain" ⟨"CoarserOrders$Plain", "takes", "(LCoarserOrders$Arc;)Z"⟩ yX8_takes cX8_takes 2 (some FieldType.boolean) 1 := ⟨q942, Or.inr ⟨q940, _, _, _, q986⟩, q941, q940, q167, q986, by decide, by decide +kernel⟩
theorem kU_X9_X8_X8_mark : xsU "CoarserOrders$Lefty" "CoarserOrders$Plain" ⟨"CoarserOrders$Plain", "mark", "()I"⟩ yX8_mark cX8_mark 1 (some FieldType.int) 0 := ⟨q928, Or.inl q961, q929, q926, q167, q934, by decide, by decide +kernel⟩
theorem kU_X9_X8_X8_number : xsU "CoarserOrders$Lefty" "CoarserOrders$Plain" ⟨"CoarserOrders$Plain", "number", "()I"⟩ yX8_number cX8_number 1 (some FieldType.int) 0 := ⟨q1660, Or.inl q1804, q1661, q1658, q167, q1666, by decide, by decide +kernel⟩
theorem kU_X9_X8_X9_kind : xsU "CoarserOrders$Lefty" "CoarserOrders$Plain" ⟨"CoarserOrders$Plain", "kind", "()I"⟩ yX9_kind cX9_kind 1 (some FieldType.int) 0 := ⟨q908, Or.inr ⟨q906, _, _, _, q924⟩, q909, q910, q168, q911, by decide, by decide +kernel⟩
theorem kU_X9_X8_X9_takes : xsU "CoarserOrders$Lefty" "CoarserOrders$Plain" ⟨"CoarserOrders$Plain", "takes", "(LCoarserOrders$Arc;)Z"⟩ yX9_takes cX9_takes 2 (some FieldType.boolean) 1 := ⟨q942, Or.inr ⟨q940, _, _, _, q986⟩, q943, q944, q168, q945, by decide, by decide +kernel⟩
theorem made_k : ∀ kd : Nat, kd < 6 → ∀ i : Nat, i < 5 → nI kd = Int32.ofInt (1 + (i : Int)) → kd = i + 1 := by decide +kernel
theorem made_0 : ∀ kd, kd < 6 → ((nI kd).toInt < 1 ∨ 5 < (nI kd).toInt) → kd = 0 := by decide +kernel
theorem app_at {G : xH} {x : xC} : (G ++ [x])[G.length]? = some x := by rw [List.getElem?_append_right (Nat.le_refl _), Nat.sub_self]; rfl
theorem app_set {G : xH} {x y : xC} : (G ++ [x]).set G.length y = G ++ [y] := by rw [List.set_append_right _ _ (Nat.le_refl _), Nat.sub_self]; rfl
theorem gfa.app {W : List Nat} {G H : xH} {x : xC} (h : gfa W G H) : gfa W G (H ++ [x]) := ⟨by rw [List.length_append]; exact Nat.le_trans h.1 (Nat.le_add_right _ _), fun i hl hi => by rw [List.getElem?_append_left (Nat.lt_of_lt_of_le hl h.1)]; exact h.2 i hl hi⟩
def mkO (i : Nat) (p : Nat × Nat) : xC := cO (8 + p.1) [.int (nI i), .int (nI p.2)]
/-- the makers that are there -/
def cMk (mk : List (Nat × Nat)) (e : Nat → Value) (G : xH) : Prop := e 1 = .int (nI mk.length) ∧ (∃ K M : List Int32, G[5]? = some (cI 0 K) ∧ G[6]? = some (cI 0 M) ∧ mML K M mk) ∧ ∃ PL : List Value, G[10]? = some (cR 7 PL) ∧ PL.length = 6 ∧ ∀ (i : Nat) (p : Nat × Nat), mk[i]? = some p → ∃ a : Nat, PL[i]? = some (.ref a) ∧ 82 < a ∧ G[a]? = some (mkO i p)
theorem tkS_na {n kd m : Nat} : tkS n kd m < 2 ^ na n := lp_or_lt2 (N := na n) _ (fun p hp => if_lt_pow hp) (na n) 0 0 (by omega) (Nat.two_pow_pos _)
section A25a
variable {E : xE} {G : xH} {d e : Nat → Value} {n : Nat}
theorem A_made {kd : Nat} {u v : Int32}  (hkd : kd < 6) : xMet E yX0_made cX0_made 3 (some (FieldType.object "CoarserOrders$Plain")) 3 1 2 [.int (nI kd), .int u, .int v] G (xre (fun v_ G' => v_ = some (.ref G.length) ∧ G' = G ++ [cO (8 + kd) [.int u, .int v]])) := by
  refine xMet.of (lv := [some (.int (nI kd)), some (.int u), some (.int v)]) rfl rfl (Nat.le_of_ble_eq_true rfl) ?_
  refine xj_iload_n dX0_made_0 rfl ?_
  refine xj_tabs (tg := [36, 46, 56, 66, 76]) (tgt := 86) dX0_made_1 rfl rfl rfl ⟨fun c1 => ?_, fun c1 => ?_, fun c1 => ?_, fun c1 => ?_, fun c1 => ?_, trivial⟩ (fun c1 => ?_)
  · obtain rfl : kd = 1 := made_k kd hkd 0 (by decide) c1
    refine xj_new (fs := [.int 0, .int 0]) dX0_made_36 K9 q840 q841 q168 rfl (Nat.le_of_ble_eq_true rfl) (Nat.le_of_ble_eq_true rfl) ?_
    refine xj_dup dX0_made_39 rfl ?_
    refine xj_iload_n dX0_made_40 rfl ?_
    refine xj_iload_n dX0_made_41 rfl ?_
    refine xj_cI dX0_made_42 q842 kI_X9_init (A_init9_9 app_at) rfl rfl (Nat.le_of_ble_eq_true rfl) ⟨(Nat.le_of_ble_eq_true rfl), (Nat.le_of_ble_eq_true rfl)⟩ (Nat.le_of_ble_eq_true rfl) (Nat.le_of_ble_eq_true rfl) ?_
    exact xj_areturn dX0_made_45 rfl (Or.inl ⟨_, rfl⟩) rfl ⟨rfl, app_set⟩
  · obtain rfl : kd = 2 := made_k kd hkd 1 (by decide) c1
    refine xj_new (fs := [.int 0, .int 0]) dX0_made_46 K10 q856 q857 q169 rfl (Nat.le_of_ble_eq_true rfl) (Nat.le_of_ble_eq_true rfl) ?_
    refine xj_dup dX0_made_49 rfl ?_
    refine xj_iload_n dX0_made_50 rfl ?_
    refine xj_iload_n dX0_made_51 rfl ?_
    refine xj_cI dX0_made_52 q858 kI_X10_init (A_init10_10 app_at) rfl rfl (Nat.le_of_ble_eq_true rfl) ⟨(Nat.le_of_ble_eq_true rfl), (Nat.le_of_ble_eq_true rfl)⟩ (Nat.le_of_ble_eq_true rfl) (Nat.le_of_ble_eq_true rfl) ?_
    exact xj_areturn dX0_made_55 rfl (Or.inl ⟨_, rfl⟩) rfl ⟨rfl, app_set⟩
  · obtain rfl : kd = 3 := made_k kd hkd 2 (by decide) c1
    refine xj_new (fs := [.int 0, .int 0]) dX0_made_56 K11 q865 q866 q170 rfl (Nat.le_of_ble_eq_true rfl) (Nat.le_of_ble_eq_true rfl) ?_
    refine xj_dup dX0_made_59 rfl ?_
    refine xj_iload_n dX0_made_60 rfl ?_
    refine xj_iload_n dX0_made_61 rfl ?_
    refine xj_cI dX0_made_62 q867 kI_X11_init (A_init11_11 app_at) rfl rfl (Nat.le_of_ble_eq_true rfl) ⟨(Nat.le_of_ble_eq_true rfl), (Nat.le_of_ble_eq_true rfl)⟩ (Nat.le_of_ble_eq_true rfl) (Nat.le_of_ble_eq_true rfl) ?_
    exact xj_areturn dX0_made_65 rfl (Or.inl ⟨_, rfl⟩) rfl ⟨rfl, app_set⟩
  · obtain rfl : kd = 4 := made_k kd hkd 3 (by decide) c1
    refine xj_new (fs := [.int 0, .int 0]) dX0_made_66 K12 q874 q875 q171 rfl (Nat.le_of_ble_eq_true rfl) (Nat.le_of_ble_eq_true rfl) ?_
    refine xj_dup dX0_made_69 rfl ?_
    refine xj_iload_n dX0_made_70 rfl ?_
    refine xj_iload_n dX0_made_71 rfl ?_
    refine xj_cI dX0_made_72 q876 kI_X12_init (A_init12_12 app_at) rfl rfl (Nat.le_of_ble_eq_true rfl) ⟨(Nat.le_of_ble_eq_true rfl), (Nat.le_of_ble_eq_true rfl)⟩ (Nat.le_of_ble_eq_true rfl) (Nat.le_of_ble_eq_true rfl) ?_
    exact xj_areturn dX0_made_75 rfl (Or.inl ⟨_, rfl⟩) rfl ⟨rfl, app_set⟩
  · obtain rfl : kd = 5 := made_k kd hkd 4 (by decide) c1
    refine xj_new (fs := [.int 0, .int 0]) dX0_made_76 K13 q883 q884 q172 rfl (Nat.le_of_ble_eq_true rfl) (Nat.le_of_ble_eq_true rfl) ?_
    refine xj_dup dX0_made_79 rfl ?_
    refine xj_iload_n dX0_made_80 rfl ?_
    refine xj_iload_n dX0_made_81 rfl ?_
    refine xj_cI dX0_made_82 q885 kI_X13_init (A_init13_13 app_at) rfl rfl (Nat.le_of_ble_eq_true rfl) ⟨(Nat.le_of_ble_eq_true rfl), (Nat.le_of_ble_eq_true rfl)⟩ (Nat.le_of_ble_eq_true rfl) (Nat.le_of_ble_eq_true rfl) ?_
    exact xj_areturn dX0_made_85 rfl (Or.inl ⟨_, rfl⟩) rfl ⟨rfl, app_set⟩
  · obtain rfl : kd = 0 := made_0 kd hkd c1
    refine xj_new (fs := [.int 0, .int 0]) dX0_made_86 K8 q346 q892 q167 rfl (Nat.le_of_ble_eq_true rfl) (Nat.le_of_ble_eq_true rfl) ?_
    refine xj_dup dX0_made_89 rfl ?_
    refine xj_iload_n dX0_made_90 rfl ?_
    refine xj_iload_n dX0_made_91 rfl ?_
    refine xj_cI dX0_made_92 q893 kI_X8_init (A_plainInit8 app_at) rfl rfl (Nat.le_of_ble_eq_true rfl) ⟨(Nat.le_of_ble_eq_true rfl), (Nat.le_of_ble_eq_true rfl)⟩ (Nat.le_of_ble_eq_true rfl) (Nat.le_of_ble_eq_true rfl) ?_
    exact xj_areturn dX0_made_95 rfl (Or.inl ⟨_, rfl⟩) rfl ⟨rfl, app_set⟩
end A25a
theorem xj_takesV {E : xE} {I : xI} {R : Room} {Φ : xOut → xH → Prop} {nc ns pc : Nat} {lv : List (Option Value)} {G : xH} {idx a kd mk : Nat} {n k b : Nat} {w : Nat → Value} {nu : Int32} {rest : List Value} (hd : decode I.2.1 pc = .ok (.invokevirtual idx, 3)) (w1 : Cond.methodLink I.1.cls idx ⟨"CoarserOrders$Plain", "takes", "(LCoarserOrders$Arc;)Z"⟩ ∈ lw_all) (hP : G[a]? = some (cO (8 + kd) [.int nu, .int (nI mk)])) (hkd : kd < 6) (h6 : G[b]? = some (cO 6 (aFs n k w))) (hn7 : n < 7) (hk : k < na n) (hmk : mk < 16) (hrest : (rest.map fun v => v.category).sum ≤ 8) (hR : 3 + 41 ≤ R.frames ∧ 11019 + 3 + 64 * 3 ≤ R.locals) (kk : xJ E I R Φ nc ns (pc + 3) lv (.int (b1 (tkB n kd mk k)) :: rest) G) : xJ E I R Φ nc ns pc lv (.ref b :: .ref a :: rest) G := by
  match kd, hkd with
  | 0, _ => exact xj_cU hd w1 kU_X8_X8_X8_takes (A_takes8 (n := n) (k := k) (mk := mk) (nu := 0) (w := w)) hP rfl rfl rfl hrest ⟨by have := hR.1; omega, by have := hR.2; omega⟩ (Nat.zero_le _) (Nat.zero_le _) kk
  | 1, _ => exact xj_cU hd w1 kU_X9_X8_X9_takes (A_takes9 (mk := mk) (nu := 0) h6 hn7 hk) hP rfl rfl rfl hrest ⟨by have := hR.1; omega, by have := hR.2; omega⟩ (Nat.zero_le _) (Nat.zero_le _) kk
  | 2, _ => exact xj_cU hd w1 kU_X10_X8_X10_takes (A_takes10_10 hP h6 hn7 hk hmk) hP rfl rfl rfl hrest ⟨by have := hR.1; omega, by have := hR.2; omega⟩ (Nat.zero_le _) (Nat.zero_le _) kk
  | 3, _ => exact xj_cU hd w1 kU_X11_X8_X11_takes (A_takes11 hP h6 hn7 hk) hP rfl rfl rfl hrest ⟨by have := hR.1; omega, by have := hR.2; omega⟩ (Nat.zero_le _) (Nat.zero_le _) kk
  | 4, _ => exact xj_cU hd w1 kU_X12_X8_X12_takes (A_takes12 hP h6 hn7 hk hmk) hP rfl rfl rfl hrest ⟨by have := hR.1; omega, by have := hR.2; omega⟩ (Nat.zero_le _) (Nat.zero_le _) kk
  | 5, _ => exact xj_cU hd w1 kU_X13_X8_X13_takes (A_takes13 hP h6 hn7 hk hmk) hP rfl rfl rfl hrest ⟨by have := hR.1; omega, by have := hR.2; omega⟩ (Nat.zero_le _) (Nat.zero_le _) kk
theorem xj_kindV {E : xE} {I : xI} {R : Room} {Φ : xOut → xH → Prop} {nc ns pc : Nat} {lv : List (Option Value)} {G : xH} {idx a kd mk : Nat} {nu : Int32} {rest : List Value} (hd : decode I.2.1 pc = .ok (.invokevirtual idx, 3)) (w1 : Cond.methodLink I.1.cls idx ⟨"CoarserOrders$Plain", "kind", "()I"⟩ ∈ lw_all) (hP : G[a]? = some (cO (8 + kd) [.int nu, .int (nI mk)])) (hkd : kd < 6) (hrest : (rest.map fun v => v.category).sum ≤ 8) (hR : 0 + 41 ≤ R.frames ∧ 11019 + 3 + 64 * 0 ≤ R.locals) (kk : xJ E I R Φ nc ns (pc + 3) lv (.int (nI kd) :: rest) G) : xJ E I R Φ nc ns pc lv (.ref a :: rest) G := by
  match kd, hkd with
  | 0, _ => exact xj_cU hd w1 kU_X8_X8_X8_kind A_kind8 hP rfl rfl rfl hrest ⟨by have := hR.1; omega, by have := hR.2; omega⟩ (Nat.zero_le _) (Nat.zero_le _) kk
  | 1, _ => exact xj_cU hd w1 kU_X9_X8_X9_kind A_kind9 hP rfl rfl rfl hrest ⟨by have := hR.1; omega, by have := hR.2; omega⟩ (Nat.zero_le _) (Nat.zero_le _) kk
  | 2, _ => exact xj_cU hd w1 kU_X10_X8_X10_kind A_kind10 hP rfl rfl rfl hrest ⟨by have := hR.1; omega, by have := hR.2; omega⟩ (Nat.zero_le _) (Nat.zero_le _) kk
  | 3, _ => exact xj_cU hd w1 kU_X11_X8_X11_kind A_kind11 hP rfl rfl rfl hrest ⟨by have := hR.1; omega, by have := hR.2; omega⟩ (Nat.zero_le _) (Nat.zero_le _) kk
  | 4, _ => exact xj_cU hd w1 kU_X12_X8_X12_kind A_kind12 hP rfl rfl rfl hrest ⟨by have := hR.1; omega, by have := hR.2; omega⟩ (Nat.zero_le _) (Nat.zero_le _) kk
  | 5, _ => exact xj_cU hd w1 kU_X13_X8_X13_kind A_kind13 hP rfl rfl rfl hrest ⟨by have := hR.1; omega, by have := hR.2; omega⟩ (Nat.zero_le _) (Nat.zero_le _) kk
theorem xj_markV {E : xE} {I : xI} {R : Room} {Φ : xOut → xH → Prop} {nc ns pc : Nat} {lv : List (Option Value)} {G : xH} {idx a kd mk : Nat} {nu : Int32} {rest : List Value} (hd : decode I.2.1 pc = .ok (.invokevirtual idx, 3)) (w1 : Cond.methodLink I.1.cls idx ⟨"CoarserOrders$Plain", "mark", "()I"⟩ ∈ lw_all) (hP : G[a]? = some (cO (8 + kd) [.int nu, .int (nI mk)])) (hkd : kd < 6) (hrest : (rest.map fun v => v.category).sum ≤ 8) (hR : 0 + 41 ≤ R.frames ∧ 11019 + 3 + 64 * 0 ≤ R.locals) (kk : xJ E I R Φ nc ns (pc + 3) lv (.int (nI mk) :: rest) G) : xJ E I R Φ nc ns pc lv (.ref a :: rest) G := by
  match kd, hkd with
  | 0, _ => exact xj_cU hd w1 kU_X8_X8_X8_mark (A_mark8 hP) hP rfl rfl rfl hrest ⟨by have := hR.1; omega, by have := hR.2; omega⟩ (Nat.zero_le _) (Nat.zero_le _) kk
  | 1, _ => exact xj_cU hd w1 kU_X9_X8_X8_mark (A_mark9 hP) hP rfl rfl rfl hrest ⟨by have := hR.1; omega, by have := hR.2; omega⟩ (Nat.zero_le _) (Nat.zero_le _) kk
  | 2, _ => exact xj_cU hd w1 kU_X10_X8_X8_mark (A_mark10 hP) hP rfl rfl rfl hrest ⟨by have := hR.1; omega, by have := hR.2; omega⟩ (Nat.zero_le _) (Nat.zero_le _) kk
  | 3, _ => exact xj_cU hd w1 kU_X11_X8_X8_mark (A_mark11 hP) hP rfl rfl rfl hrest ⟨by have := hR.1; omega, by have := hR.2; omega⟩ (Nat.zero_le _) (Nat.zero_le _) kk
  | 4, _ => exact xj_cU hd w1 kU_X12_X8_X8_mark (A_mark12 hP) hP rfl rfl rfl hrest ⟨by have := hR.1; omega, by have := hR.2; omega⟩ (Nat.zero_le _) (Nat.zero_le _) kk
  | 5, _ => exact xj_cU hd w1 kU_X13_X8_X8_mark (A_mark13 hP) hP rfl rfl rfl hrest ⟨by have := hR.1; omega, by have := hR.2; omega⟩ (Nat.zero_le _) (Nat.zero_le _) kk
theorem xj_numberV {E : xE} {I : xI} {R : Room} {Φ : xOut → xH → Prop} {nc ns pc : Nat} {lv : List (Option Value)} {G : xH} {idx a kd mk : Nat} {nu : Int32} {rest : List Value} (hd : decode I.2.1 pc = .ok (.invokevirtual idx, 3)) (w1 : Cond.methodLink I.1.cls idx ⟨"CoarserOrders$Plain", "number", "()I"⟩ ∈ lw_all) (hP : G[a]? = some (cO (8 + kd) [.int nu, .int (nI mk)])) (hkd : kd < 6) (hrest : (rest.map fun v => v.category).sum ≤ 8) (hR : 0 + 41 ≤ R.frames ∧ 11019 + 3 + 64 * 0 ≤ R.locals) (kk : xJ E I R Φ nc ns (pc + 3) lv (.int (nu) :: rest) G) : xJ E I R Φ nc ns pc lv (.ref a :: rest) G := by
  match kd, hkd with
  | 0, _ => exact xj_cU hd w1 kU_X8_X8_X8_number (A_number8 hP) hP rfl rfl rfl hrest ⟨by have := hR.1; omega, by have := hR.2; omega⟩ (Nat.zero_le _) (Nat.zero_le _) kk
  | 1, _ => exact xj_cU hd w1 kU_X9_X8_X8_number (A_number9 hP) hP rfl rfl rfl hrest ⟨by have := hR.1; omega, by have := hR.2; omega⟩ (Nat.zero_le _) (Nat.zero_le _) kk
  | 2, _ => exact xj_cU hd w1 kU_X10_X8_X8_number (A_number10 hP) hP rfl rfl rfl hrest ⟨by have := hR.1; omega, by have := hR.2; omega⟩ (Nat.zero_le _) (Nat.zero_le _) kk
  | 3, _ => exact xj_cU hd w1 kU_X11_X8_X8_number (A_number11 hP) hP rfl rfl rfl hrest ⟨by have := hR.1; omega, by have := hR.2; omega⟩ (Nat.zero_le _) (Nat.zero_le _) kk
  | 4, _ => exact xj_cU hd w1 kU_X12_X8_X8_number (A_number12 hP) hP rfl rfl rfl hrest ⟨by have := hR.1; omega, by have := hR.2; omega⟩ (Nat.zero_le _) (Nat.zero_le _) kk
  | 5, _ => exact xj_cU hd w1 kU_X13_X8_X8_number (A_number13 hP) hP rfl rfl rfl hrest ⟨by have := hR.1; omega, by have := hR.2; omega⟩ (Nat.zero_le _) (Nat.zero_le _) kk
theorem xj_aastP {E : xE} {I : xI} {R : Room} {Φ : xOut → xH → Prop} {nc ns pc : Nat} {lv : List (Option Value)} {G : xH} {st : List Value} {a k b kd : Nat} {i : Int32} {fs L : List Value} (hd : decode I.2.1 pc = .ok (.aastore, 1)) (hg : G[a]? = some (cR 7 L)) (hgb : G[b]? = some (cO (8 + kd) fs)) (hkd : kd < 6) (hi : i = nI k) (h31 : k < 2147483648) (hk : k < L.length) (kk : xJ E I R Φ nc ns (pc + 1) lv st (G.set a (cR 7 (L.set k (.ref b))))) : xJ E I R Φ nc ns pc lv (.ref b :: .int i :: .ref a :: st) G := by
  match kd, hkd with
  | 0, _ => exact xj_aastO (ct := 8) hd hg rfl hgb rfl rfl (Or.inl rfl) hi h31 hk kk
  | 1, _ => exact xj_aastO (ct := 8) hd hg rfl hgb rfl rfl (Or.inr q2617) hi h31 hk kk
  | 2, _ => exact xj_aastO (ct := 8) hd hg rfl hgb rfl rfl (Or.inr q2618) hi h31 hk kk
  | 3, _ => exact xj_aastO (ct := 8) hd hg rfl hgb rfl rfl (Or.inr q2621) hi h31 hk kk
  | 4, _ => exact xj_aastO (ct := 8) hd hg rfl hgb rfl rfl (Or.inr q2620) hi h31 hk kk
  | 5, _ => exact xj_aastO (ct := 8) hd hg rfl hgb rfl rfl (Or.inr q2619) hi h31 hk kk
section A25
variable {E : xE} {G : xH} {d e : Nat → Value} {n : Nat}
theorem A_takenBy {a kd mk : Nat} {nu : Int32}  (hv : cV d e n G) (hA : cA d n G) (hP : G[a]? = some (cO (8 + kd) [.int nu, .int (nI mk)])) (hkd : kd < 6) (hmk : mk < 16) : xMet E yX0_takenBy cX0_takenBy 5 (some FieldType.long) 4 0 0 [.ref 0, .ref a] G (xrv (some (.long (lN (tkS n kd mk)))) G) := by
  obtain ⟨hO, hN, hn0, h1n, hn6⟩ := id hv
  obtain ⟨ar, hd3, hdy, LA, hAr, hLA, hAk⟩ := id hA
  have hna := na_lt n (by omega)
  refine xMet.of (lv := [some (.ref 0), some (.ref a), none, none, none]) rfl rfl (Nat.le_of_ble_eq_true rfl) ?_
  refine xj_lc0 dX0_takenBy_0 ?_
  refine xj_lstn2 dX0_takenBy_1 rfl ?_
  refine xj_ic0 dX0_takenBy_2 ?_
  refine xj_ist4 dX0_takenBy_3 rfl ?_
  have lp : ∀ (K : Nat) (k : Nat) (s : Nat), na n - k < K → (k ≤ na n) → (s < 2 ^ 57) → (lpN (fun x s => s ||| (if tkB n kd mk x then 2 ^ x else 0)) k (na n - k) s = tkS n kd mk) → xJ E (yX0_takenBy, cX0_takenBy, 5, (some FieldType.long), []) (xR 4 0 0) (xrv (some (.long (lN (tkS n kd mk)))) G) 0 0 5 [some (.ref 0), some (.ref a), some (.long (lN s)), none, some (.int (nI k))] [] G := by
    intro K
    induction K with
    | zero => intro k s h; exact absurd h (Nat.not_lt_zero _)
    | succ K ih_lp =>
      intro k s hK hk hs57 hs
      refine xj_iload dX0_takenBy_5 rfl ?_
      refine xj_aload_n dX0_takenBy_7 rfl rfl ?_
      refine xj_get dX0_takenBy_8 K0 3 (by decide) q471 hO (congrArg some hd3) ?_
      refine xj_alenR dX0_takenBy_11 hAr rfl ?_
      rw [hLA]
      refine xj_icmp_ge (tgt := 46) dX0_takenBy_12 rfl (fun c12 => ?_) (fun c12 => ?_)
      · refine xj_lload_n dX0_takenBy_46 rfl ?_
        exact xj_lreturn dX0_takenBy_47 rfl (xrv_l (by have hkn : na n ≤ k := Nat.le_of_not_lt fun h => absurd c12 (nI_ge h (by omega)); rw [lp_end _ hkn] at hs; rw [hs]))
      · have hkn : k < na n := Nat.lt_of_not_le fun h => c12 (nI_le h (by omega))
        obtain ⟨b, w, hdb, hLb, h6⟩ := hAk k hkn
        rw [lp_step _ hkn] at hs
        refine xj_lload_n dX0_takenBy_15 rfl ?_
        refine xj_aload_n dX0_takenBy_16 rfl rfl ?_
        refine xj_aload_n dX0_takenBy_17 rfl rfl ?_
        refine xj_get dX0_takenBy_18 K0 3 (by decide) q471 hO (congrArg some hd3) ?_
        refine xj_iload dX0_takenBy_21 rfl ?_
        refine xj_aald dX0_takenBy_23 hAr rfl rfl rfl (by omega) hLb ?_
        refine xj_takesV (n := n) (w := w) dX0_takenBy_24 q939 hP hkd h6 (by omega) hkn hmk (Nat.le_of_ble_eq_true rfl) ⟨Nat.le_of_ble_eq_true rfl, Nat.le_of_ble_eq_true rfl⟩ ?_
        refine xj_sL_if_eq (tgt := 37) (M := 38) dX0_takenBy_27 rfl (fun c27 k => by
            refine xj_lc0 dX0_takenBy_37 ?_
            exact k) (fun c27 k => by
            refine xj_lc1 dX0_takenBy_30 ?_
            refine xj_iload dX0_takenBy_31 rfl ?_
            refine xj_lshl dX0_takenBy_33 ?_
            refine xj_goto (tgt := 38) dX0_takenBy_34 rfl ?_
            exact k) ?_
        refine xj_topl (y := lN (if tkB n kd mk k then 2 ^ k else 0)) (by rw [b1_if, l_one_shl (by omega)]; cases tkB n kd mk k <;> rfl) ?_
        refine xj_lor dX0_takenBy_38 ?_
        have hb57 : (if tkB n kd mk k = true then 2 ^ k else 0) < 2 ^ 57 := if_lt_pow (by omega)
        rw [wb_or (Nat.lt_trans hs57 (by decide)) (Nat.lt_trans hb57 (by decide))]
        refine xj_lstn2 dX0_takenBy_39 rfl ?_
        refine xj_iinc4 (cst := 1) dX0_takenBy_40 rfl rfl ?_
        rw [nI_1]
        refine xj_goto (tgt := 5) dX0_takenBy_43 rfl ?_
        exact ih_lp (k + 1) _ (by omega) (by omega) (Nat.or_lt_two_pow hs57 hb57) hs
  exact lp (na n + 1) 0 0 (by omega) (by omega) (by decide) rfl
theorem A_makerIs {x w : Int32} {mk : List (Nat × Nat)}  (hv : cV d e n G) (hA : cA d n G) (hmk : cMk mk e G) : xMet E yX0_makerIs cX0_makerIs 3 (some FieldType.int) 5 0 0 [.ref 0, .int x, .int w] G (xrv (some (.int (o_makerIs n mk x w))) G) := by
  obtain ⟨hO, hN, hn0, h1n, hn6⟩ := id hv
  obtain ⟨ar, hd3, hdy, LA, hAr, hLA, hAk⟩ := id hA
  have hna := na_lt n (by omega)
  obtain ⟨hn1, ⟨K5, M6, h5, h6m, hml⟩, PL, h10, hPL, hPk⟩ := id hmk
  have hl6 := hml.2.2.1
  refine xMet.of (lv := [some (.ref 0), some (.int x), some (.int w)]) rfl rfl (Nat.le_of_ble_eq_true rfl) ?_
  refine xj_aload_n dX0_makerIs_0 rfl rfl ?_
  refine xj_iload_n dX0_makerIs_1 rfl ?_
  refine xj_cV dX0_makerIs_2 q901 kV_X0_isMaker (A_isMaker hv hn1 hl6) hO rfl rfl rfl rfl (Nat.le_of_ble_eq_true rfl) ⟨(Nat.le_of_ble_eq_true rfl), (Nat.le_of_ble_eq_true rfl)⟩ (Nat.le_of_ble_eq_true rfl) (Nat.le_of_ble_eq_true rfl) ?_
  refine xj_if_ne (tgt := 10) dX0_makerIs_5 rfl (fun c5 => ?_) (fun c5 => ?_)
  · have hb := b1_nz c5
    obtain ⟨i, hi, hi31, rfl⟩ := inI_t hb
    have ti : tn (nI i) = i := nI_clamp hi31
    obtain ⟨a, hPa, hda, hGa⟩ := hPk i _ (mkAt_some hi)
    obtain ⟨-, -, hkd, hm16⟩ := hml.2.2.2 i _ (mkAt_some hi)
    have hGa : G[a]? = some (cO (8 + (mkAt mk i).1) [.int (nI i), .int (nI (mkAt mk i).2)]) := hGa
    refine xj_iload_n dX0_makerIs_10 rfl ?_
    refine xj_tabs (tg := [36, 46, 56]) (tgt := 70) dX0_makerIs_11 rfl rfl rfl ⟨fun c11 => ?_, fun c11 => ?_, fun c11 => ?_, trivial⟩ (fun c11 => ?_)
    · refine xj_aload_n dX0_makerIs_36 rfl rfl ?_
      refine xj_get dX0_makerIs_37 K0 6 (by decide) q475 hO rfl ?_
      refine xj_iload_n dX0_makerIs_40 rfl ?_
      refine xj_aald dX0_makerIs_41 h10 rfl rfl rfl (by omega) hPa ?_
      refine xj_kindV dX0_makerIs_42 q905 hGa hkd (Nat.le_of_ble_eq_true rfl) ⟨Nat.le_of_ble_eq_true rfl, Nat.le_of_ble_eq_true rfl⟩ ?_
      exact xj_ireturn dX0_makerIs_45 rfl rfl (xrv_i (by subst c11; unfold o_makerIs; rw [hb, ti]; rfl))
    · refine xj_aload_n dX0_makerIs_46 rfl rfl ?_
      refine xj_get dX0_makerIs_47 K0 6 (by decide) q475 hO rfl ?_
      refine xj_iload_n dX0_makerIs_50 rfl ?_
      refine xj_aald dX0_makerIs_51 h10 rfl rfl rfl (by omega) hPa ?_
      refine xj_markV dX0_makerIs_52 q925 hGa hkd (Nat.le_of_ble_eq_true rfl) ⟨Nat.le_of_ble_eq_true rfl, Nat.le_of_ble_eq_true rfl⟩ ?_
      exact xj_ireturn dX0_makerIs_55 rfl rfl (xrv_i (by subst c11; unfold o_makerIs; rw [hb, ti]; rfl))
    · refine xj_aload_n dX0_makerIs_56 rfl rfl ?_
      refine xj_aload_n dX0_makerIs_57 rfl rfl ?_
      refine xj_get dX0_makerIs_58 K0 6 (by decide) q475 hO rfl ?_
      refine xj_iload_n dX0_makerIs_61 rfl ?_
      refine xj_aald dX0_makerIs_62 h10 rfl rfl rfl (by omega) hPa ?_
      refine xj_cV dX0_makerIs_63 q935 kV_X0_takenBy (A_takenBy hv hA hGa hkd hm16) hO rfl rfl rfl rfl (Nat.le_of_ble_eq_true rfl) ⟨(Nat.le_of_ble_eq_true rfl), (Nat.le_of_ble_eq_true rfl)⟩ (Nat.le_of_ble_eq_true rfl) (Nat.le_of_ble_eq_true rfl) ?_
      refine xj_cS dX0_makerIs_66 q648 kS_X0_ones (A_ones (Nat.lt_trans (tkS_lt (by omega)) (by decide))) rfl rfl (Nat.le_of_ble_eq_true rfl) ⟨(Nat.le_of_ble_eq_true rfl), (Nat.le_of_ble_eq_true rfl)⟩ (Nat.le_of_ble_eq_true rfl) (Nat.le_of_ble_eq_true rfl) ?_
      exact xj_ireturn dX0_makerIs_69 rfl rfl (xrv_i (by subst c11; unfold o_makerIs; rw [hb, ti]; rfl))
    · refine xj_icm1 dX0_makerIs_70 ?_
      exact xj_ireturn dX0_makerIs_71 rfl rfl (xrv_i (by unfold o_makerIs; rw [inI_out (m := 3) c11, Bool.and_false]; rfl))
  · refine xj_icm1 dX0_makerIs_8 ?_
    exact xj_ireturn dX0_makerIs_9 rfl rfl (xrv_i (by unfold o_makerIs; rw [b1_z c5]; rfl))
theorem A_make {x w : Int32} {g : Nat} {mk : List (Nat × Nat)}  (hv : cV d e n G) (hn3 : e 3 = .long (lN g)) (hg : g < 2 ^ 57) (hA : cA d n G) (hmk : cMk mk e G) : xMet E yX0_make cX0_make 3 (some FieldType.int) 5 0 0 [.ref 0, .int x, .int w] G (xrv (some (.int (o_make n g mk x w))) (G.set 4 (cO 3 (oFs (cu e 3 (.long (lN (s_make n g mk x w)))))))) := by
  obtain ⟨hO, hN, hn0, h1n, hn6⟩ := id hv
  obtain ⟨ar, hd3, hdy, LA, hAr, hLA, hAk⟩ := id hA
  have hna := na_lt n (by omega)
  obtain ⟨hn1, ⟨K5, M6, h5, h6m, hml⟩, PL, h10, hPL, hPk⟩ := id hmk
  have hl6 := hml.2.2.1
  refine xMet.of (lv := [some (.ref 0), some (.int x), some (.int w)]) rfl rfl (Nat.le_of_ble_eq_true rfl) ?_
  refine xj_aload_n dX0_make_0 rfl rfl ?_
  refine xj_iload_n dX0_make_1 rfl ?_
  refine xj_cV dX0_make_2 q901 kV_X0_isMaker (A_isMaker hv hn1 hl6) hO rfl rfl rfl rfl (Nat.le_of_ble_eq_true rfl) ⟨(Nat.le_of_ble_eq_true rfl), (Nat.le_of_ble_eq_true rfl)⟩ (Nat.le_of_ble_eq_true rfl) (Nat.le_of_ble_eq_true rfl) ?_
  refine xj_if_eq (tgt := 33) dX0_make_5 rfl (fun c5 => ?_) (fun c5 => ?_)
  · refine xj_icm1 dX0_make_33 ?_
    exact xj_ireturn dX0_make_34 rfl rfl (by first | exact ⟨by unfold o_make; rw [b1_z c5]; rfl, by unfold s_make; rw [b1_z c5, Bool.false_and, if_neg (by decide), cu_id hn3]; exact (gset_id hN).symm⟩ | exact ⟨by unfold o_make; rw [b1_z c12, Bool.and_false]; rfl, by unfold s_make; rw [b1_z c12, Bool.and_false, if_neg (by decide), cu_id hn3]; exact (gset_id hN).symm⟩ | exact ⟨by unfold o_make; rw [hb, hb2, ti]; rfl, by unfold s_make; rw [hb, hb2, ti]; rfl⟩)
  · refine xj_iload_n dX0_make_8 rfl ?_
    refine xj_cS dX0_make_9 q991 kS_X0_isHow A_isHow rfl rfl (Nat.le_of_ble_eq_true rfl) ⟨(Nat.le_of_ble_eq_true rfl), (Nat.le_of_ble_eq_true rfl)⟩ (Nat.le_of_ble_eq_true rfl) (Nat.le_of_ble_eq_true rfl) ?_
    refine xj_if_eq (tgt := 33) dX0_make_12 rfl (fun c12 => ?_) (fun c12 => ?_)
    · refine xj_icm1 dX0_make_33 ?_
      exact xj_ireturn dX0_make_34 rfl rfl (by first | exact ⟨by unfold o_make; rw [b1_z c5]; rfl, by unfold s_make; rw [b1_z c5, Bool.false_and, if_neg (by decide), cu_id hn3]; exact (gset_id hN).symm⟩ | exact ⟨by unfold o_make; rw [b1_z c12, Bool.and_false]; rfl, by unfold s_make; rw [b1_z c12, Bool.and_false, if_neg (by decide), cu_id hn3]; exact (gset_id hN).symm⟩ | exact ⟨by unfold o_make; rw [hb, hb2, ti]; rfl, by unfold s_make; rw [hb, hb2, ti]; rfl⟩)
    · have hb := b1_nz c5
      obtain ⟨i, hi, hi31, rfl⟩ := inI_t hb
      have ti : tn (nI i) = i := nI_clamp hi31
      obtain ⟨a, hPa, hda, hGa⟩ := hPk i _ (mkAt_some hi)
      obtain ⟨-, -, hkd, hm16⟩ := hml.2.2.2 i _ (mkAt_some hi)
      have hGa : G[a]? = some (cO (8 + (mkAt mk i).1) [.int (nI i), .int (nI (mkAt mk i).2)]) := hGa
      have hb2 := b1_nz c12
      refine xj_aload_n dX0_make_15 rfl rfl ?_
      refine xj_aload_n dX0_make_16 rfl rfl ?_
      refine xj_aload_n dX0_make_17 rfl rfl ?_
      refine xj_get dX0_make_18 K0 6 (by decide) q475 hO rfl ?_
      refine xj_iload_n dX0_make_21 rfl ?_
      refine xj_aald dX0_make_22 h10 rfl rfl rfl (by omega) hPa ?_
      refine xj_cV dX0_make_23 q935 kV_X0_takenBy (A_takenBy hv hA hGa hkd hm16) hO rfl rfl rfl rfl (Nat.le_of_ble_eq_true rfl) ⟨(Nat.le_of_ble_eq_true rfl), (Nat.le_of_ble_eq_true rfl)⟩ (Nat.le_of_ble_eq_true rfl) (Nat.le_of_ble_eq_true rfl) ?_
      refine xj_iload_n dX0_make_26 rfl ?_
      refine xj_cV dX0_make_27 q994 kV_X0_comes (A_comes hv hn3 hg hA tkS_na) hO rfl rfl rfl rfl (Nat.le_of_ble_eq_true rfl) ⟨(Nat.le_of_ble_eq_true rfl), (Nat.le_of_ble_eq_true rfl)⟩ (Nat.le_of_ble_eq_true rfl) (Nat.le_of_ble_eq_true rfl) ?_
      refine xj_goto (tgt := 34) dX0_make_30 rfl ?_
      exact xj_ireturn dX0_make_34 rfl rfl (by first | exact ⟨by unfold o_make; rw [b1_z c5]; rfl, by unfold s_make; rw [b1_z c5, Bool.false_and, if_neg (by decide), cu_id hn3]; exact (gset_id hN).symm⟩ | exact ⟨by unfold o_make; rw [b1_z c12, Bool.and_false]; rfl, by unfold s_make; rw [b1_z c12, Bool.and_false, if_neg (by decide), cu_id hn3]; exact (gset_id hN).symm⟩ | exact ⟨by unfold o_make; rw [hb, hb2, ti]; rfl, by unfold s_make; rw [hb, hb2, ti]; rfl⟩)
theorem A_maker {x y : Int32} {mk : List (Nat × Nat)}  (hv : cV d e n G) (hmk : cMk mk e G) (hl83 : 83 ≤ G.length) : xMet E yX0_maker cX0_maker 4 (some FieldType.int) 4 1 2 [.ref 0, .int x, .int y] G (xre (fun v_ G' => v_ = some (.int (o_maker mk x y)) ∧ cMk (s_maker mk x y) (cu e 1 (.int (nI (s_maker mk x y).length))) G' ∧ G'[4]? = some (cO 3 (oFs (cu e 1 (.int (nI (s_maker mk x y).length))))) ∧ gfa [4, 5, 6, 10] G G')) := by
  obtain ⟨hO, hN, hn0, h1n, hn6⟩ := id hv
  obtain ⟨hn1, ⟨K5, M6, h5, h6m, hml⟩, PL, h10, hPL, hPk⟩ := id hmk
  have hl6 := hml.2.2.1
  refine xMet.of (lv := [some (.ref 0), some (.int x), some (.int y), none]) rfl rfl (Nat.le_of_ble_eq_true rfl) ?_
  refine xj_iload_n dX0_maker_0 rfl ?_
  refine xj_cS dX0_maker_1 q834 kS_X0_isKind A_isKind rfl rfl (Nat.le_of_ble_eq_true rfl) ⟨(Nat.le_of_ble_eq_true rfl), (Nat.le_of_ble_eq_true rfl)⟩ (Nat.le_of_ble_eq_true rfl) (Nat.le_of_ble_eq_true rfl) ?_
  refine xj_if_eq (tgt := 17) dX0_maker_4 rfl (fun c4 => ?_) (fun c4 => ?_)
  · refine xj_icm1 dX0_maker_17 ?_
    exact xj_ireturn dX0_maker_18 rfl rfl (by first | exact ⟨by unfold o_maker; rw [b1_z c4]; rfl, by rw [show s_maker mk x y = mk by unfold s_maker; rw [b1_z c4]; rfl, cu_id hn1]; exact hmk, by rw [show s_maker mk x y = mk by unfold s_maker; rw [b1_z c4]; rfl, cu_id hn1]; exact hN, gfa.refl⟩ | exact ⟨by unfold o_maker; rw [b1_z c14, Bool.and_false]; rfl, by rw [show s_maker mk x y = mk by unfold s_maker; rw [b1_z c14, Bool.and_false]; rfl, cu_id hn1]; exact hmk, by rw [show s_maker mk x y = mk by unfold s_maker; rw [b1_z c14, Bool.and_false]; rfl, cu_id hn1]; exact hN, gfa.refl⟩)
  · refine xj_iload_n dX0_maker_7 rfl ?_
    refine xj_ic0 dX0_maker_8 ?_
    refine xj_bipush (v := 15) dX0_maker_9 rfl ?_
    refine xj_cS dX0_maker_11 q585 kS_X0_isIn A_isIn rfl rfl (Nat.le_of_ble_eq_true rfl) ⟨(Nat.le_of_ble_eq_true rfl), (Nat.le_of_ble_eq_true rfl)⟩ (Nat.le_of_ble_eq_true rfl) (Nat.le_of_ble_eq_true rfl) ?_
    rw [show inC y 0 15 = inI y 16 from inC_inI (m := 16) (by decide)]
    refine xj_if_ne (tgt := 19) dX0_maker_14 rfl (fun c14 => ?_) (fun c14 => ?_)
    · have hb := b1_nz c4
      have hb2 := b1_nz c14
      obtain ⟨i, hi, hi31, rfl⟩ := inI_t hb
      obtain ⟨j, hj, hj31, rfl⟩ := inI_t hb2
      have ti : tn (nI i) = i := nI_clamp hi31
      have tj : tn (nI j) = j := nI_clamp hj31
      refine xj_aload_n dX0_maker_19 rfl rfl ?_
      refine xj_get dX0_maker_20 K0 4 (by decide) q473 hO rfl ?_
      refine xj_getN dX0_maker_23 K3 1 (by decide) q323 hN (congrArg some hn1) ?_
      refine xj_bipush (v := 6) dX0_maker_26 rfl ?_
      refine xj_icmp_ne (tgt := 34) dX0_maker_28 rfl (fun c28 => ?_) (fun c28 => ?_)
      · have e6 : ¬ mk.length = 6 := fun q => c28 (by rw [q]; rfl)
        have hK5 := hml.1
        have hM6 := hml.2.1
        have hes : s_maker mk (nI i) (nI j) = mk ++ [(i, j)] := by unfold s_maker; rw [hb, hb2, if_neg e6, ti, tj]; rfl
        refine xj_aload_n dX0_maker_34 rfl rfl ?_
        refine xj_get dX0_maker_35 K0 4 (by decide) q473 hO rfl ?_
        refine xj_getN dX0_maker_38 K3 1 (by decide) q323 hN (congrArg some hn1) ?_
        refine xj_istn3 dX0_maker_41 rfl ?_
        refine xj_aload_n dX0_maker_42 rfl rfl ?_
        refine xj_get dX0_maker_43 K0 4 (by decide) q473 hO rfl ?_
        refine xj_getN dX0_maker_46 K3 4 (by decide) q329 hN rfl ?_
        refine xj_iload_n dX0_maker_49 rfl ?_
        refine xj_iload_n dX0_maker_50 rfl ?_
        refine xj_iast dX0_maker_51 h5 rfl (by omega) (by omega) ?_
        have j0 : (G.set 5 (cI 0 (K5.set mk.length (nI i))))[0]? = some (cO 0 (cFs d)) := by rw [gset (by decide)]; exact hO
        have j4 : (G.set 5 (cI 0 (K5.set mk.length (nI i))))[4]? = some (cO 3 (oFs e)) := by rw [gset (by decide)]; exact hN
        have j6 : (G.set 5 (cI 0 (K5.set mk.length (nI i))))[6]? = some (cI 0 M6) := by rw [gset (by decide)]; exact h6m
        refine xj_aload_n dX0_maker_52 rfl rfl ?_
        refine xj_get dX0_maker_53 K0 4 (by decide) q473 j0 rfl ?_
        refine xj_getN dX0_maker_56 K3 5 (by decide) q331 j4 rfl ?_
        refine xj_iload_n dX0_maker_59 rfl ?_
        refine xj_iload_n dX0_maker_60 rfl ?_
        refine xj_iast dX0_maker_61 j6 rfl (by omega) (by omega) ?_
        have k0 : ((G.set 5 (cI 0 (K5.set mk.length (nI i)))).set 6 (cI 0 (M6.set mk.length (nI j))))[0]? = some (cO 0 (cFs d)) := by rw [gset (by decide)]; exact j0
        have k4 : ((G.set 5 (cI 0 (K5.set mk.length (nI i)))).set 6 (cI 0 (M6.set mk.length (nI j))))[4]? = some (cO 3 (oFs e)) := by rw [gset (by decide)]; exact j4
        have k10 : ((G.set 5 (cI 0 (K5.set mk.length (nI i)))).set 6 (cI 0 (M6.set mk.length (nI j))))[10]? = some (cR 7 PL) := by rw [gset (by decide), gset (by decide)]; exact h10
        have l2 : ((G.set 5 (cI 0 (K5.set mk.length (nI i)))).set 6 (cI 0 (M6.set mk.length (nI j)))).length = G.length := by rw [List.length_set, List.length_set]
        refine xj_aload_n dX0_maker_62 rfl rfl ?_
        refine xj_get dX0_maker_63 K0 6 (by decide) q475 k0 rfl ?_
        refine xj_iload_n dX0_maker_66 rfl ?_
        refine xj_iload_n dX0_maker_67 rfl ?_
        refine xj_iload_n dX0_maker_68 rfl ?_
        refine xj_iload_n dX0_maker_69 rfl ?_
        refine xj_dS dX0_maker_70 q837 kS_X0_made (A_made hi) rfl rfl (Nat.le_of_ble_eq_true rfl) ⟨(Nat.le_of_ble_eq_true rfl), (Nat.le_of_ble_eq_true rfl)⟩ (Nat.le_of_ble_eq_true rfl) (Nat.le_of_ble_eq_true rfl) ?_
        rintro _ _ ⟨rfl, rfl⟩
        rw [l2]
        have z10 : (((G.set 5 (cI 0 (K5.set mk.length (nI i)))).set 6 (cI 0 (M6.set mk.length (nI j)))) ++ [(cO (8 + i) [.int (nI mk.length), .int (nI j)])])[10]? = some (cR 7 PL) := by rw [List.getElem?_append_left (by rw [l2]; omega)]; exact k10
        have zb : (((G.set 5 (cI 0 (K5.set mk.length (nI i)))).set 6 (cI 0 (M6.set mk.length (nI j)))) ++ [(cO (8 + i) [.int (nI mk.length), .int (nI j)])])[G.length]? = some (cO (8 + i) [.int (nI mk.length), .int (nI j)]) := by rw [← l2]; exact app_at
        have z0 : (((G.set 5 (cI 0 (K5.set mk.length (nI i)))).set 6 (cI 0 (M6.set mk.length (nI j)))) ++ [(cO (8 + i) [.int (nI mk.length), .int (nI j)])])[0]? = some (cO 0 (cFs d)) := by rw [List.getElem?_append_left (by rw [l2]; omega)]; exact k0
        have z4 : (((G.set 5 (cI 0 (K5.set mk.length (nI i)))).set 6 (cI 0 (M6.set mk.length (nI j)))) ++ [(cO (8 + i) [.int (nI mk.length), .int (nI j)])])[4]? = some (cO 3 (oFs e)) := by rw [List.getElem?_append_left (by rw [l2]; omega)]; exact k4
        refine xj_aastP dX0_maker_73 z10 zb hi rfl (by omega) (by omega) ?_
        have y0 : ((((G.set 5 (cI 0 (K5.set mk.length (nI i)))).set 6 (cI 0 (M6.set mk.length (nI j)))) ++ [(cO (8 + i) [.int (nI mk.length), .int (nI j)])]).set 10 (cR 7 (PL.set mk.length (.ref G.length))))[0]? = some (cO 0 (cFs d)) := by rw [gset (by decide)]; exact z0
        have y4 : ((((G.set 5 (cI 0 (K5.set mk.length (nI i)))).set 6 (cI 0 (M6.set mk.length (nI j)))) ++ [(cO (8 + i) [.int (nI mk.length), .int (nI j)])]).set 10 (cR 7 (PL.set mk.length (.ref G.length))))[4]? = some (cO 3 (oFs e)) := by rw [gset (by decide)]; exact z4
        refine xj_aload_n dX0_maker_74 rfl rfl ?_
        refine xj_get dX0_maker_75 K0 4 (by decide) q473 y0 rfl ?_
        refine xj_dup dX0_maker_78 rfl ?_
        refine xj_getN dX0_maker_79 K3 1 (by decide) q323 y4 (congrArg some hn1) ?_
        refine xj_ic1 dX0_maker_82 ?_
        refine xj_iadd dX0_maker_83 ?_
        rw [nI_1]
        refine xj_putN dX0_maker_84 K3 1 (by decide) q323 rfl rfl y4 (Nat.le_of_ble_eq_true rfl) ?_
        refine xj_iload_n dX0_maker_87 rfl ?_
        refine xj_ireturn dX0_maker_88 rfl rfl ?_
        rw [hes]
        refine ⟨by unfold o_maker; rw [hb, hb2, if_neg e6]; rfl, ⟨rfl, ⟨_, _, by rw [gset (by decide), gset (by decide), List.getElem?_append_left (by rw [l2]; omega), gset (by decide)]; exact gset_self h5, by rw [gset (by decide), gset (by decide), List.getElem?_append_left (by rw [l2]; omega)]; exact gset_self j6, mML_push hml (by omega) hi hj⟩, (PL.set mk.length (.ref G.length)), by rw [gset (by decide)]; exact gset_self z10, by rw [List.length_set]; exact hPL, fun q p hp => ?_⟩, by rw [List.length_append, List.length_singleton]; exact gset_self y4, ?_⟩
        · by_cases eq : mk.length = q
          · subst eq
            rw [List.getElem?_append_right (Nat.le_refl _), Nat.sub_self] at hp
            cases hp
            exact ⟨G.length, List.getElem?_set_self (by omega), by omega, by rw [gset (by omega), gset (by omega)]; exact zb⟩
          · have hq : q < mk.length := by have := (List.getElem?_eq_some_iff.mp hp).1; rw [List.length_append, List.length_singleton] at this; omega
            rw [List.getElem?_append_left hq] at hp
            obtain ⟨a, a1, a2, a3⟩ := hPk q p hp
            have hal := (List.getElem?_eq_some_iff.mp a3).1
            exact ⟨a, by rw [List.getElem?_set_ne eq]; exact a1, a2, by rw [gset (by omega), gset (by omega), List.getElem?_append_left (by rw [l2]; exact hal), gset (by omega), gset (by omega)]; exact a3⟩
        · exact ((((gfa.refl.set (by decide)).set (by decide)).app).set (by decide)).set (by decide)
      · refine xj_bipush (v := -2) dX0_maker_31 rfl ?_
        exact xj_ireturn dX0_maker_33 rfl rfl (by have e6 : mk.length = 6 := (nI_eq (b := 6) (by omega) (by decide)).mp c28; exact ⟨by unfold o_maker; rw [hb, hb2, if_pos e6]; rfl, by rw [show s_maker mk (nI i) (nI j) = mk by unfold s_maker; rw [hb, hb2, if_pos e6]; rfl, cu_id hn1]; exact hmk, by rw [show s_maker mk (nI i) (nI j) = mk by unfold s_maker; rw [hb, hb2, if_pos e6]; rfl, cu_id hn1]; exact hN, gfa.refl⟩)
    · refine xj_icm1 dX0_maker_17 ?_
      exact xj_ireturn dX0_maker_18 rfl rfl (by first | exact ⟨by unfold o_maker; rw [b1_z c4]; rfl, by rw [show s_maker mk x y = mk by unfold s_maker; rw [b1_z c4]; rfl, cu_id hn1]; exact hmk, by rw [show s_maker mk x y = mk by unfold s_maker; rw [b1_z c4]; rfl, cu_id hn1]; exact hN, gfa.refl⟩ | exact ⟨by unfold o_maker; rw [b1_z c14, Bool.and_false]; rfl, by rw [show s_maker mk x y = mk by unfold s_maker; rw [b1_z c14, Bool.and_false]; rfl, cu_id hn1]; exact hmk, by rw [show s_maker mk x y = mk by unfold s_maker; rw [b1_z c14, Bool.and_false]; rfl, cu_id hn1]; exact hN, gfa.refl⟩)
end A25
