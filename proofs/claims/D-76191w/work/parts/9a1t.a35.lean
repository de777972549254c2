/-! ===== the class: turns, bends, parts, joins ===== -/
set_option maxRecDepth 100000
theorem kV_X4_ran : xsV yX4_ran cX4_ran 2 none 1 := ⟨q1695, q1696, q158, q1697, by decide, by decide, by decide +kernel⟩
theorem kP_X11_X9_turns : xsP "CoarserOrders$Twosided" yX9_turns cX9_turns 3 (some FieldType.int) 2 := ⟨q2613, q873, q1691, q168, q1693, by decide, by decide +kernel⟩
theorem kP_X13_X10_parts : xsP "CoarserOrders$Mixed" yX10_parts cX10_parts 4 (some FieldType.int) 2 := ⟨q2614, q891, q1799, q169, q1801, by decide, by decide +kernel⟩
theorem kU_X10_X10_X8_number : xsU "CoarserOrders$Longer" "CoarserOrders$Plain" ⟨"CoarserOrders$Longer", "number", "()I"⟩ yX8_number cX8_number 1 (some FieldType.int) 0 := ⟨q1803, Or.inl q1804, q1805, q1658, q167, q1666, by decide, by decide +kernel⟩
theorem kU_X13_X10_X8_number : xsU "CoarserOrders$Mixed" "CoarserOrders$Plain" ⟨"CoarserOrders$Longer", "number", "()I"⟩ yX8_number cX8_number 1 (some FieldType.int) 0 := ⟨q1803, Or.inl q1804, q1806, q1658, q167, q1666, by decide, by decide +kernel⟩
theorem kU_X13_X13_X10_bends : xsU "CoarserOrders$Mixed" "CoarserOrders$Longer" ⟨"CoarserOrders$Mixed", "bends", "(ILCoarserOrders$Trace;)I"⟩ yX10_bends cX10_bends 3 (some FieldType.int) 2 := ⟨q1838, Or.inl q1839, q1840, q1773, q169, q1775, by decide, by decide +kernel⟩
theorem kU_X13_X13_X8_mark : xsU "CoarserOrders$Mixed" "CoarserOrders$Plain" ⟨"CoarserOrders$Mixed", "mark", "()I"⟩ yX8_mark cX8_mark 1 (some FieldType.int) 0 := ⟨q1814, Or.inl q961, q1815, q926, q167, q934, by decide, by decide +kernel⟩
/-- behind an act that can't part -/
def acR (v : Int32) (l : List Int32) (G : xH) : xOut → xH → Prop := xre (fun v_ G' => v_ = some (.int v) ∧ gfa [32, 33] G G' ∧ cTr l G')
/-- behind an act that may part -/
def acQ (mk nm : Nat) (v : Int32) (l : List Int32) (G : xH) : xOut → xH → Prop := fun o G' => match o with
  | .inl v_ => mk ≠ nm ∧ v_ = some (.int v) ∧ gfa [32, 33] G G' ∧ cTr l G'
  | .inr q => mk = nm ∧ q = ("java/lang/ArithmeticException", none) ∧ gfa [32, 33] G G' ∧ cTr l G'
theorem gfa.apps {W : List Nat} {G H K : xH} (h : gfa W G H) : gfa W G (H ++ K) := ⟨by rw [List.length_append]; exact Nat.le_trans h.1 (Nat.le_add_right _ _), fun i hl hi => by rw [List.getElem?_append_left (Nat.lt_of_lt_of_le hl h.1)]; exact h.2 i hl hi⟩
theorem acb {b : Nat} (h : 82 < b) : b ∉ [32, 33] := by simp only [List.mem_cons, List.not_mem_nil, or_false]; omega
theorem cTr.h32 {l : List Int32} {G : xH} (h : cTr l G) : G[32]? = some (cO 4 [.ref 33, .int (nI l.length)]) := by
  obtain ⟨LB, h1, _, _⟩ := h
  exact h1
theorem cTr.app {l : List Int32} {G K : xH} (h : cTr l G) : cTr l (G ++ K) := by
  obtain ⟨LB, h1, h2, h3⟩ := h
  exact ⟨LB, by rw [List.getElem?_append_left (List.getElem?_eq_some_iff.mp h1).1]; exact h1, by rw [List.getElem?_append_left (List.getElem?_eq_some_iff.mp h2).1]; exact h2, h3⟩
theorem mn_ne {mk nm : Nat} (h1 : mk < 16) (h2 : nm < 6) (h : mk ≠ nm) : nI mk - nI nm ≠ 0 := by
  intro q
  have q2 := congrArg (· + nI nm) q
  simp only [Int32.sub_add_cancel, Int32.zero_add] at q2
  exact h ((nI_eq (by omega) (by omega)).mp q2)
theorem i_divm1 (x : Int32) : x / (-1) = 0 - x := by
  apply Int32.toInt_inj.mp
  rw [Int32.toInt_div, Int32.toInt_sub, show (-1 : Int32).toInt = -1 from rfl, show (0 : Int32).toInt = 0 from rfl, Int.tdiv_neg, Int.tdiv_one, Int.zero_sub]
theorem vPP_eq {nm mk : Nat} {x : Int32} (h : mk ≠ nm) : vPP nm mk x = x / (nI mk - nI nm) := by
  unfold vPP
  rw [if_neg h]
  by_cases e : nI mk - nI nm = -1
  · rw [if_pos e, e, i_divm1]
  · rw [if_neg e]
theorem tJ4_z {nm mk : Nat} {l : List Int32} (h : mk = nm) : tJ 4 nm mk l = tPJ 4 nm mk (rn 50 l) := by unfold tJ; rw [if_pos (Or.inl rfl), if_pos h, if_pos rfl]
theorem tJ5_z {nm mk : Nat} {l : List Int32} (h : mk = nm) : tJ 5 nm mk l = tPJ 5 nm mk (rn 61 l) := by unfold tJ; rw [if_pos (Or.inr rfl), if_pos h, if_neg (by decide)]
theorem tJ4_n {nm mk : Nat} {l : List Int32} (h : mk ≠ nm) : tJ 4 nm mk l = tB 4 (tPJ 4 nm mk (rn 50 l)) := by unfold tJ; rw [if_pos (Or.inl rfl), if_neg h, if_pos rfl]
theorem tJ5_n {nm mk : Nat} {l : List Int32} (h : mk ≠ nm) : tJ 5 nm mk l = tB 5 (tPJ 5 nm mk (rn 61 l)) := by unfold tJ; rw [if_pos (Or.inr rfl), if_neg h, if_neg (by decide)]
theorem vJ4_n {nm mk : Nat} {x : Int32} (h : mk ≠ nm) : vJ 4 nm mk x = vPJ 4 nm mk x - vB 4 nm mk (nI mk) := by unfold vJ; rw [if_pos (Or.inl rfl), if_neg h, if_pos rfl]
theorem vJ5_n {nm mk : Nat} {x : Int32} (h : mk ≠ nm) : vJ 5 nm mk x = vPJ 5 nm mk x + vB 5 nm mk 1 := by unfold vJ; rw [if_pos (Or.inr rfl), if_neg h, if_neg (by decide)]
theorem tPJ_0 {nm mk : Nat} {l : List Int32} : tPJ 0 nm mk l = tPP (tPB 0 (rn 13 l)) := by unfold tPJ; rw [show tB 0 (rn 13 l) = tPB 0 (rn 13 l) from if_neg (by decide)]; rw [show tP 0 nm mk (tPB 0 (rn 13 l)) = tPP (tPB 0 (rn 13 l)) from (if_neg (by decide)).trans (if_neg (by decide))]
theorem vPJ_0 {nm mk : Nat} {x : Int32} : vPJ 0 nm mk x = vPB 0 nm mk x ^^^ vPP nm mk (x + 1) := by unfold vPJ; rw [show vB 0 nm mk x = vPB 0 nm mk x from if_neg (by decide)]; rw [show vP 0 nm mk (x + 1) = vPP nm mk (x + 1) from (if_neg (by decide)).trans (if_neg (by decide))]
theorem tPJ_1 {nm mk : Nat} {l : List Int32} : tPJ 1 nm mk l = tPP (tPB 1 (rn 13 l)) := by unfold tPJ; rw [show tB 1 (rn 13 l) = tPB 1 (rn 13 l) from if_neg (by decide)]; rw [show tP 1 nm mk (tPB 1 (rn 13 l)) = tPP (tPB 1 (rn 13 l)) from (if_neg (by decide)).trans (if_neg (by decide))]
theorem vPJ_1 {nm mk : Nat} {x : Int32} : vPJ 1 nm mk x = vPB 1 nm mk x ^^^ vPP nm mk (x + 1) := by unfold vPJ; rw [show vB 1 nm mk x = vPB 1 nm mk x from if_neg (by decide)]; rw [show vP 1 nm mk (x + 1) = vPP nm mk (x + 1) from (if_neg (by decide)).trans (if_neg (by decide))]
theorem tPJ_2 {nm mk : Nat} {l : List Int32} : tPJ 2 nm mk l = tLP 2 nm mk (tB 2 (rn 13 l)) := by unfold tPJ; rw [show tP 2 nm mk (tB 2 (rn 13 l)) = tLP 2 nm mk (tB 2 (rn 13 l)) from (if_neg (by decide)).trans (if_pos rfl)]
theorem vPJ_2 {nm mk : Nat} {x : Int32} : vPJ 2 nm mk x = vB 2 nm mk x ^^^ vLP 2 nm mk (x + 1) := by unfold vPJ; rw [show vP 2 nm mk (x + 1) = vLP 2 nm mk (x + 1) from (if_neg (by decide)).trans (if_pos rfl)]
theorem tPJ_3 {nm mk : Nat} {l : List Int32} : tPJ 3 nm mk l = tPP (tPB 3 (rn 13 l)) := by unfold tPJ; rw [show tB 3 (rn 13 l) = tPB 3 (rn 13 l) from if_neg (by decide)]; rw [show tP 3 nm mk (tPB 3 (rn 13 l)) = tPP (tPB 3 (rn 13 l)) from (if_neg (by decide)).trans (if_neg (by decide))]
theorem vPJ_3 {nm mk : Nat} {x : Int32} : vPJ 3 nm mk x = vPB 3 nm mk x ^^^ vPP nm mk (x + 1) := by unfold vPJ; rw [show vB 3 nm mk x = vPB 3 nm mk x from if_neg (by decide)]; rw [show vP 3 nm mk (x + 1) = vPP nm mk (x + 1) from (if_neg (by decide)).trans (if_neg (by decide))]
theorem tPJ_4 {nm mk : Nat} {l : List Int32} : tPJ 4 nm mk l = tPP (tPB 4 (rn 13 l)) := by unfold tPJ; rw [show tB 4 (rn 13 l) = tPB 4 (rn 13 l) from if_neg (by decide)]; rw [show tP 4 nm mk (tPB 4 (rn 13 l)) = tPP (tPB 4 (rn 13 l)) from (if_neg (by decide)).trans (if_neg (by decide))]
theorem vPJ_4 {nm mk : Nat} {x : Int32} : vPJ 4 nm mk x = vPB 4 nm mk x ^^^ vPP nm mk (x + 1) := by unfold vPJ; rw [show vB 4 nm mk x = vPB 4 nm mk x from if_neg (by decide)]; rw [show vP 4 nm mk (x + 1) = vPP nm mk (x + 1) from (if_neg (by decide)).trans (if_neg (by decide))]
theorem tPJ_5 {nm mk : Nat} {l : List Int32} : tPJ 5 nm mk l = tP 5 nm mk (tB 5 (rn 13 l)) := rfl
theorem vPJ_5 {nm mk : Nat} {x : Int32} : vPJ 5 nm mk x = vB 5 nm mk x ^^^ vP 5 nm mk (x + 1) := rfl
theorem vB_4 {nm mk : Nat} {x : Int32} : vB 4 nm mk x = vPB 4 nm mk x := if_neg (by decide)
theorem tB_4 {l : List Int32} : tB 4 l = tPB 4 l := if_neg (by decide)
section A35
variable {E : xE} {G : xH} {d e : Nat → Value} {n : Nat}
theorem A_X27_turns_0 {b nm mk : Nat} {l : List Int32}  (x : Int32) (hb : G[b]? = some (cO 8 [.int (nI nm), .int (nI mk)])) (hb2 : 82 < b) (hnm : nm < 6) (hmk : mk < 16) (htr : cTr l G) : xMetI E yX27_turns cX27_turns 3 (some FieldType.int) 1 0 0 [.ref b, .int x, .ref 32] G (acR (vPT nm x) (tPT l) G) := by
  refine xMetI.of (lv := [some (.ref b), some (.int x), some (.ref 32)]) rfl rfl (Nat.le_of_ble_eq_true rfl) ?_
  refine xj_aload_n dX27_turns_0 rfl rfl ?_
  refine xj_bipush (v := 10) dX27_turns_1 rfl ?_
  refine xj_dV dX27_turns_3 q1700 kV_X4_ran (A_ran htr) (htr).h32 rfl rfl rfl rfl (Nat.le_of_ble_eq_true rfl) ⟨(Nat.le_of_ble_eq_true rfl), (Nat.le_of_ble_eq_true rfl)⟩ (Nat.le_of_ble_eq_true rfl) (Nat.le_of_ble_eq_true rfl) ?_
  rintro _ G1 ⟨rfl, g1, t1⟩
  have f1 : gfa [32, 33] G G1 := g1
  have b1 : G1[b]? = some (cO 8 [.int (nI nm), .int (nI mk)]) := (f1.2 b (List.getElem?_eq_some_iff.mp hb).1 (acb hb2)).trans hb
  refine xj_iload_n dX27_turns_6 rfl ?_
  refine xj_ic5 dX27_turns_7 ?_
  refine xj_imul dX27_turns_8 ?_
  refine xj_aload_n dX27_turns_9 rfl rfl ?_
  refine xj_callH dX27_turns_10 ⟨qt1702, rfl⟩ kG_Turns_number_0 (A_number8 b1) b1 rfl rfl rfl (Nat.le_of_ble_eq_true rfl) ⟨(Nat.le_of_ble_eq_true rfl), (Nat.le_of_ble_eq_true rfl)⟩ (Nat.le_of_ble_eq_true rfl) (Nat.le_of_ble_eq_true rfl) xrv_t (xrv_k ?_)
  refine xj_iadd dX27_turns_15 ?_
  exact xj_ireturn dX27_turns_16 rfl rfl ⟨rfl, f1, t1⟩
theorem A_X27_turns_1 {b nm mk : Nat} {l : List Int32}  (x : Int32) (hb : G[b]? = some (cO 9 [.int (nI nm), .int (nI mk)])) (hb2 : 82 < b) (hnm : nm < 6) (hmk : mk < 16) (htr : cTr l G) : xMetI E yX27_turns cX27_turns 3 (some FieldType.int) 1 0 0 [.ref b, .int x, .ref 32] G (acR (vPT nm x) (tPT l) G) := by
  refine xMetI.of (lv := [some (.ref b), some (.int x), some (.ref 32)]) rfl rfl (Nat.le_of_ble_eq_true rfl) ?_
  refine xj_aload_n dX27_turns_0 rfl rfl ?_
  refine xj_bipush (v := 10) dX27_turns_1 rfl ?_
  refine xj_dV dX27_turns_3 q1700 kV_X4_ran (A_ran htr) (htr).h32 rfl rfl rfl rfl (Nat.le_of_ble_eq_true rfl) ⟨(Nat.le_of_ble_eq_true rfl), (Nat.le_of_ble_eq_true rfl)⟩ (Nat.le_of_ble_eq_true rfl) (Nat.le_of_ble_eq_true rfl) ?_
  rintro _ G1 ⟨rfl, g1, t1⟩
  have f1 : gfa [32, 33] G G1 := g1
  have b1 : G1[b]? = some (cO 9 [.int (nI nm), .int (nI mk)]) := (f1.2 b (List.getElem?_eq_some_iff.mp hb).1 (acb hb2)).trans hb
  refine xj_iload_n dX27_turns_6 rfl ?_
  refine xj_ic5 dX27_turns_7 ?_
  refine xj_imul dX27_turns_8 ?_
  refine xj_aload_n dX27_turns_9 rfl rfl ?_
  refine xj_callH dX27_turns_10 ⟨qt1702, rfl⟩ kG_Turns_number_1 (A_number9 b1) b1 rfl rfl rfl (Nat.le_of_ble_eq_true rfl) ⟨(Nat.le_of_ble_eq_true rfl), (Nat.le_of_ble_eq_true rfl)⟩ (Nat.le_of_ble_eq_true rfl) (Nat.le_of_ble_eq_true rfl) xrv_t (xrv_k ?_)
  refine xj_iadd dX27_turns_15 ?_
  exact xj_ireturn dX27_turns_16 rfl rfl ⟨rfl, f1, t1⟩
theorem A_X27_turns_2 {b nm mk : Nat} {l : List Int32}  (x : Int32) (hb : G[b]? = some (cO 10 [.int (nI nm), .int (nI mk)])) (hb2 : 82 < b) (hnm : nm < 6) (hmk : mk < 16) (htr : cTr l G) : xMetI E yX27_turns cX27_turns 3 (some FieldType.int) 1 0 0 [.ref b, .int x, .ref 32] G (acR (vPT nm x) (tPT l) G) := by
  refine xMetI.of (lv := [some (.ref b), some (.int x), some (.ref 32)]) rfl rfl (Nat.le_of_ble_eq_true rfl) ?_
  refine xj_aload_n dX27_turns_0 rfl rfl ?_
  refine xj_bipush (v := 10) dX27_turns_1 rfl ?_
  refine xj_dV dX27_turns_3 q1700 kV_X4_ran (A_ran htr) (htr).h32 rfl rfl rfl rfl (Nat.le_of_ble_eq_true rfl) ⟨(Nat.le_of_ble_eq_true rfl), (Nat.le_of_ble_eq_true rfl)⟩ (Nat.le_of_ble_eq_true rfl) (Nat.le_of_ble_eq_true rfl) ?_
  rintro _ G1 ⟨rfl, g1, t1⟩
  have f1 : gfa [32, 33] G G1 := g1
  have b1 : G1[b]? = some (cO 10 [.int (nI nm), .int (nI mk)]) := (f1.2 b (List.getElem?_eq_some_iff.mp hb).1 (acb hb2)).trans hb
  refine xj_iload_n dX27_turns_6 rfl ?_
  refine xj_ic5 dX27_turns_7 ?_
  refine xj_imul dX27_turns_8 ?_
  refine xj_aload_n dX27_turns_9 rfl rfl ?_
  refine xj_callH dX27_turns_10 ⟨qt1702, rfl⟩ kG_Turns_number_2 (A_number10 b1) b1 rfl rfl rfl (Nat.le_of_ble_eq_true rfl) ⟨(Nat.le_of_ble_eq_true rfl), (Nat.le_of_ble_eq_true rfl)⟩ (Nat.le_of_ble_eq_true rfl) (Nat.le_of_ble_eq_true rfl) xrv_t (xrv_k ?_)
  refine xj_iadd dX27_turns_15 ?_
  exact xj_ireturn dX27_turns_16 rfl rfl ⟨rfl, f1, t1⟩
theorem A_X27_turns_3 {b nm mk : Nat} {l : List Int32}  (x : Int32) (hb : G[b]? = some (cO 11 [.int (nI nm), .int (nI mk)])) (hb2 : 82 < b) (hnm : nm < 6) (hmk : mk < 16) (htr : cTr l G) : xMetI E yX27_turns cX27_turns 3 (some FieldType.int) 1 0 0 [.ref b, .int x, .ref 32] G (acR (vPT nm x) (tPT l) G) := by
  refine xMetI.of (lv := [some (.ref b), some (.int x), some (.ref 32)]) rfl rfl (Nat.le_of_ble_eq_true rfl) ?_
  refine xj_aload_n dX27_turns_0 rfl rfl ?_
  refine xj_bipush (v := 10) dX27_turns_1 rfl ?_
  refine xj_dV dX27_turns_3 q1700 kV_X4_ran (A_ran htr) (htr).h32 rfl rfl rfl rfl (Nat.le_of_ble_eq_true rfl) ⟨(Nat.le_of_ble_eq_true rfl), (Nat.le_of_ble_eq_true rfl)⟩ (Nat.le_of_ble_eq_true rfl) (Nat.le_of_ble_eq_true rfl) ?_
  rintro _ G1 ⟨rfl, g1, t1⟩
  have f1 : gfa [32, 33] G G1 := g1
  have b1 : G1[b]? = some (cO 11 [.int (nI nm), .int (nI mk)]) := (f1.2 b (List.getElem?_eq_some_iff.mp hb).1 (acb hb2)).trans hb
  refine xj_iload_n dX27_turns_6 rfl ?_
  refine xj_ic5 dX27_turns_7 ?_
  refine xj_imul dX27_turns_8 ?_
  refine xj_aload_n dX27_turns_9 rfl rfl ?_
  refine xj_callH dX27_turns_10 ⟨qt1702, rfl⟩ kG_Turns_number_3 (A_number11 b1) b1 rfl rfl rfl (Nat.le_of_ble_eq_true rfl) ⟨(Nat.le_of_ble_eq_true rfl), (Nat.le_of_ble_eq_true rfl)⟩ (Nat.le_of_ble_eq_true rfl) (Nat.le_of_ble_eq_true rfl) xrv_t (xrv_k ?_)
  refine xj_iadd dX27_turns_15 ?_
  exact xj_ireturn dX27_turns_16 rfl rfl ⟨rfl, f1, t1⟩
theorem A_X27_turns_4 {b nm mk : Nat} {l : List Int32}  (x : Int32) (hb : G[b]? = some (cO 12 [.int (nI nm), .int (nI mk)])) (hb2 : 82 < b) (hnm : nm < 6) (hmk : mk < 16) (htr : cTr l G) : xMetI E yX27_turns cX27_turns 3 (some FieldType.int) 1 0 0 [.ref b, .int x, .ref 32] G (acR (vPT nm x) (tPT l) G) := by
  refine xMetI.of (lv := [some (.ref b), some (.int x), some (.ref 32)]) rfl rfl (Nat.le_of_ble_eq_true rfl) ?_
  refine xj_aload_n dX27_turns_0 rfl rfl ?_
  refine xj_bipush (v := 10) dX27_turns_1 rfl ?_
  refine xj_dV dX27_turns_3 q1700 kV_X4_ran (A_ran htr) (htr).h32 rfl rfl rfl rfl (Nat.le_of_ble_eq_true rfl) ⟨(Nat.le_of_ble_eq_true rfl), (Nat.le_of_ble_eq_true rfl)⟩ (Nat.le_of_ble_eq_true rfl) (Nat.le_of_ble_eq_true rfl) ?_
  rintro _ G1 ⟨rfl, g1, t1⟩
  have f1 : gfa [32, 33] G G1 := g1
  have b1 : G1[b]? = some (cO 12 [.int (nI nm), .int (nI mk)]) := (f1.2 b (List.getElem?_eq_some_iff.mp hb).1 (acb hb2)).trans hb
  refine xj_iload_n dX27_turns_6 rfl ?_
  refine xj_ic5 dX27_turns_7 ?_
  refine xj_imul dX27_turns_8 ?_
  refine xj_aload_n dX27_turns_9 rfl rfl ?_
  refine xj_callH dX27_turns_10 ⟨qt1702, rfl⟩ kG_Turns_number_4 (A_number12 b1) b1 rfl rfl rfl (Nat.le_of_ble_eq_true rfl) ⟨(Nat.le_of_ble_eq_true rfl), (Nat.le_of_ble_eq_true rfl)⟩ (Nat.le_of_ble_eq_true rfl) (Nat.le_of_ble_eq_true rfl) xrv_t (xrv_k ?_)
  refine xj_iadd dX27_turns_15 ?_
  exact xj_ireturn dX27_turns_16 rfl rfl ⟨rfl, f1, t1⟩
theorem A_X27_turns_5 {b nm mk : Nat} {l : List Int32}  (x : Int32) (hb : G[b]? = some (cO 13 [.int (nI nm), .int (nI mk)])) (hb2 : 82 < b) (hnm : nm < 6) (hmk : mk < 16) (htr : cTr l G) : xMetI E yX27_turns cX27_turns 3 (some FieldType.int) 1 0 0 [.ref b, .int x, .ref 32] G (acR (vPT nm x) (tPT l) G) := by
  refine xMetI.of (lv := [some (.ref b), some (.int x), some (.ref 32)]) rfl rfl (Nat.le_of_ble_eq_true rfl) ?_
  refine xj_aload_n dX27_turns_0 rfl rfl ?_
  refine xj_bipush (v := 10) dX27_turns_1 rfl ?_
  refine xj_dV dX27_turns_3 q1700 kV_X4_ran (A_ran htr) (htr).h32 rfl rfl rfl rfl (Nat.le_of_ble_eq_true rfl) ⟨(Nat.le_of_ble_eq_true rfl), (Nat.le_of_ble_eq_true rfl)⟩ (Nat.le_of_ble_eq_true rfl) (Nat.le_of_ble_eq_true rfl) ?_
  rintro _ G1 ⟨rfl, g1, t1⟩
  have f1 : gfa [32, 33] G G1 := g1
  have b1 : G1[b]? = some (cO 13 [.int (nI nm), .int (nI mk)]) := (f1.2 b (List.getElem?_eq_some_iff.mp hb).1 (acb hb2)).trans hb
  refine xj_iload_n dX27_turns_6 rfl ?_
  refine xj_ic5 dX27_turns_7 ?_
  refine xj_imul dX27_turns_8 ?_
  refine xj_aload_n dX27_turns_9 rfl rfl ?_
  refine xj_callH dX27_turns_10 ⟨qt1702, rfl⟩ kG_Turns_number_5 (A_number13 b1) b1 rfl rfl rfl (Nat.le_of_ble_eq_true rfl) ⟨(Nat.le_of_ble_eq_true rfl), (Nat.le_of_ble_eq_true rfl)⟩ (Nat.le_of_ble_eq_true rfl) (Nat.le_of_ble_eq_true rfl) xrv_t (xrv_k ?_)
  refine xj_iadd dX27_turns_15 ?_
  exact xj_ireturn dX27_turns_16 rfl rfl ⟨rfl, f1, t1⟩
theorem A_X9_turns_1 {b nm mk : Nat} {l : List Int32}  (x : Int32) (hb : G[b]? = some (cO 9 [.int (nI nm), .int (nI mk)])) (hb2 : 82 < b) (hnm : nm < 6) (hmk : mk < 16) (htr : cTr l G) : xMet E yX9_turns cX9_turns 3 (some FieldType.int) 2 0 0 [.ref b, .int x, .ref 32] G (acR (vLT nm x) (tLT l) G) := by
  refine xMet.of (lv := [some (.ref b), some (.int x), some (.ref 32)]) rfl rfl (Nat.le_of_ble_eq_true rfl) ?_
  refine xj_aload_n dX9_turns_0 rfl rfl ?_
  refine xj_bipush (v := 20) dX9_turns_1 rfl ?_
  refine xj_dV dX9_turns_3 q1694 kV_X4_ran (A_ran htr) (htr).h32 rfl rfl rfl rfl (Nat.le_of_ble_eq_true rfl) ⟨(Nat.le_of_ble_eq_true rfl), (Nat.le_of_ble_eq_true rfl)⟩ (Nat.le_of_ble_eq_true rfl) (Nat.le_of_ble_eq_true rfl) ?_
  rintro _ G1 ⟨rfl, g1, t1⟩
  have f1 : gfa [32, 33] G G1 := g1
  have b1 : G1[b]? = some (cO 9 [.int (nI nm), .int (nI mk)]) := (f1.2 b (List.getElem?_eq_some_iff.mp hb).1 (acb hb2)).trans hb
  refine xj_aload_n dX9_turns_6 rfl rfl ?_
  refine xj_iload_n dX9_turns_7 rfl ?_
  refine xj_aload_n dX9_turns_8 rfl rfl ?_
  refine xj_callQI dX9_turns_9 qd0 kQ_Lefty_turns (A_X27_turns_1 x b1 hb2 hnm hmk t1) b1 rfl rfl rfl (Nat.le_of_ble_eq_true rfl) ⟨(Nat.le_of_ble_eq_true rfl), (Nat.le_of_ble_eq_true rfl)⟩ (Nat.le_of_ble_eq_true rfl) (Nat.le_of_ble_eq_true rfl) (fun _ _ _ h => h.elim) (fun v G2 h => ?_)
  obtain ⟨rfl, g2, t2⟩ := h
  have f2 : gfa [32, 33] G G2 := f1.trans g2
  have b2 : G2[b]? = some (cO 9 [.int (nI nm), .int (nI mk)]) := (f2.2 b (List.getElem?_eq_some_iff.mp hb).1 (acb hb2)).trans hb
  refine xj_bipush (v := 9) dX9_turns_12 rfl ?_
  refine xj_ixor dX9_turns_14 ?_
  exact xj_ireturn dX9_turns_15 rfl rfl ⟨rfl, f2, t2⟩
theorem A_X9_turns_3 {b nm mk : Nat} {l : List Int32}  (x : Int32) (hb : G[b]? = some (cO 11 [.int (nI nm), .int (nI mk)])) (hb2 : 82 < b) (hnm : nm < 6) (hmk : mk < 16) (htr : cTr l G) : xMet E yX9_turns cX9_turns 3 (some FieldType.int) 2 0 0 [.ref b, .int x, .ref 32] G (acR (vLT nm x) (tLT l) G) := by
  refine xMet.of (lv := [some (.ref b), some (.int x), some (.ref 32)]) rfl rfl (Nat.le_of_ble_eq_true rfl) ?_
  refine xj_aload_n dX9_turns_0 rfl rfl ?_
  refine xj_bipush (v := 20) dX9_turns_1 rfl ?_
  refine xj_dV dX9_turns_3 q1694 kV_X4_ran (A_ran htr) (htr).h32 rfl rfl rfl rfl (Nat.le_of_ble_eq_true rfl) ⟨(Nat.le_of_ble_eq_true rfl), (Nat.le_of_ble_eq_true rfl)⟩ (Nat.le_of_ble_eq_true rfl) (Nat.le_of_ble_eq_true rfl) ?_
  rintro _ G1 ⟨rfl, g1, t1⟩
  have f1 : gfa [32, 33] G G1 := g1
  have b1 : G1[b]? = some (cO 11 [.int (nI nm), .int (nI mk)]) := (f1.2 b (List.getElem?_eq_some_iff.mp hb).1 (acb hb2)).trans hb
  refine xj_aload_n dX9_turns_6 rfl rfl ?_
  refine xj_iload_n dX9_turns_7 rfl ?_
  refine xj_aload_n dX9_turns_8 rfl rfl ?_
  refine xj_callQI dX9_turns_9 qd0 kQ_Lefty_turns (A_X27_turns_3 x b1 hb2 hnm hmk t1) b1 rfl rfl rfl (Nat.le_of_ble_eq_true rfl) ⟨(Nat.le_of_ble_eq_true rfl), (Nat.le_of_ble_eq_true rfl)⟩ (Nat.le_of_ble_eq_true rfl) (Nat.le_of_ble_eq_true rfl) (fun _ _ _ h => h.elim) (fun v G2 h => ?_)
  obtain ⟨rfl, g2, t2⟩ := h
  have f2 : gfa [32, 33] G G2 := f1.trans g2
  have b2 : G2[b]? = some (cO 11 [.int (nI nm), .int (nI mk)]) := (f2.2 b (List.getElem?_eq_some_iff.mp hb).1 (acb hb2)).trans hb
  refine xj_bipush (v := 9) dX9_turns_12 rfl ?_
  refine xj_ixor dX9_turns_14 ?_
  exact xj_ireturn dX9_turns_15 rfl rfl ⟨rfl, f2, t2⟩
theorem A_X9_turns_4 {b nm mk : Nat} {l : List Int32}  (x : Int32) (hb : G[b]? = some (cO 12 [.int (nI nm), .int (nI mk)])) (hb2 : 82 < b) (hnm : nm < 6) (hmk : mk < 16) (htr : cTr l G) : xMet E yX9_turns cX9_turns 3 (some FieldType.int) 2 0 0 [.ref b, .int x, .ref 32] G (acR (vLT nm x) (tLT l) G) := by
  refine xMet.of (lv := [some (.ref b), some (.int x), some (.ref 32)]) rfl rfl (Nat.le_of_ble_eq_true rfl) ?_
  refine xj_aload_n dX9_turns_0 rfl rfl ?_
  refine xj_bipush (v := 20) dX9_turns_1 rfl ?_
  refine xj_dV dX9_turns_3 q1694 kV_X4_ran (A_ran htr) (htr).h32 rfl rfl rfl rfl (Nat.le_of_ble_eq_true rfl) ⟨(Nat.le_of_ble_eq_true rfl), (Nat.le_of_ble_eq_true rfl)⟩ (Nat.le_of_ble_eq_true rfl) (Nat.le_of_ble_eq_true rfl) ?_
  rintro _ G1 ⟨rfl, g1, t1⟩
  have f1 : gfa [32, 33] G G1 := g1
  have b1 : G1[b]? = some (cO 12 [.int (nI nm), .int (nI mk)]) := (f1.2 b (List.getElem?_eq_some_iff.mp hb).1 (acb hb2)).trans hb
  refine xj_aload_n dX9_turns_6 rfl rfl ?_
  refine xj_iload_n dX9_turns_7 rfl ?_
  refine xj_aload_n dX9_turns_8 rfl rfl ?_
  refine xj_callQI dX9_turns_9 qd0 kQ_Lefty_turns (A_X27_turns_4 x b1 hb2 hnm hmk t1) b1 rfl rfl rfl (Nat.le_of_ble_eq_true rfl) ⟨(Nat.le_of_ble_eq_true rfl), (Nat.le_of_ble_eq_true rfl)⟩ (Nat.le_of_ble_eq_true rfl) (Nat.le_of_ble_eq_true rfl) (fun _ _ _ h => h.elim) (fun v G2 h => ?_)
  obtain ⟨rfl, g2, t2⟩ := h
  have f2 : gfa [32, 33] G G2 := f1.trans g2
  have b2 : G2[b]? = some (cO 12 [.int (nI nm), .int (nI mk)]) := (f2.2 b (List.getElem?_eq_some_iff.mp hb).1 (acb hb2)).trans hb
  refine xj_bipush (v := 9) dX9_turns_12 rfl ?_
  refine xj_ixor dX9_turns_14 ?_
  exact xj_ireturn dX9_turns_15 rfl rfl ⟨rfl, f2, t2⟩
theorem A_X11_turns_3 {b nm mk : Nat} {l : List Int32}  (x : Int32) (hb : G[b]? = some (cO 11 [.int (nI nm), .int (nI mk)])) (hb2 : 82 < b) (hnm : nm < 6) (hmk : mk < 16) (htr : cTr l G) : xMet E yX11_turns cX11_turns 3 (some FieldType.int) 3 0 0 [.ref b, .int x, .ref 32] G (acR (vT 3 nm x) (tT 3 l) G) := by
  refine xMet.of (lv := [some (.ref b), some (.int x), some (.ref 32)]) rfl rfl (Nat.le_of_ble_eq_true rfl) ?_
  refine xj_aload_n dX11_turns_0 rfl rfl ?_
  refine xj_bipush (v := 40) dX11_turns_1 rfl ?_
  refine xj_dV dX11_turns_3 q1740 kV_X4_ran (A_ran htr) (htr).h32 rfl rfl rfl rfl (Nat.le_of_ble_eq_true rfl) ⟨(Nat.le_of_ble_eq_true rfl), (Nat.le_of_ble_eq_true rfl)⟩ (Nat.le_of_ble_eq_true rfl) (Nat.le_of_ble_eq_true rfl) ?_
  rintro _ G1 ⟨rfl, g1, t1⟩
  have f1 : gfa [32, 33] G G1 := g1
  have b1 : G1[b]? = some (cO 11 [.int (nI nm), .int (nI mk)]) := (f1.2 b (List.getElem?_eq_some_iff.mp hb).1 (acb hb2)).trans hb
  refine xj_ic0 dX11_turns_6 ?_
  refine xj_aload_n dX11_turns_7 rfl rfl ?_
  refine xj_iload_n dX11_turns_8 rfl ?_
  refine xj_ic2 dX11_turns_9 ?_
  refine xj_iadd dX11_turns_10 ?_
  refine xj_aload_n dX11_turns_11 rfl rfl ?_
  refine xj_callP dX11_turns_12 q1741 kP_X11_X9_turns (A_X9_turns_3 (x + 2) b1 hb2 hnm hmk t1) b1 rfl rfl rfl (Nat.le_of_ble_eq_true rfl) ⟨(Nat.le_of_ble_eq_true rfl), (Nat.le_of_ble_eq_true rfl)⟩ (Nat.le_of_ble_eq_true rfl) (Nat.le_of_ble_eq_true rfl) (fun _ _ _ h => h.elim) (fun v G2 h => ?_)
  obtain ⟨rfl, g2, t2⟩ := h
  have f2 : gfa [32, 33] G G2 := f1.trans g2
  have b2 : G2[b]? = some (cO 11 [.int (nI nm), .int (nI mk)]) := (f2.2 b (List.getElem?_eq_some_iff.mp hb).1 (acb hb2)).trans hb
  refine xj_isub dX11_turns_15 ?_
  exact xj_ireturn dX11_turns_16 rfl rfl ⟨rfl, f2, t2⟩
theorem A_X28_bends_0 {b nm mk : Nat} {l : List Int32}  (x : Int32) (hb : G[b]? = some (cO 8 [.int (nI nm), .int (nI mk)])) (hb2 : 82 < b) (hnm : nm < 6) (hmk : mk < 16) (htr : cTr l G) : xMetI E yX28_bends cX28_bends 3 (some FieldType.int) 4 0 0 [.ref b, .int x, .ref 32] G (acR (vPB 0 nm mk x) (tPB 0 l) G) := by
  refine xMetI.of (lv := [some (.ref b), some (.int x), some (.ref 32)]) rfl rfl (Nat.le_of_ble_eq_true rfl) ?_
  refine xj_aload_n dX28_bends_0 rfl rfl ?_
  refine xj_bipush (v := 11) dX28_bends_1 rfl ?_
  refine xj_dV dX28_bends_3 q1748 kV_X4_ran (A_ran htr) (htr).h32 rfl rfl rfl rfl (Nat.le_of_ble_eq_true rfl) ⟨(Nat.le_of_ble_eq_true rfl), (Nat.le_of_ble_eq_true rfl)⟩ (Nat.le_of_ble_eq_true rfl) (Nat.le_of_ble_eq_true rfl) ?_
  rintro _ G1 ⟨rfl, g1, t1⟩
  have f1 : gfa [32, 33] G G1 := g1
  have b1 : G1[b]? = some (cO 8 [.int (nI nm), .int (nI mk)]) := (f1.2 b (List.getElem?_eq_some_iff.mp hb).1 (acb hb2)).trans hb
  refine xj_aload_n dX28_bends_6 rfl rfl ?_
  refine xj_iload_n dX28_bends_7 rfl ?_
  refine xj_aload_n dX28_bends_8 rfl rfl ?_
  refine xj_callGI dX28_bends_9 ⟨qn65, rfl⟩ kG_Bends_turns_0 (A_X27_turns_0 x b1 hb2 hnm hmk t1) b1 rfl rfl rfl (Nat.le_of_ble_eq_true rfl) ⟨(Nat.le_of_ble_eq_true rfl), (Nat.le_of_ble_eq_true rfl)⟩ (Nat.le_of_ble_eq_true rfl) (Nat.le_of_ble_eq_true rfl) (fun _ _ _ h => h.elim) (fun v G2 h => ?_)
  obtain ⟨rfl, g2, t2⟩ := h
  have f2 : gfa [32, 33] G G2 := f1.trans g2
  have b2 : G2[b]? = some (cO 8 [.int (nI nm), .int (nI mk)]) := (f2.2 b (List.getElem?_eq_some_iff.mp hb).1 (acb hb2)).trans hb
  refine xj_aload_n dX28_bends_14 rfl rfl ?_
  refine xj_callH dX28_bends_15 ⟨qn67, rfl⟩ kG_Bends_mark_0 (A_mark8 b2) b2 rfl rfl rfl (Nat.le_of_ble_eq_true rfl) ⟨(Nat.le_of_ble_eq_true rfl), (Nat.le_of_ble_eq_true rfl)⟩ (Nat.le_of_ble_eq_true rfl) (Nat.le_of_ble_eq_true rfl) xrv_t (xrv_k ?_)
  refine xj_isub dX28_bends_20 ?_
  exact xj_ireturn dX28_bends_21 rfl rfl ⟨rfl, f2, t2⟩
theorem A_X28_bends_1 {b nm mk : Nat} {l : List Int32}  (x : Int32) (hb : G[b]? = some (cO 9 [.int (nI nm), .int (nI mk)])) (hb2 : 82 < b) (hnm : nm < 6) (hmk : mk < 16) (htr : cTr l G) : xMetI E yX28_bends cX28_bends 3 (some FieldType.int) 4 0 0 [.ref b, .int x, .ref 32] G (acR (vPB 1 nm mk x) (tPB 1 l) G) := by
  refine xMetI.of (lv := [some (.ref b), some (.int x), some (.ref 32)]) rfl rfl (Nat.le_of_ble_eq_true rfl) ?_
  refine xj_aload_n dX28_bends_0 rfl rfl ?_
  refine xj_bipush (v := 11) dX28_bends_1 rfl ?_
  refine xj_dV dX28_bends_3 q1748 kV_X4_ran (A_ran htr) (htr).h32 rfl rfl rfl rfl (Nat.le_of_ble_eq_true rfl) ⟨(Nat.le_of_ble_eq_true rfl), (Nat.le_of_ble_eq_true rfl)⟩ (Nat.le_of_ble_eq_true rfl) (Nat.le_of_ble_eq_true rfl) ?_
  rintro _ G1 ⟨rfl, g1, t1⟩
  have f1 : gfa [32, 33] G G1 := g1
  have b1 : G1[b]? = some (cO 9 [.int (nI nm), .int (nI mk)]) := (f1.2 b (List.getElem?_eq_some_iff.mp hb).1 (acb hb2)).trans hb
  refine xj_aload_n dX28_bends_6 rfl rfl ?_
  refine xj_iload_n dX28_bends_7 rfl ?_
  refine xj_aload_n dX28_bends_8 rfl rfl ?_
  refine xj_callH dX28_bends_9 ⟨qn65, rfl⟩ kG_Bends_turns_1 (A_X9_turns_1 x b1 hb2 hnm hmk t1) b1 rfl rfl rfl (Nat.le_of_ble_eq_true rfl) ⟨(Nat.le_of_ble_eq_true rfl), (Nat.le_of_ble_eq_true rfl)⟩ (Nat.le_of_ble_eq_true rfl) (Nat.le_of_ble_eq_true rfl) (fun _ _ _ h => h.elim) (fun v G2 h => ?_)
  obtain ⟨rfl, g2, t2⟩ := h
  have f2 : gfa [32, 33] G G2 := f1.trans g2
  have b2 : G2[b]? = some (cO 9 [.int (nI nm), .int (nI mk)]) := (f2.2 b (List.getElem?_eq_some_iff.mp hb).1 (acb hb2)).trans hb
  refine xj_aload_n dX28_bends_14 rfl rfl ?_
  refine xj_callH dX28_bends_15 ⟨qn67, rfl⟩ kG_Bends_mark_1 (A_mark9 b2) b2 rfl rfl rfl (Nat.le_of_ble_eq_true rfl) ⟨(Nat.le_of_ble_eq_true rfl), (Nat.le_of_ble_eq_true rfl)⟩ (Nat.le_of_ble_eq_true rfl) (Nat.le_of_ble_eq_true rfl) xrv_t (xrv_k ?_)
  refine xj_isub dX28_bends_20 ?_
  exact xj_ireturn dX28_bends_21 rfl rfl ⟨rfl, f2, t2⟩
theorem A_X28_bends_2 {b nm mk : Nat} {l : List Int32}  (x : Int32) (hb : G[b]? = some (cO 10 [.int (nI nm), .int (nI mk)])) (hb2 : 82 < b) (hnm : nm < 6) (hmk : mk < 16) (htr : cTr l G) : xMetI E yX28_bends cX28_bends 3 (some FieldType.int) 4 0 0 [.ref b, .int x, .ref 32] G (acR (vPB 2 nm mk x) (tPB 2 l) G) := by
  refine xMetI.of (lv := [some (.ref b), some (.int x), some (.ref 32)]) rfl rfl (Nat.le_of_ble_eq_true rfl) ?_
  refine xj_aload_n dX28_bends_0 rfl rfl ?_
  refine xj_bipush (v := 11) dX28_bends_1 rfl ?_
  refine xj_dV dX28_bends_3 q1748 kV_X4_ran (A_ran htr) (htr).h32 rfl rfl rfl rfl (Nat.le_of_ble_eq_true rfl) ⟨(Nat.le_of_ble_eq_true rfl), (Nat.le_of_ble_eq_true rfl)⟩ (Nat.le_of_ble_eq_true rfl) (Nat.le_of_ble_eq_true rfl) ?_
  rintro _ G1 ⟨rfl, g1, t1⟩
  have f1 : gfa [32, 33] G G1 := g1
  have b1 : G1[b]? = some (cO 10 [.int (nI nm), .int (nI mk)]) := (f1.2 b (List.getElem?_eq_some_iff.mp hb).1 (acb hb2)).trans hb
  refine xj_aload_n dX28_bends_6 rfl rfl ?_
  refine xj_iload_n dX28_bends_7 rfl ?_
  refine xj_aload_n dX28_bends_8 rfl rfl ?_
  refine xj_callGI dX28_bends_9 ⟨qn65, rfl⟩ kG_Bends_turns_2 (A_X27_turns_2 x b1 hb2 hnm hmk t1) b1 rfl rfl rfl (Nat.le_of_ble_eq_true rfl) ⟨(Nat.le_of_ble_eq_true rfl), (Nat.le_of_ble_eq_true rfl)⟩ (Nat.le_of_ble_eq_true rfl) (Nat.le_of_ble_eq_true rfl) (fun _ _ _ h => h.elim) (fun v G2 h => ?_)
  obtain ⟨rfl, g2, t2⟩ := h
  have f2 : gfa [32, 33] G G2 := f1.trans g2
  have b2 : G2[b]? = some (cO 10 [.int (nI nm), .int (nI mk)]) := (f2.2 b (List.getElem?_eq_some_iff.mp hb).1 (acb hb2)).trans hb
  refine xj_aload_n dX28_bends_14 rfl rfl ?_
  refine xj_callH dX28_bends_15 ⟨qn67, rfl⟩ kG_Bends_mark_2 (A_mark10 b2) b2 rfl rfl rfl (Nat.le_of_ble_eq_true rfl) ⟨(Nat.le_of_ble_eq_true rfl), (Nat.le_of_ble_eq_true rfl)⟩ (Nat.le_of_ble_eq_true rfl) (Nat.le_of_ble_eq_true rfl) xrv_t (xrv_k ?_)
  refine xj_isub dX28_bends_20 ?_
  exact xj_ireturn dX28_bends_21 rfl rfl ⟨rfl, f2, t2⟩
theorem A_X28_bends_3 {b nm mk : Nat} {l : List Int32}  (x : Int32) (hb : G[b]? = some (cO 11 [.int (nI nm), .int (nI mk)])) (hb2 : 82 < b) (hnm : nm < 6) (hmk : mk < 16) (htr : cTr l G) : xMetI E yX28_bends cX28_bends 3 (some FieldType.int) 4 0 0 [.ref b, .int x, .ref 32] G (acR (vPB 3 nm mk x) (tPB 3 l) G) := by
  refine xMetI.of (lv := [some (.ref b), some (.int x), some (.ref 32)]) rfl rfl (Nat.le_of_ble_eq_true rfl) ?_
  refine xj_aload_n dX28_bends_0 rfl rfl ?_
  refine xj_bipush (v := 11) dX28_bends_1 rfl ?_
  refine xj_dV dX28_bends_3 q1748 kV_X4_ran (A_ran htr) (htr).h32 rfl rfl rfl rfl (Nat.le_of_ble_eq_true rfl) ⟨(Nat.le_of_ble_eq_true rfl), (Nat.le_of_ble_eq_true rfl)⟩ (Nat.le_of_ble_eq_true rfl) (Nat.le_of_ble_eq_true rfl) ?_
  rintro _ G1 ⟨rfl, g1, t1⟩
  have f1 : gfa [32, 33] G G1 := g1
  have b1 : G1[b]? = some (cO 11 [.int (nI nm), .int (nI mk)]) := (f1.2 b (List.getElem?_eq_some_iff.mp hb).1 (acb hb2)).trans hb
  refine xj_aload_n dX28_bends_6 rfl rfl ?_
  refine xj_iload_n dX28_bends_7 rfl ?_
  refine xj_aload_n dX28_bends_8 rfl rfl ?_
  refine xj_callH dX28_bends_9 ⟨qn65, rfl⟩ kG_Bends_turns_3 (A_X11_turns_3 x b1 hb2 hnm hmk t1) b1 rfl rfl rfl (Nat.le_of_ble_eq_true rfl) ⟨(Nat.le_of_ble_eq_true rfl), (Nat.le_of_ble_eq_true rfl)⟩ (Nat.le_of_ble_eq_true rfl) (Nat.le_of_ble_eq_true rfl) (fun _ _ _ h => h.elim) (fun v G2 h => ?_)
  obtain ⟨rfl, g2, t2⟩ := h
  have f2 : gfa [32, 33] G G2 := f1.trans g2
  have b2 : G2[b]? = some (cO 11 [.int (nI nm), .int (nI mk)]) := (f2.2 b (List.getElem?_eq_some_iff.mp hb).1 (acb hb2)).trans hb
  refine xj_aload_n dX28_bends_14 rfl rfl ?_
  refine xj_callH dX28_bends_15 ⟨qn67, rfl⟩ kG_Bends_mark_3 (A_mark11 b2) b2 rfl rfl rfl (Nat.le_of_ble_eq_true rfl) ⟨(Nat.le_of_ble_eq_true rfl), (Nat.le_of_ble_eq_true rfl)⟩ (Nat.le_of_ble_eq_true rfl) (Nat.le_of_ble_eq_true rfl) xrv_t (xrv_k ?_)
  refine xj_isub dX28_bends_20 ?_
  exact xj_ireturn dX28_bends_21 rfl rfl ⟨rfl, f2, t2⟩
theorem A_X28_bends_4 {b nm mk : Nat} {l : List Int32}  (x : Int32) (hb : G[b]? = some (cO 12 [.int (nI nm), .int (nI mk)])) (hb2 : 82 < b) (hnm : nm < 6) (hmk : mk < 16) (htr : cTr l G) : xMetI E yX28_bends cX28_bends 3 (some FieldType.int) 4 0 0 [.ref b, .int x, .ref 32] G (acR (vPB 4 nm mk x) (tPB 4 l) G) := by
  refine xMetI.of (lv := [some (.ref b), some (.int x), some (.ref 32)]) rfl rfl (Nat.le_of_ble_eq_true rfl) ?_
  refine xj_aload_n dX28_bends_0 rfl rfl ?_
  refine xj_bipush (v := 11) dX28_bends_1 rfl ?_
  refine xj_dV dX28_bends_3 q1748 kV_X4_ran (A_ran htr) (htr).h32 rfl rfl rfl rfl (Nat.le_of_ble_eq_true rfl) ⟨(Nat.le_of_ble_eq_true rfl), (Nat.le_of_ble_eq_true rfl)⟩ (Nat.le_of_ble_eq_true rfl) (Nat.le_of_ble_eq_true rfl) ?_
  rintro _ G1 ⟨rfl, g1, t1⟩
  have f1 : gfa [32, 33] G G1 := g1
  have b1 : G1[b]? = some (cO 12 [.int (nI nm), .int (nI mk)]) := (f1.2 b (List.getElem?_eq_some_iff.mp hb).1 (acb hb2)).trans hb
  refine xj_aload_n dX28_bends_6 rfl rfl ?_
  refine xj_iload_n dX28_bends_7 rfl ?_
  refine xj_aload_n dX28_bends_8 rfl rfl ?_
  refine xj_callH dX28_bends_9 ⟨qn65, rfl⟩ kG_Bends_turns_4 (A_X9_turns_4 x b1 hb2 hnm hmk t1) b1 rfl rfl rfl (Nat.le_of_ble_eq_true rfl) ⟨(Nat.le_of_ble_eq_true rfl), (Nat.le_of_ble_eq_true rfl)⟩ (Nat.le_of_ble_eq_true rfl) (Nat.le_of_ble_eq_true rfl) (fun _ _ _ h => h.elim) (fun v G2 h => ?_)
  obtain ⟨rfl, g2, t2⟩ := h
  have f2 : gfa [32, 33] G G2 := f1.trans g2
  have b2 : G2[b]? = some (cO 12 [.int (nI nm), .int (nI mk)]) := (f2.2 b (List.getElem?_eq_some_iff.mp hb).1 (acb hb2)).trans hb
  refine xj_aload_n dX28_bends_14 rfl rfl ?_
  refine xj_callH dX28_bends_15 ⟨qn67, rfl⟩ kG_Bends_mark_4 (A_mark12 b2) b2 rfl rfl rfl (Nat.le_of_ble_eq_true rfl) ⟨(Nat.le_of_ble_eq_true rfl), (Nat.le_of_ble_eq_true rfl)⟩ (Nat.le_of_ble_eq_true rfl) (Nat.le_of_ble_eq_true rfl) xrv_t (xrv_k ?_)
  refine xj_isub dX28_bends_20 ?_
  exact xj_ireturn dX28_bends_21 rfl rfl ⟨rfl, f2, t2⟩
theorem A_X28_bends_5 {b nm mk : Nat} {l : List Int32}  (x : Int32) (hb : G[b]? = some (cO 13 [.int (nI nm), .int (nI mk)])) (hb2 : 82 < b) (hnm : nm < 6) (hmk : mk < 16) (htr : cTr l G) : xMetI E yX28_bends cX28_bends 3 (some FieldType.int) 4 0 0 [.ref b, .int x, .ref 32] G (acR (vPB 5 nm mk x) (tPB 5 l) G) := by
  refine xMetI.of (lv := [some (.ref b), some (.int x), some (.ref 32)]) rfl rfl (Nat.le_of_ble_eq_true rfl) ?_
  refine xj_aload_n dX28_bends_0 rfl rfl ?_
  refine xj_bipush (v := 11) dX28_bends_1 rfl ?_
  refine xj_dV dX28_bends_3 q1748 kV_X4_ran (A_ran htr) (htr).h32 rfl rfl rfl rfl (Nat.le_of_ble_eq_true rfl) ⟨(Nat.le_of_ble_eq_true rfl), (Nat.le_of_ble_eq_true rfl)⟩ (Nat.le_of_ble_eq_true rfl) (Nat.le_of_ble_eq_true rfl) ?_
  rintro _ G1 ⟨rfl, g1, t1⟩
  have f1 : gfa [32, 33] G G1 := g1
  have b1 : G1[b]? = some (cO 13 [.int (nI nm), .int (nI mk)]) := (f1.2 b (List.getElem?_eq_some_iff.mp hb).1 (acb hb2)).trans hb
  refine xj_aload_n dX28_bends_6 rfl rfl ?_
  refine xj_iload_n dX28_bends_7 rfl ?_
  refine xj_aload_n dX28_bends_8 rfl rfl ?_
  refine xj_callGI dX28_bends_9 ⟨qn65, rfl⟩ kG_Bends_turns_5 (A_X27_turns_5 x b1 hb2 hnm hmk t1) b1 rfl rfl rfl (Nat.le_of_ble_eq_true rfl) ⟨(Nat.le_of_ble_eq_true rfl), (Nat.le_of_ble_eq_true rfl)⟩ (Nat.le_of_ble_eq_true rfl) (Nat.le_of_ble_eq_true rfl) (fun _ _ _ h => h.elim) (fun v G2 h => ?_)
  obtain ⟨rfl, g2, t2⟩ := h
  have f2 : gfa [32, 33] G G2 := f1.trans g2
  have b2 : G2[b]? = some (cO 13 [.int (nI nm), .int (nI mk)]) := (f2.2 b (List.getElem?_eq_some_iff.mp hb).1 (acb hb2)).trans hb
  refine xj_aload_n dX28_bends_14 rfl rfl ?_
  refine xj_callH dX28_bends_15 ⟨qn67, rfl⟩ kG_Bends_mark_5 (A_mark13 b2) b2 rfl rfl rfl (Nat.le_of_ble_eq_true rfl) ⟨(Nat.le_of_ble_eq_true rfl), (Nat.le_of_ble_eq_true rfl)⟩ (Nat.le_of_ble_eq_true rfl) (Nat.le_of_ble_eq_true rfl) xrv_t (xrv_k ?_)
  refine xj_isub dX28_bends_20 ?_
  exact xj_ireturn dX28_bends_21 rfl rfl ⟨rfl, f2, t2⟩
theorem A_X10_bends_2 {b nm mk : Nat} {l : List Int32}  (x : Int32) (hb : G[b]? = some (cO 10 [.int (nI nm), .int (nI mk)])) (hb2 : 82 < b) (hnm : nm < 6) (hmk : mk < 16) (htr : cTr l G) : xMet E yX10_bends cX10_bends 3 (some FieldType.int) 5 0 0 [.ref b, .int x, .ref 32] G (acR (vB 2 nm mk x) (tB 2 l) G) := by
  refine xMet.of (lv := [some (.ref b), some (.int x), some (.ref 32)]) rfl rfl (Nat.le_of_ble_eq_true rfl) ?_
  refine xj_aload_n dX10_bends_0 rfl rfl ?_
  refine xj_bipush (v := 30) dX10_bends_1 rfl ?_
  refine xj_dV dX10_bends_3 q1776 kV_X4_ran (A_ran htr) (htr).h32 rfl rfl rfl rfl (Nat.le_of_ble_eq_true rfl) ⟨(Nat.le_of_ble_eq_true rfl), (Nat.le_of_ble_eq_true rfl)⟩ (Nat.le_of_ble_eq_true rfl) (Nat.le_of_ble_eq_true rfl) ?_
  rintro _ G1 ⟨rfl, g1, t1⟩
  have f1 : gfa [32, 33] G G1 := g1
  have b1 : G1[b]? = some (cO 10 [.int (nI nm), .int (nI mk)]) := (f1.2 b (List.getElem?_eq_some_iff.mp hb).1 (acb hb2)).trans hb
  refine xj_aload_n dX10_bends_6 rfl rfl ?_
  refine xj_iload_n dX10_bends_7 rfl ?_
  refine xj_aload_n dX10_bends_8 rfl rfl ?_
  refine xj_callQI dX10_bends_9 qd2 kQ_Longer_bends (A_X28_bends_2 x b1 hb2 hnm hmk t1) b1 rfl rfl rfl (Nat.le_of_ble_eq_true rfl) ⟨(Nat.le_of_ble_eq_true rfl), (Nat.le_of_ble_eq_true rfl)⟩ (Nat.le_of_ble_eq_true rfl) (Nat.le_of_ble_eq_true rfl) (fun _ _ _ h => h.elim) (fun v G2 h => ?_)
  obtain ⟨rfl, g2, t2⟩ := h
  have f2 : gfa [32, 33] G G2 := f1.trans g2
  have b2 : G2[b]? = some (cO 10 [.int (nI nm), .int (nI mk)]) := (f2.2 b (List.getElem?_eq_some_iff.mp hb).1 (acb hb2)).trans hb
  refine xj_ic3 dX10_bends_12 ?_
  refine xj_imul dX10_bends_13 ?_
  exact xj_ireturn dX10_bends_14 rfl rfl ⟨rfl, f2, t2⟩
theorem A_X10_bends_5 {b nm mk : Nat} {l : List Int32}  (x : Int32) (hb : G[b]? = some (cO 13 [.int (nI nm), .int (nI mk)])) (hb2 : 82 < b) (hnm : nm < 6) (hmk : mk < 16) (htr : cTr l G) : xMet E yX10_bends cX10_bends 3 (some FieldType.int) 5 0 0 [.ref b, .int x, .ref 32] G (acR (vB 5 nm mk x) (tB 5 l) G) := by
  refine xMet.of (lv := [some (.ref b), some (.int x), some (.ref 32)]) rfl rfl (Nat.le_of_ble_eq_true rfl) ?_
  refine xj_aload_n dX10_bends_0 rfl rfl ?_
  refine xj_bipush (v := 30) dX10_bends_1 rfl ?_
  refine xj_dV dX10_bends_3 q1776 kV_X4_ran (A_ran htr) (htr).h32 rfl rfl rfl rfl (Nat.le_of_ble_eq_true rfl) ⟨(Nat.le_of_ble_eq_true rfl), (Nat.le_of_ble_eq_true rfl)⟩ (Nat.le_of_ble_eq_true rfl) (Nat.le_of_ble_eq_true rfl) ?_
  rintro _ G1 ⟨rfl, g1, t1⟩
  have f1 : gfa [32, 33] G G1 := g1
  have b1 : G1[b]? = some (cO 13 [.int (nI nm), .int (nI mk)]) := (f1.2 b (List.getElem?_eq_some_iff.mp hb).1 (acb hb2)).trans hb
  refine xj_aload_n dX10_bends_6 rfl rfl ?_
  refine xj_iload_n dX10_bends_7 rfl ?_
  refine xj_aload_n dX10_bends_8 rfl rfl ?_
  refine xj_callQI dX10_bends_9 qd2 kQ_Longer_bends (A_X28_bends_5 x b1 hb2 hnm hmk t1) b1 rfl rfl rfl (Nat.le_of_ble_eq_true rfl) ⟨(Nat.le_of_ble_eq_true rfl), (Nat.le_of_ble_eq_true rfl)⟩ (Nat.le_of_ble_eq_true rfl) (Nat.le_of_ble_eq_true rfl) (fun _ _ _ h => h.elim) (fun v G2 h => ?_)
  obtain ⟨rfl, g2, t2⟩ := h
  have f2 : gfa [32, 33] G G2 := f1.trans g2
  have b2 : G2[b]? = some (cO 13 [.int (nI nm), .int (nI mk)]) := (f2.2 b (List.getElem?_eq_some_iff.mp hb).1 (acb hb2)).trans hb
  refine xj_ic3 dX10_bends_12 ?_
  refine xj_imul dX10_bends_13 ?_
  exact xj_ireturn dX10_bends_14 rfl rfl ⟨rfl, f2, t2⟩
theorem A_X29_parts_0 {b nm mk : Nat} {l : List Int32}  (x : Int32) (hb : G[b]? = some (cO 8 [.int (nI nm), .int (nI mk)])) (hb2 : 82 < b) (hnm : nm < 6) (hmk : mk < 16) (htr : cTr l G) : xMetI E yX29_parts cX29_parts 3 (some FieldType.int) 1 3 19 [.ref b, .int x, .ref 32] G (acQ mk nm (vPP nm mk x) (tPP l) G) := by
  refine xMetI.of (lv := [some (.ref b), some (.int x), some (.ref 32)]) rfl rfl (Nat.le_of_ble_eq_true rfl) ?_
  refine xj_aload_n dX29_parts_0 rfl rfl ?_
  refine xj_bipush (v := 12) dX29_parts_1 rfl ?_
  refine xj_dV dX29_parts_3 q1788 kV_X4_ran (A_ran htr) (htr).h32 rfl rfl rfl rfl (Nat.le_of_ble_eq_true rfl) ⟨(Nat.le_of_ble_eq_true rfl), (Nat.le_of_ble_eq_true rfl)⟩ (Nat.le_of_ble_eq_true rfl) (Nat.le_of_ble_eq_true rfl) ?_
  rintro _ G1 ⟨rfl, g1, t1⟩
  have f1 : gfa [32, 33] G G1 := g1
  have b1 : G1[b]? = some (cO 8 [.int (nI nm), .int (nI mk)]) := (f1.2 b (List.getElem?_eq_some_iff.mp hb).1 (acb hb2)).trans hb
  refine xj_iload_n dX29_parts_6 rfl ?_
  refine xj_aload_n dX29_parts_7 rfl rfl ?_
  refine xj_callH dX29_parts_8 ⟨qn71, rfl⟩ kG_Parts_mark_0 (A_mark8 b1) b1 rfl rfl rfl (Nat.le_of_ble_eq_true rfl) ⟨(Nat.le_of_ble_eq_true rfl), (Nat.le_of_ble_eq_true rfl)⟩ (Nat.le_of_ble_eq_true rfl) (Nat.le_of_ble_eq_true rfl) xrv_t (xrv_k ?_)
  refine xj_aload_n dX29_parts_13 rfl rfl ?_
  refine xj_callH dX29_parts_14 ⟨qn73, rfl⟩ kG_Parts_number_0 (A_number8 b1) b1 rfl rfl rfl (Nat.le_of_ble_eq_true rfl) ⟨(Nat.le_of_ble_eq_true rfl), (Nat.le_of_ble_eq_true rfl)⟩ (Nat.le_of_ble_eq_true rfl) (Nat.le_of_ble_eq_true rfl) xrv_t (xrv_k ?_)
  refine xj_isub dX29_parts_19 ?_
  by_cases hz : mk = nm
  · subst hz
    exact xj_idivZ dX29_parts_20 (Int32.sub_self _) (xrm_R (Nat.le_of_ble_eq_true rfl) (Nat.le_of_ble_eq_true rfl) (Nat.le_of_ble_eq_true rfl)) (fun j => xjT_out (fun _ hx => by cases hx) ⟨rfl, rfl, f1.apps, t1.app⟩)
  · refine xj_idiv dX29_parts_20 (mn_ne hmk hnm hz) ?_
    exact xj_ireturn dX29_parts_21 rfl rfl ⟨hz, by rw [vPP_eq hz], f1, t1⟩
theorem A_X29_parts_1 {b nm mk : Nat} {l : List Int32}  (x : Int32) (hb : G[b]? = some (cO 9 [.int (nI nm), .int (nI mk)])) (hb2 : 82 < b) (hnm : nm < 6) (hmk : mk < 16) (htr : cTr l G) : xMetI E yX29_parts cX29_parts 3 (some FieldType.int) 1 3 19 [.ref b, .int x, .ref 32] G (acQ mk nm (vPP nm mk x) (tPP l) G) := by
  refine xMetI.of (lv := [some (.ref b), some (.int x), some (.ref 32)]) rfl rfl (Nat.le_of_ble_eq_true rfl) ?_
  refine xj_aload_n dX29_parts_0 rfl rfl ?_
  refine xj_bipush (v := 12) dX29_parts_1 rfl ?_
  refine xj_dV dX29_parts_3 q1788 kV_X4_ran (A_ran htr) (htr).h32 rfl rfl rfl rfl (Nat.le_of_ble_eq_true rfl) ⟨(Nat.le_of_ble_eq_true rfl), (Nat.le_of_ble_eq_true rfl)⟩ (Nat.le_of_ble_eq_true rfl) (Nat.le_of_ble_eq_true rfl) ?_
  rintro _ G1 ⟨rfl, g1, t1⟩
  have f1 : gfa [32, 33] G G1 := g1
  have b1 : G1[b]? = some (cO 9 [.int (nI nm), .int (nI mk)]) := (f1.2 b (List.getElem?_eq_some_iff.mp hb).1 (acb hb2)).trans hb
  refine xj_iload_n dX29_parts_6 rfl ?_
  refine xj_aload_n dX29_parts_7 rfl rfl ?_
  refine xj_callH dX29_parts_8 ⟨qn71, rfl⟩ kG_Parts_mark_1 (A_mark9 b1) b1 rfl rfl rfl (Nat.le_of_ble_eq_true rfl) ⟨(Nat.le_of_ble_eq_true rfl), (Nat.le_of_ble_eq_true rfl)⟩ (Nat.le_of_ble_eq_true rfl) (Nat.le_of_ble_eq_true rfl) xrv_t (xrv_k ?_)
  refine xj_aload_n dX29_parts_13 rfl rfl ?_
  refine xj_callH dX29_parts_14 ⟨qn73, rfl⟩ kG_Parts_number_1 (A_number9 b1) b1 rfl rfl rfl (Nat.le_of_ble_eq_true rfl) ⟨(Nat.le_of_ble_eq_true rfl), (Nat.le_of_ble_eq_true rfl)⟩ (Nat.le_of_ble_eq_true rfl) (Nat.le_of_ble_eq_true rfl) xrv_t (xrv_k ?_)
  refine xj_isub dX29_parts_19 ?_
  by_cases hz : mk = nm
  · subst hz
    exact xj_idivZ dX29_parts_20 (Int32.sub_self _) (xrm_R (Nat.le_of_ble_eq_true rfl) (Nat.le_of_ble_eq_true rfl) (Nat.le_of_ble_eq_true rfl)) (fun j => xjT_out (fun _ hx => by cases hx) ⟨rfl, rfl, f1.apps, t1.app⟩)
  · refine xj_idiv dX29_parts_20 (mn_ne hmk hnm hz) ?_
    exact xj_ireturn dX29_parts_21 rfl rfl ⟨hz, by rw [vPP_eq hz], f1, t1⟩
theorem A_X29_parts_2 {b nm mk : Nat} {l : List Int32}  (x : Int32) (hb : G[b]? = some (cO 10 [.int (nI nm), .int (nI mk)])) (hb2 : 82 < b) (hnm : nm < 6) (hmk : mk < 16) (htr : cTr l G) : xMetI E yX29_parts cX29_parts 3 (some FieldType.int) 1 3 19 [.ref b, .int x, .ref 32] G (acQ mk nm (vPP nm mk x) (tPP l) G) := by
  refine xMetI.of (lv := [some (.ref b), some (.int x), some (.ref 32)]) rfl rfl (Nat.le_of_ble_eq_true rfl) ?_
  refine xj_aload_n dX29_parts_0 rfl rfl ?_
  refine xj_bipush (v := 12) dX29_parts_1 rfl ?_
  refine xj_dV dX29_parts_3 q1788 kV_X4_ran (A_ran htr) (htr).h32 rfl rfl rfl rfl (Nat.le_of_ble_eq_true rfl) ⟨(Nat.le_of_ble_eq_true rfl), (Nat.le_of_ble_eq_true rfl)⟩ (Nat.le_of_ble_eq_true rfl) (Nat.le_of_ble_eq_true rfl) ?_
  rintro _ G1 ⟨rfl, g1, t1⟩
  have f1 : gfa [32, 33] G G1 := g1
  have b1 : G1[b]? = some (cO 10 [.int (nI nm), .int (nI mk)]) := (f1.2 b (List.getElem?_eq_some_iff.mp hb).1 (acb hb2)).trans hb
  refine xj_iload_n dX29_parts_6 rfl ?_
  refine xj_aload_n dX29_parts_7 rfl rfl ?_
  refine xj_callH dX29_parts_8 ⟨qn71, rfl⟩ kG_Parts_mark_2 (A_mark10 b1) b1 rfl rfl rfl (Nat.le_of_ble_eq_true rfl) ⟨(Nat.le_of_ble_eq_true rfl), (Nat.le_of_ble_eq_true rfl)⟩ (Nat.le_of_ble_eq_true rfl) (Nat.le_of_ble_eq_true rfl) xrv_t (xrv_k ?_)
  refine xj_aload_n dX29_parts_13 rfl rfl ?_
  refine xj_callH dX29_parts_14 ⟨qn73, rfl⟩ kG_Parts_number_2 (A_number10 b1) b1 rfl rfl rfl (Nat.le_of_ble_eq_true rfl) ⟨(Nat.le_of_ble_eq_true rfl), (Nat.le_of_ble_eq_true rfl)⟩ (Nat.le_of_ble_eq_true rfl) (Nat.le_of_ble_eq_true rfl) xrv_t (xrv_k ?_)
  refine xj_isub dX29_parts_19 ?_
  by_cases hz : mk = nm
  · subst hz
    exact xj_idivZ dX29_parts_20 (Int32.sub_self _) (xrm_R (Nat.le_of_ble_eq_true rfl) (Nat.le_of_ble_eq_true rfl) (Nat.le_of_ble_eq_true rfl)) (fun j => xjT_out (fun _ hx => by cases hx) ⟨rfl, rfl, f1.apps, t1.app⟩)
  · refine xj_idiv dX29_parts_20 (mn_ne hmk hnm hz) ?_
    exact xj_ireturn dX29_parts_21 rfl rfl ⟨hz, by rw [vPP_eq hz], f1, t1⟩
theorem A_X29_parts_3 {b nm mk : Nat} {l : List Int32}  (x : Int32) (hb : G[b]? = some (cO 11 [.int (nI nm), .int (nI mk)])) (hb2 : 82 < b) (hnm : nm < 6) (hmk : mk < 16) (htr : cTr l G) : xMetI E yX29_parts cX29_parts 3 (some FieldType.int) 1 3 19 [.ref b, .int x, .ref 32] G (acQ mk nm (vPP nm mk x) (tPP l) G) := by
  refine xMetI.of (lv := [some (.ref b), some (.int x), some (.ref 32)]) rfl rfl (Nat.le_of_ble_eq_true rfl) ?_
  refine xj_aload_n dX29_parts_0 rfl rfl ?_
  refine xj_bipush (v := 12) dX29_parts_1 rfl ?_
  refine xj_dV dX29_parts_3 q1788 kV_X4_ran (A_ran htr) (htr).h32 rfl rfl rfl rfl (Nat.le_of_ble_eq_true rfl) ⟨(Nat.le_of_ble_eq_true rfl), (Nat.le_of_ble_eq_true rfl)⟩ (Nat.le_of_ble_eq_true rfl) (Nat.le_of_ble_eq_true rfl) ?_
  rintro _ G1 ⟨rfl, g1, t1⟩
  have f1 : gfa [32, 33] G G1 := g1
  have b1 : G1[b]? = some (cO 11 [.int (nI nm), .int (nI mk)]) := (f1.2 b (List.getElem?_eq_some_iff.mp hb).1 (acb hb2)).trans hb
  refine xj_iload_n dX29_parts_6 rfl ?_
  refine xj_aload_n dX29_parts_7 rfl rfl ?_
  refine xj_callH dX29_parts_8 ⟨qn71, rfl⟩ kG_Parts_mark_3 (A_mark11 b1) b1 rfl rfl rfl (Nat.le_of_ble_eq_true rfl) ⟨(Nat.le_of_ble_eq_true rfl), (Nat.le_of_ble_eq_true rfl)⟩ (Nat.le_of_ble_eq_true rfl) (Nat.le_of_ble_eq_true rfl) xrv_t (xrv_k ?_)
  refine xj_aload_n dX29_parts_13 rfl rfl ?_
  refine xj_callH dX29_parts_14 ⟨qn73, rfl⟩ kG_Parts_number_3 (A_number11 b1) b1 rfl rfl rfl (Nat.le_of_ble_eq_true rfl) ⟨(Nat.le_of_ble_eq_true rfl), (Nat.le_of_ble_eq_true rfl)⟩ (Nat.le_of_ble_eq_true rfl) (Nat.le_of_ble_eq_true rfl) xrv_t (xrv_k ?_)
  refine xj_isub dX29_parts_19 ?_
  by_cases hz : mk = nm
  · subst hz
    exact xj_idivZ dX29_parts_20 (Int32.sub_self _) (xrm_R (Nat.le_of_ble_eq_true rfl) (Nat.le_of_ble_eq_true rfl) (Nat.le_of_ble_eq_true rfl)) (fun j => xjT_out (fun _ hx => by cases hx) ⟨rfl, rfl, f1.apps, t1.app⟩)
  · refine xj_idiv dX29_parts_20 (mn_ne hmk hnm hz) ?_
    exact xj_ireturn dX29_parts_21 rfl rfl ⟨hz, by rw [vPP_eq hz], f1, t1⟩
theorem A_X29_parts_4 {b nm mk : Nat} {l : List Int32}  (x : Int32) (hb : G[b]? = some (cO 12 [.int (nI nm), .int (nI mk)])) (hb2 : 82 < b) (hnm : nm < 6) (hmk : mk < 16) (htr : cTr l G) : xMetI E yX29_parts cX29_parts 3 (some FieldType.int) 1 3 19 [.ref b, .int x, .ref 32] G (acQ mk nm (vPP nm mk x) (tPP l) G) := by
  refine xMetI.of (lv := [some (.ref b), some (.int x), some (.ref 32)]) rfl rfl (Nat.le_of_ble_eq_true rfl) ?_
  refine xj_aload_n dX29_parts_0 rfl rfl ?_
  refine xj_bipush (v := 12) dX29_parts_1 rfl ?_
  refine xj_dV dX29_parts_3 q1788 kV_X4_ran (A_ran htr) (htr).h32 rfl rfl rfl rfl (Nat.le_of_ble_eq_true rfl) ⟨(Nat.le_of_ble_eq_true rfl), (Nat.le_of_ble_eq_true rfl)⟩ (Nat.le_of_ble_eq_true rfl) (Nat.le_of_ble_eq_true rfl) ?_
  rintro _ G1 ⟨rfl, g1, t1⟩
  have f1 : gfa [32, 33] G G1 := g1
  have b1 : G1[b]? = some (cO 12 [.int (nI nm), .int (nI mk)]) := (f1.2 b (List.getElem?_eq_some_iff.mp hb).1 (acb hb2)).trans hb
  refine xj_iload_n dX29_parts_6 rfl ?_
  refine xj_aload_n dX29_parts_7 rfl rfl ?_
  refine xj_callH dX29_parts_8 ⟨qn71, rfl⟩ kG_Parts_mark_4 (A_mark12 b1) b1 rfl rfl rfl (Nat.le_of_ble_eq_true rfl) ⟨(Nat.le_of_ble_eq_true rfl), (Nat.le_of_ble_eq_true rfl)⟩ (Nat.le_of_ble_eq_true rfl) (Nat.le_of_ble_eq_true rfl) xrv_t (xrv_k ?_)
  refine xj_aload_n dX29_parts_13 rfl rfl ?_
  refine xj_callH dX29_parts_14 ⟨qn73, rfl⟩ kG_Parts_number_4 (A_number12 b1) b1 rfl rfl rfl (Nat.le_of_ble_eq_true rfl) ⟨(Nat.le_of_ble_eq_true rfl), (Nat.le_of_ble_eq_true rfl)⟩ (Nat.le_of_ble_eq_true rfl) (Nat.le_of_ble_eq_true rfl) xrv_t (xrv_k ?_)
  refine xj_isub dX29_parts_19 ?_
  by_cases hz : mk = nm
  · subst hz
    exact xj_idivZ dX29_parts_20 (Int32.sub_self _) (xrm_R (Nat.le_of_ble_eq_true rfl) (Nat.le_of_ble_eq_true rfl) (Nat.le_of_ble_eq_true rfl)) (fun j => xjT_out (fun _ hx => by cases hx) ⟨rfl, rfl, f1.apps, t1.app⟩)
  · refine xj_idiv dX29_parts_20 (mn_ne hmk hnm hz) ?_
    exact xj_ireturn dX29_parts_21 rfl rfl ⟨hz, by rw [vPP_eq hz], f1, t1⟩
theorem A_X29_parts_5 {b nm mk : Nat} {l : List Int32}  (x : Int32) (hb : G[b]? = some (cO 13 [.int (nI nm), .int (nI mk)])) (hb2 : 82 < b) (hnm : nm < 6) (hmk : mk < 16) (htr : cTr l G) : xMetI E yX29_parts cX29_parts 3 (some FieldType.int) 1 3 19 [.ref b, .int x, .ref 32] G (acQ mk nm (vPP nm mk x) (tPP l) G) := by
  refine xMetI.of (lv := [some (.ref b), some (.int x), some (.ref 32)]) rfl rfl (Nat.le_of_ble_eq_true rfl) ?_
  refine xj_aload_n dX29_parts_0 rfl rfl ?_
  refine xj_bipush (v := 12) dX29_parts_1 rfl ?_
  refine xj_dV dX29_parts_3 q1788 kV_X4_ran (A_ran htr) (htr).h32 rfl rfl rfl rfl (Nat.le_of_ble_eq_true rfl) ⟨(Nat.le_of_ble_eq_true rfl), (Nat.le_of_ble_eq_true rfl)⟩ (Nat.le_of_ble_eq_true rfl) (Nat.le_of_ble_eq_true rfl) ?_
  rintro _ G1 ⟨rfl, g1, t1⟩
  have f1 : gfa [32, 33] G G1 := g1
  have b1 : G1[b]? = some (cO 13 [.int (nI nm), .int (nI mk)]) := (f1.2 b (List.getElem?_eq_some_iff.mp hb).1 (acb hb2)).trans hb
  refine xj_iload_n dX29_parts_6 rfl ?_
  refine xj_aload_n dX29_parts_7 rfl rfl ?_
  refine xj_callH dX29_parts_8 ⟨qn71, rfl⟩ kG_Parts_mark_5 (A_mark13 b1) b1 rfl rfl rfl (Nat.le_of_ble_eq_true rfl) ⟨(Nat.le_of_ble_eq_true rfl), (Nat.le_of_ble_eq_true rfl)⟩ (Nat.le_of_ble_eq_true rfl) (Nat.le_of_ble_eq_true rfl) xrv_t (xrv_k ?_)
  refine xj_aload_n dX29_parts_13 rfl rfl ?_
  refine xj_callH dX29_parts_14 ⟨qn73, rfl⟩ kG_Parts_number_5 (A_number13 b1) b1 rfl rfl rfl (Nat.le_of_ble_eq_true rfl) ⟨(Nat.le_of_ble_eq_true rfl), (Nat.le_of_ble_eq_true rfl)⟩ (Nat.le_of_ble_eq_true rfl) (Nat.le_of_ble_eq_true rfl) xrv_t (xrv_k ?_)
  refine xj_isub dX29_parts_19 ?_
  by_cases hz : mk = nm
  · subst hz
    exact xj_idivZ dX29_parts_20 (Int32.sub_self _) (xrm_R (Nat.le_of_ble_eq_true rfl) (Nat.le_of_ble_eq_true rfl) (Nat.le_of_ble_eq_true rfl)) (fun j => xjT_out (fun _ hx => by cases hx) ⟨rfl, rfl, f1.apps, t1.app⟩)
  · refine xj_idiv dX29_parts_20 (mn_ne hmk hnm hz) ?_
    exact xj_ireturn dX29_parts_21 rfl rfl ⟨hz, by rw [vPP_eq hz], f1, t1⟩
theorem A_X10_parts_2 {b nm mk : Nat} {l : List Int32}  (x : Int32) (hb : G[b]? = some (cO 10 [.int (nI nm), .int (nI mk)])) (hb2 : 82 < b) (hnm : nm < 6) (hmk : mk < 16) (htr : cTr l G) : xMet E yX10_parts cX10_parts 4 (some FieldType.int) 4 3 19 [.ref b, .int x, .ref 32] G (acQ mk nm (vLP 2 nm mk x) (tLP 2 nm mk l) G) := by
  refine xMet.of (lv := [some (.ref b), some (.int x), some (.ref 32), none]) rfl rfl (Nat.le_of_ble_eq_true rfl) ?_
  refine xj_aload_n dX10_parts_0 rfl rfl ?_
  refine xj_bipush (v := 31) dX10_parts_1 rfl ?_
  refine xj_dV dX10_parts_3 q1776 kV_X4_ran (A_ran htr) (htr).h32 rfl rfl rfl rfl (Nat.le_of_ble_eq_true rfl) ⟨(Nat.le_of_ble_eq_true rfl), (Nat.le_of_ble_eq_true rfl)⟩ (Nat.le_of_ble_eq_true rfl) (Nat.le_of_ble_eq_true rfl) ?_
  rintro _ G1 ⟨rfl, g1, t1⟩
  have f1 : gfa [32, 33] G G1 := g1
  have b1 : G1[b]? = some (cO 10 [.int (nI nm), .int (nI mk)]) := (f1.2 b (List.getElem?_eq_some_iff.mp hb).1 (acb hb2)).trans hb
  refine xj_aload_n dX10_parts_6 rfl rfl ?_
  refine xj_iload_n dX10_parts_7 rfl ?_
  refine xj_aload_n dX10_parts_8 rfl rfl ?_
  refine xj_callQI dX10_parts_9 qd4 kQ_Longer_parts (A_X29_parts_2 x b1 hb2 hnm hmk t1) b1 rfl rfl rfl (Nat.le_of_ble_eq_true rfl) ⟨(Nat.le_of_ble_eq_true rfl), (Nat.le_of_ble_eq_true rfl)⟩ (Nat.le_of_ble_eq_true rfl) (Nat.le_of_ble_eq_true rfl) (fun En w G2 h => ?_) (fun v G2 h => ?_)
  · obtain ⟨hz, hq, g2, t2⟩ := h
    cases hq
    exact xjT_out (fun _ hx => by cases hx) ⟨hz, rfl, f1.trans g2, by unfold tLP; rw [if_pos hz]; exact t2⟩
  obtain ⟨hz2, rfl, g2, t2⟩ := h
  have f2 : gfa [32, 33] G G2 := f1.trans g2
  have b2 : G2[b]? = some (cO 10 [.int (nI nm), .int (nI mk)]) := (f2.2 b (List.getElem?_eq_some_iff.mp hb).1 (acb hb2)).trans hb
  refine xj_istn3 dX10_parts_12 rfl ?_
  refine xj_iload_n dX10_parts_13 rfl ?_
  refine xj_aload_n dX10_parts_14 rfl rfl ?_
  refine xj_aload_n dX10_parts_15 rfl rfl ?_
  refine xj_cU dX10_parts_16 q1802 kU_X10_X10_X8_number (A_number10 b2) b2 rfl rfl rfl (Nat.le_of_ble_eq_true rfl) ⟨(Nat.le_of_ble_eq_true rfl), (Nat.le_of_ble_eq_true rfl)⟩ (Nat.le_of_ble_eq_true rfl) (Nat.le_of_ble_eq_true rfl) ?_
  refine xj_aload_n dX10_parts_19 rfl rfl ?_
  refine xj_callDI dX10_parts_20 qd6 kD_Longer_turns_2 (A_X27_turns_2 (nI nm) b2 hb2 hnm hmk t2) b2 rfl rfl rfl (Nat.le_of_ble_eq_true rfl) ⟨(Nat.le_of_ble_eq_true rfl), (Nat.le_of_ble_eq_true rfl)⟩ (Nat.le_of_ble_eq_true rfl) (Nat.le_of_ble_eq_true rfl) (fun _ _ _ h => h.elim) (fun v G3 h => ?_)
  obtain ⟨rfl, g3, t3⟩ := h
  have f3 : gfa [32, 33] G G3 := f2.trans g3
  have b3 : G3[b]? = some (cO 10 [.int (nI nm), .int (nI mk)]) := (f3.2 b (List.getElem?_eq_some_iff.mp hb).1 (acb hb2)).trans hb
  refine xj_iadd dX10_parts_23 ?_
  exact xj_ireturn dX10_parts_24 rfl rfl ⟨hz2, by unfold vLP; rw [if_neg hz2]; rfl, f3, by unfold tLP; rw [if_neg hz2]; exact t3⟩
theorem A_X10_parts_5 {b nm mk : Nat} {l : List Int32}  (x : Int32) (hb : G[b]? = some (cO 13 [.int (nI nm), .int (nI mk)])) (hb2 : 82 < b) (hnm : nm < 6) (hmk : mk < 16) (htr : cTr l G) : xMet E yX10_parts cX10_parts 4 (some FieldType.int) 4 3 19 [.ref b, .int x, .ref 32] G (acQ mk nm (vLP 5 nm mk x) (tLP 5 nm mk l) G) := by
  refine xMet.of (lv := [some (.ref b), some (.int x), some (.ref 32), none]) rfl rfl (Nat.le_of_ble_eq_true rfl) ?_
  refine xj_aload_n dX10_parts_0 rfl rfl ?_
  refine xj_bipush (v := 31) dX10_parts_1 rfl ?_
  refine xj_dV dX10_parts_3 q1776 kV_X4_ran (A_ran htr) (htr).h32 rfl rfl rfl rfl (Nat.le_of_ble_eq_true rfl) ⟨(Nat.le_of_ble_eq_true rfl), (Nat.le_of_ble_eq_true rfl)⟩ (Nat.le_of_ble_eq_true rfl) (Nat.le_of_ble_eq_true rfl) ?_
  rintro _ G1 ⟨rfl, g1, t1⟩
  have f1 : gfa [32, 33] G G1 := g1
  have b1 : G1[b]? = some (cO 13 [.int (nI nm), .int (nI mk)]) := (f1.2 b (List.getElem?_eq_some_iff.mp hb).1 (acb hb2)).trans hb
  refine xj_aload_n dX10_parts_6 rfl rfl ?_
  refine xj_iload_n dX10_parts_7 rfl ?_
  refine xj_aload_n dX10_parts_8 rfl rfl ?_
  refine xj_callQI dX10_parts_9 qd4 kQ_Longer_parts (A_X29_parts_5 x b1 hb2 hnm hmk t1) b1 rfl rfl rfl (Nat.le_of_ble_eq_true rfl) ⟨(Nat.le_of_ble_eq_true rfl), (Nat.le_of_ble_eq_true rfl)⟩ (Nat.le_of_ble_eq_true rfl) (Nat.le_of_ble_eq_true rfl) (fun En w G2 h => ?_) (fun v G2 h => ?_)
  · obtain ⟨hz, hq, g2, t2⟩ := h
    cases hq
    exact xjT_out (fun _ hx => by cases hx) ⟨hz, rfl, f1.trans g2, by unfold tLP; rw [if_pos hz]; exact t2⟩
  obtain ⟨hz2, rfl, g2, t2⟩ := h
  have f2 : gfa [32, 33] G G2 := f1.trans g2
  have b2 : G2[b]? = some (cO 13 [.int (nI nm), .int (nI mk)]) := (f2.2 b (List.getElem?_eq_some_iff.mp hb).1 (acb hb2)).trans hb
  refine xj_istn3 dX10_parts_12 rfl ?_
  refine xj_iload_n dX10_parts_13 rfl ?_
  refine xj_aload_n dX10_parts_14 rfl rfl ?_
  refine xj_aload_n dX10_parts_15 rfl rfl ?_
  refine xj_cU dX10_parts_16 q1802 kU_X13_X10_X8_number (A_number13 b2) b2 rfl rfl rfl (Nat.le_of_ble_eq_true rfl) ⟨(Nat.le_of_ble_eq_true rfl), (Nat.le_of_ble_eq_true rfl)⟩ (Nat.le_of_ble_eq_true rfl) (Nat.le_of_ble_eq_true rfl) ?_
  refine xj_aload_n dX10_parts_19 rfl rfl ?_
  refine xj_callDI dX10_parts_20 qd6 kD_Longer_turns_5 (A_X27_turns_5 (nI nm) b2 hb2 hnm hmk t2) b2 rfl rfl rfl (Nat.le_of_ble_eq_true rfl) ⟨(Nat.le_of_ble_eq_true rfl), (Nat.le_of_ble_eq_true rfl)⟩ (Nat.le_of_ble_eq_true rfl) (Nat.le_of_ble_eq_true rfl) (fun _ _ _ h => h.elim) (fun v G3 h => ?_)
  obtain ⟨rfl, g3, t3⟩ := h
  have f3 : gfa [32, 33] G G3 := f2.trans g3
  have b3 : G3[b]? = some (cO 13 [.int (nI nm), .int (nI mk)]) := (f3.2 b (List.getElem?_eq_some_iff.mp hb).1 (acb hb2)).trans hb
  refine xj_iadd dX10_parts_23 ?_
  exact xj_ireturn dX10_parts_24 rfl rfl ⟨hz2, by unfold vLP; rw [if_neg hz2]; rfl, f3, by unfold tLP; rw [if_neg hz2]; exact t3⟩
theorem A_X13_parts_5 {b nm mk : Nat} {l : List Int32}  (x : Int32) (hb : G[b]? = some (cO 13 [.int (nI nm), .int (nI mk)])) (hb2 : 82 < b) (hnm : nm < 6) (hmk : mk < 16) (htr : cTr l G) : xMet E yX13_parts cX13_parts 3 (some FieldType.int) 5 3 19 [.ref b, .int x, .ref 32] G (acQ mk nm (vP 5 nm mk x) (tP 5 nm mk l) G) := by
  refine xMet.of (lv := [some (.ref b), some (.int x), some (.ref 32)]) rfl rfl (Nat.le_of_ble_eq_true rfl) ?_
  refine xj_aload_n dX13_parts_0 rfl rfl ?_
  refine xj_bipush (v := 60) dX13_parts_1 rfl ?_
  refine xj_dV dX13_parts_3 q1812 kV_X4_ran (A_ran htr) (htr).h32 rfl rfl rfl rfl (Nat.le_of_ble_eq_true rfl) ⟨(Nat.le_of_ble_eq_true rfl), (Nat.le_of_ble_eq_true rfl)⟩ (Nat.le_of_ble_eq_true rfl) (Nat.le_of_ble_eq_true rfl) ?_
  rintro _ G1 ⟨rfl, g1, t1⟩
  have f1 : gfa [32, 33] G G1 := g1
  have b1 : G1[b]? = some (cO 13 [.int (nI nm), .int (nI mk)]) := (f1.2 b (List.getElem?_eq_some_iff.mp hb).1 (acb hb2)).trans hb
  refine xj_aload_n dX13_parts_6 rfl rfl ?_
  refine xj_iload_n dX13_parts_7 rfl ?_
  refine xj_aload_n dX13_parts_8 rfl rfl ?_
  refine xj_cU dX13_parts_9 q1813 kU_X13_X13_X8_mark (A_mark13 b1) b1 rfl rfl rfl (Nat.le_of_ble_eq_true rfl) ⟨(Nat.le_of_ble_eq_true rfl), (Nat.le_of_ble_eq_true rfl)⟩ (Nat.le_of_ble_eq_true rfl) (Nat.le_of_ble_eq_true rfl) ?_
  refine xj_isub dX13_parts_12 ?_
  refine xj_aload_n dX13_parts_13 rfl rfl ?_
  refine xj_callP dX13_parts_14 q1816 kP_X13_X10_parts (A_X10_parts_5 (x - nI mk) b1 hb2 hnm hmk t1) b1 rfl rfl rfl (Nat.le_of_ble_eq_true rfl) ⟨(Nat.le_of_ble_eq_true rfl), (Nat.le_of_ble_eq_true rfl)⟩ (Nat.le_of_ble_eq_true rfl) (Nat.le_of_ble_eq_true rfl) (fun En w G2 h => ?_) (fun v G2 h => ?_)
  · obtain ⟨hz, hq, g2, t2⟩ := h
    cases hq
    exact xjT_out (fun _ hx => by cases hx) ⟨hz, rfl, f1.trans g2, t2⟩
  obtain ⟨hz2, rfl, g2, t2⟩ := h
  have f2 : gfa [32, 33] G G2 := f1.trans g2
  have b2 : G2[b]? = some (cO 13 [.int (nI nm), .int (nI mk)]) := (f2.2 b (List.getElem?_eq_some_iff.mp hb).1 (acb hb2)).trans hb
  refine xj_ic5 dX13_parts_17 ?_
  refine xj_ixor dX13_parts_18 ?_
  exact xj_ireturn dX13_parts_19 rfl rfl ⟨hz2, rfl, f2, t2⟩
theorem A_X30_joins_0 {b nm mk : Nat} {l : List Int32}  (x : Int32) (hb : G[b]? = some (cO 8 [.int (nI nm), .int (nI mk)])) (hb2 : 82 < b) (hnm : nm < 6) (hmk : mk < 16) (htr : cTr l G) : xMetI E yX30_joins cX30_joins 4 (some FieldType.int) 6 3 19 [.ref b, .int x, .ref 32] G (acQ mk nm (vPJ 0 nm mk x) (tPJ 0 nm mk l) G) := by
  refine xMetI.of (lv := [some (.ref b), some (.int x), some (.ref 32), none]) rfl rfl (Nat.le_of_ble_eq_true rfl) ?_
  refine xj_aload_n dX30_joins_0 rfl rfl ?_
  refine xj_bipush (v := 13) dX30_joins_1 rfl ?_
  refine xj_dV dX30_joins_3 q1828 kV_X4_ran (A_ran htr) (htr).h32 rfl rfl rfl rfl (Nat.le_of_ble_eq_true rfl) ⟨(Nat.le_of_ble_eq_true rfl), (Nat.le_of_ble_eq_true rfl)⟩ (Nat.le_of_ble_eq_true rfl) (Nat.le_of_ble_eq_true rfl) ?_
  rintro _ G1 ⟨rfl, g1, t1⟩
  have f1 : gfa [32, 33] G G1 := g1
  have b1 : G1[b]? = some (cO 8 [.int (nI nm), .int (nI mk)]) := (f1.2 b (List.getElem?_eq_some_iff.mp hb).1 (acb hb2)).trans hb
  refine xj_aload_n dX30_joins_6 rfl rfl ?_
  refine xj_iload_n dX30_joins_7 rfl ?_
  refine xj_aload_n dX30_joins_8 rfl rfl ?_
  refine xj_callGI dX30_joins_9 ⟨qn74, rfl⟩ kG_Joins_bends_0 (A_X28_bends_0 x b1 hb2 hnm hmk t1) b1 rfl rfl rfl (Nat.le_of_ble_eq_true rfl) ⟨(Nat.le_of_ble_eq_true rfl), (Nat.le_of_ble_eq_true rfl)⟩ (Nat.le_of_ble_eq_true rfl) (Nat.le_of_ble_eq_true rfl) (fun _ _ _ h => h.elim) (fun v G2 h => ?_)
  obtain ⟨rfl, g2, t2⟩ := h
  have f2 : gfa [32, 33] G G2 := f1.trans g2
  have b2 : G2[b]? = some (cO 8 [.int (nI nm), .int (nI mk)]) := (f2.2 b (List.getElem?_eq_some_iff.mp hb).1 (acb hb2)).trans hb
  refine xj_istn3 dX30_joins_14 rfl ?_
  refine xj_iload_n dX30_joins_15 rfl ?_
  refine xj_aload_n dX30_joins_16 rfl rfl ?_
  refine xj_iload_n dX30_joins_17 rfl ?_
  refine xj_ic1 dX30_joins_18 ?_
  refine xj_iadd dX30_joins_19 ?_
  refine xj_aload_n dX30_joins_20 rfl rfl ?_
  refine xj_callGI dX30_joins_21 ⟨qn75, rfl⟩ kG_Joins_parts_0 (A_X29_parts_0 (x + 1) b2 hb2 hnm hmk t2) b2 rfl rfl rfl (Nat.le_of_ble_eq_true rfl) ⟨(Nat.le_of_ble_eq_true rfl), (Nat.le_of_ble_eq_true rfl)⟩ (Nat.le_of_ble_eq_true rfl) (Nat.le_of_ble_eq_true rfl) (fun En w G3 h => ?_) (fun v G3 h => ?_)
  · obtain ⟨hz, hq, g3, t3⟩ := h
    cases hq
    exact xjT_out (fun _ hx => by cases hx) ⟨hz, rfl, f2.trans g3, by rw [tPJ_0]; exact t3⟩
  obtain ⟨hz3, rfl, g3, t3⟩ := h
  have f3 : gfa [32, 33] G G3 := f2.trans g3
  have b3 : G3[b]? = some (cO 8 [.int (nI nm), .int (nI mk)]) := (f3.2 b (List.getElem?_eq_some_iff.mp hb).1 (acb hb2)).trans hb
  refine xj_ixor dX30_joins_26 ?_
  exact xj_ireturn dX30_joins_27 rfl rfl ⟨hz3, by rw [vPJ_0], f3, by rw [tPJ_0]; exact t3⟩
theorem A_X30_joins_1 {b nm mk : Nat} {l : List Int32}  (x : Int32) (hb : G[b]? = some (cO 9 [.int (nI nm), .int (nI mk)])) (hb2 : 82 < b) (hnm : nm < 6) (hmk : mk < 16) (htr : cTr l G) : xMetI E yX30_joins cX30_joins 4 (some FieldType.int) 6 3 19 [.ref b, .int x, .ref 32] G (acQ mk nm (vPJ 1 nm mk x) (tPJ 1 nm mk l) G) := by
  refine xMetI.of (lv := [some (.ref b), some (.int x), some (.ref 32), none]) rfl rfl (Nat.le_of_ble_eq_true rfl) ?_
  refine xj_aload_n dX30_joins_0 rfl rfl ?_
  refine xj_bipush (v := 13) dX30_joins_1 rfl ?_
  refine xj_dV dX30_joins_3 q1828 kV_X4_ran (A_ran htr) (htr).h32 rfl rfl rfl rfl (Nat.le_of_ble_eq_true rfl) ⟨(Nat.le_of_ble_eq_true rfl), (Nat.le_of_ble_eq_true rfl)⟩ (Nat.le_of_ble_eq_true rfl) (Nat.le_of_ble_eq_true rfl) ?_
  rintro _ G1 ⟨rfl, g1, t1⟩
  have f1 : gfa [32, 33] G G1 := g1
  have b1 : G1[b]? = some (cO 9 [.int (nI nm), .int (nI mk)]) := (f1.2 b (List.getElem?_eq_some_iff.mp hb).1 (acb hb2)).trans hb
  refine xj_aload_n dX30_joins_6 rfl rfl ?_
  refine xj_iload_n dX30_joins_7 rfl ?_
  refine xj_aload_n dX30_joins_8 rfl rfl ?_
  refine xj_callGI dX30_joins_9 ⟨qn74, rfl⟩ kG_Joins_bends_1 (A_X28_bends_1 x b1 hb2 hnm hmk t1) b1 rfl rfl rfl (Nat.le_of_ble_eq_true rfl) ⟨(Nat.le_of_ble_eq_true rfl), (Nat.le_of_ble_eq_true rfl)⟩ (Nat.le_of_ble_eq_true rfl) (Nat.le_of_ble_eq_true rfl) (fun _ _ _ h => h.elim) (fun v G2 h => ?_)
  obtain ⟨rfl, g2, t2⟩ := h
  have f2 : gfa [32, 33] G G2 := f1.trans g2
  have b2 : G2[b]? = some (cO 9 [.int (nI nm), .int (nI mk)]) := (f2.2 b (List.getElem?_eq_some_iff.mp hb).1 (acb hb2)).trans hb
  refine xj_istn3 dX30_joins_14 rfl ?_
  refine xj_iload_n dX30_joins_15 rfl ?_
  refine xj_aload_n dX30_joins_16 rfl rfl ?_
  refine xj_iload_n dX30_joins_17 rfl ?_
  refine xj_ic1 dX30_joins_18 ?_
  refine xj_iadd dX30_joins_19 ?_
  refine xj_aload_n dX30_joins_20 rfl rfl ?_
  refine xj_callGI dX30_joins_21 ⟨qn75, rfl⟩ kG_Joins_parts_1 (A_X29_parts_1 (x + 1) b2 hb2 hnm hmk t2) b2 rfl rfl rfl (Nat.le_of_ble_eq_true rfl) ⟨(Nat.le_of_ble_eq_true rfl), (Nat.le_of_ble_eq_true rfl)⟩ (Nat.le_of_ble_eq_true rfl) (Nat.le_of_ble_eq_true rfl) (fun En w G3 h => ?_) (fun v G3 h => ?_)
  · obtain ⟨hz, hq, g3, t3⟩ := h
    cases hq
    exact xjT_out (fun _ hx => by cases hx) ⟨hz, rfl, f2.trans g3, by rw [tPJ_1]; exact t3⟩
  obtain ⟨hz3, rfl, g3, t3⟩ := h
  have f3 : gfa [32, 33] G G3 := f2.trans g3
  have b3 : G3[b]? = some (cO 9 [.int (nI nm), .int (nI mk)]) := (f3.2 b (List.getElem?_eq_some_iff.mp hb).1 (acb hb2)).trans hb
  refine xj_ixor dX30_joins_26 ?_
  exact xj_ireturn dX30_joins_27 rfl rfl ⟨hz3, by rw [vPJ_1], f3, by rw [tPJ_1]; exact t3⟩
theorem A_X30_joins_2 {b nm mk : Nat} {l : List Int32}  (x : Int32) (hb : G[b]? = some (cO 10 [.int (nI nm), .int (nI mk)])) (hb2 : 82 < b) (hnm : nm < 6) (hmk : mk < 16) (htr : cTr l G) : xMetI E yX30_joins cX30_joins 4 (some FieldType.int) 6 3 19 [.ref b, .int x, .ref 32] G (acQ mk nm (vPJ 2 nm mk x) (tPJ 2 nm mk l) G) := by
  refine xMetI.of (lv := [some (.ref b), some (.int x), some (.ref 32), none]) rfl rfl (Nat.le_of_ble_eq_true rfl) ?_
  refine xj_aload_n dX30_joins_0 rfl rfl ?_
  refine xj_bipush (v := 13) dX30_joins_1 rfl ?_
  refine xj_dV dX30_joins_3 q1828 kV_X4_ran (A_ran htr) (htr).h32 rfl rfl rfl rfl (Nat.le_of_ble_eq_true rfl) ⟨(Nat.le_of_ble_eq_true rfl), (Nat.le_of_ble_eq_true rfl)⟩ (Nat.le_of_ble_eq_true rfl) (Nat.le_of_ble_eq_true rfl) ?_
  rintro _ G1 ⟨rfl, g1, t1⟩
  have f1 : gfa [32, 33] G G1 := g1
  have b1 : G1[b]? = some (cO 10 [.int (nI nm), .int (nI mk)]) := (f1.2 b (List.getElem?_eq_some_iff.mp hb).1 (acb hb2)).trans hb
  refine xj_aload_n dX30_joins_6 rfl rfl ?_
  refine xj_iload_n dX30_joins_7 rfl ?_
  refine xj_aload_n dX30_joins_8 rfl rfl ?_
  refine xj_callH dX30_joins_9 ⟨qn74, rfl⟩ kG_Joins_bends_2 (A_X10_bends_2 x b1 hb2 hnm hmk t1) b1 rfl rfl rfl (Nat.le_of_ble_eq_true rfl) ⟨(Nat.le_of_ble_eq_true rfl), (Nat.le_of_ble_eq_true rfl)⟩ (Nat.le_of_ble_eq_true rfl) (Nat.le_of_ble_eq_true rfl) (fun _ _ _ h => h.elim) (fun v G2 h => ?_)
  obtain ⟨rfl, g2, t2⟩ := h
  have f2 : gfa [32, 33] G G2 := f1.trans g2
  have b2 : G2[b]? = some (cO 10 [.int (nI nm), .int (nI mk)]) := (f2.2 b (List.getElem?_eq_some_iff.mp hb).1 (acb hb2)).trans hb
  refine xj_istn3 dX30_joins_14 rfl ?_
  refine xj_iload_n dX30_joins_15 rfl ?_
  refine xj_aload_n dX30_joins_16 rfl rfl ?_
  refine xj_iload_n dX30_joins_17 rfl ?_
  refine xj_ic1 dX30_joins_18 ?_
  refine xj_iadd dX30_joins_19 ?_
  refine xj_aload_n dX30_joins_20 rfl rfl ?_
  refine xj_callH dX30_joins_21 ⟨qn75, rfl⟩ kG_Joins_parts_2 (A_X10_parts_2 (x + 1) b2 hb2 hnm hmk t2) b2 rfl rfl rfl (Nat.le_of_ble_eq_true rfl) ⟨(Nat.le_of_ble_eq_true rfl), (Nat.le_of_ble_eq_true rfl)⟩ (Nat.le_of_ble_eq_true rfl) (Nat.le_of_ble_eq_true rfl) (fun En w G3 h => ?_) (fun v G3 h => ?_)
  · obtain ⟨hz, hq, g3, t3⟩ := h
    cases hq
    exact xjT_out (fun _ hx => by cases hx) ⟨hz, rfl, f2.trans g3, by rw [tPJ_2]; exact t3⟩
  obtain ⟨hz3, rfl, g3, t3⟩ := h
  have f3 : gfa [32, 33] G G3 := f2.trans g3
  have b3 : G3[b]? = some (cO 10 [.int (nI nm), .int (nI mk)]) := (f3.2 b (List.getElem?_eq_some_iff.mp hb).1 (acb hb2)).trans hb
  refine xj_ixor dX30_joins_26 ?_
  exact xj_ireturn dX30_joins_27 rfl rfl ⟨hz3, by rw [vPJ_2], f3, by rw [tPJ_2]; exact t3⟩
theorem A_X30_joins_3 {b nm mk : Nat} {l : List Int32}  (x : Int32) (hb : G[b]? = some (cO 11 [.int (nI nm), .int (nI mk)])) (hb2 : 82 < b) (hnm : nm < 6) (hmk : mk < 16) (htr : cTr l G) : xMetI E yX30_joins cX30_joins 4 (some FieldType.int) 6 3 19 [.ref b, .int x, .ref 32] G (acQ mk nm (vPJ 3 nm mk x) (tPJ 3 nm mk l) G) := by
  refine xMetI.of (lv := [some (.ref b), some (.int x), some (.ref 32), none]) rfl rfl (Nat.le_of_ble_eq_true rfl) ?_
  refine xj_aload_n dX30_joins_0 rfl rfl ?_
  refine xj_bipush (v := 13) dX30_joins_1 rfl ?_
  refine xj_dV dX30_joins_3 q1828 kV_X4_ran (A_ran htr) (htr).h32 rfl rfl rfl rfl (Nat.le_of_ble_eq_true rfl) ⟨(Nat.le_of_ble_eq_true rfl), (Nat.le_of_ble_eq_true rfl)⟩ (Nat.le_of_ble_eq_true rfl) (Nat.le_of_ble_eq_true rfl) ?_
  rintro _ G1 ⟨rfl, g1, t1⟩
  have f1 : gfa [32, 33] G G1 := g1
  have b1 : G1[b]? = some (cO 11 [.int (nI nm), .int (nI mk)]) := (f1.2 b (List.getElem?_eq_some_iff.mp hb).1 (acb hb2)).trans hb
  refine xj_aload_n dX30_joins_6 rfl rfl ?_
  refine xj_iload_n dX30_joins_7 rfl ?_
  refine xj_aload_n dX30_joins_8 rfl rfl ?_
  refine xj_callGI dX30_joins_9 ⟨qn74, rfl⟩ kG_Joins_bends_3 (A_X28_bends_3 x b1 hb2 hnm hmk t1) b1 rfl rfl rfl (Nat.le_of_ble_eq_true rfl) ⟨(Nat.le_of_ble_eq_true rfl), (Nat.le_of_ble_eq_true rfl)⟩ (Nat.le_of_ble_eq_true rfl) (Nat.le_of_ble_eq_true rfl) (fun _ _ _ h => h.elim) (fun v G2 h => ?_)
  obtain ⟨rfl, g2, t2⟩ := h
  have f2 : gfa [32, 33] G G2 := f1.trans g2
  have b2 : G2[b]? = some (cO 11 [.int (nI nm), .int (nI mk)]) := (f2.2 b (List.getElem?_eq_some_iff.mp hb).1 (acb hb2)).trans hb
  refine xj_istn3 dX30_joins_14 rfl ?_
  refine xj_iload_n dX30_joins_15 rfl ?_
  refine xj_aload_n dX30_joins_16 rfl rfl ?_
  refine xj_iload_n dX30_joins_17 rfl ?_
  refine xj_ic1 dX30_joins_18 ?_
  refine xj_iadd dX30_joins_19 ?_
  refine xj_aload_n dX30_joins_20 rfl rfl ?_
  refine xj_callGI dX30_joins_21 ⟨qn75, rfl⟩ kG_Joins_parts_3 (A_X29_parts_3 (x + 1) b2 hb2 hnm hmk t2) b2 rfl rfl rfl (Nat.le_of_ble_eq_true rfl) ⟨(Nat.le_of_ble_eq_true rfl), (Nat.le_of_ble_eq_true rfl)⟩ (Nat.le_of_ble_eq_true rfl) (Nat.le_of_ble_eq_true rfl) (fun En w G3 h => ?_) (fun v G3 h => ?_)
  · obtain ⟨hz, hq, g3, t3⟩ := h
    cases hq
    exact xjT_out (fun _ hx => by cases hx) ⟨hz, rfl, f2.trans g3, by rw [tPJ_3]; exact t3⟩
  obtain ⟨hz3, rfl, g3, t3⟩ := h
  have f3 : gfa [32, 33] G G3 := f2.trans g3
  have b3 : G3[b]? = some (cO 11 [.int (nI nm), .int (nI mk)]) := (f3.2 b (List.getElem?_eq_some_iff.mp hb).1 (acb hb2)).trans hb
  refine xj_ixor dX30_joins_26 ?_
  exact xj_ireturn dX30_joins_27 rfl rfl ⟨hz3, by rw [vPJ_3], f3, by rw [tPJ_3]; exact t3⟩
theorem A_X30_joins_4 {b nm mk : Nat} {l : List Int32}  (x : Int32) (hb : G[b]? = some (cO 12 [.int (nI nm), .int (nI mk)])) (hb2 : 82 < b) (hnm : nm < 6) (hmk : mk < 16) (htr : cTr l G) : xMetI E yX30_joins cX30_joins 4 (some FieldType.int) 6 3 19 [.ref b, .int x, .ref 32] G (acQ mk nm (vPJ 4 nm mk x) (tPJ 4 nm mk l) G) := by
  refine xMetI.of (lv := [some (.ref b), some (.int x), some (.ref 32), none]) rfl rfl (Nat.le_of_ble_eq_true rfl) ?_
  refine xj_aload_n dX30_joins_0 rfl rfl ?_
  refine xj_bipush (v := 13) dX30_joins_1 rfl ?_
  refine xj_dV dX30_joins_3 q1828 kV_X4_ran (A_ran htr) (htr).h32 rfl rfl rfl rfl (Nat.le_of_ble_eq_true rfl) ⟨(Nat.le_of_ble_eq_true rfl), (Nat.le_of_ble_eq_true rfl)⟩ (Nat.le_of_ble_eq_true rfl) (Nat.le_of_ble_eq_true rfl) ?_
  rintro _ G1 ⟨rfl, g1, t1⟩
  have f1 : gfa [32, 33] G G1 := g1
  have b1 : G1[b]? = some (cO 12 [.int (nI nm), .int (nI mk)]) := (f1.2 b (List.getElem?_eq_some_iff.mp hb).1 (acb hb2)).trans hb
  refine xj_aload_n dX30_joins_6 rfl rfl ?_
  refine xj_iload_n dX30_joins_7 rfl ?_
  refine xj_aload_n dX30_joins_8 rfl rfl ?_
  refine xj_callGI dX30_joins_9 ⟨qn74, rfl⟩ kG_Joins_bends_4 (A_X28_bends_4 x b1 hb2 hnm hmk t1) b1 rfl rfl rfl (Nat.le_of_ble_eq_true rfl) ⟨(Nat.le_of_ble_eq_true rfl), (Nat.le_of_ble_eq_true rfl)⟩ (Nat.le_of_ble_eq_true rfl) (Nat.le_of_ble_eq_true rfl) (fun _ _ _ h => h.elim) (fun v G2 h => ?_)
  obtain ⟨rfl, g2, t2⟩ := h
  have f2 : gfa [32, 33] G G2 := f1.trans g2
  have b2 : G2[b]? = some (cO 12 [.int (nI nm), .int (nI mk)]) := (f2.2 b (List.getElem?_eq_some_iff.mp hb).1 (acb hb2)).trans hb
  refine xj_istn3 dX30_joins_14 rfl ?_
  refine xj_iload_n dX30_joins_15 rfl ?_
  refine xj_aload_n dX30_joins_16 rfl rfl ?_
  refine xj_iload_n dX30_joins_17 rfl ?_
  refine xj_ic1 dX30_joins_18 ?_
  refine xj_iadd dX30_joins_19 ?_
  refine xj_aload_n dX30_joins_20 rfl rfl ?_
  refine xj_callGI dX30_joins_21 ⟨qn75, rfl⟩ kG_Joins_parts_4 (A_X29_parts_4 (x + 1) b2 hb2 hnm hmk t2) b2 rfl rfl rfl (Nat.le_of_ble_eq_true rfl) ⟨(Nat.le_of_ble_eq_true rfl), (Nat.le_of_ble_eq_true rfl)⟩ (Nat.le_of_ble_eq_true rfl) (Nat.le_of_ble_eq_true rfl) (fun En w G3 h => ?_) (fun v G3 h => ?_)
  · obtain ⟨hz, hq, g3, t3⟩ := h
    cases hq
    exact xjT_out (fun _ hx => by cases hx) ⟨hz, rfl, f2.trans g3, by rw [tPJ_4]; exact t3⟩
  obtain ⟨hz3, rfl, g3, t3⟩ := h
  have f3 : gfa [32, 33] G G3 := f2.trans g3
  have b3 : G3[b]? = some (cO 12 [.int (nI nm), .int (nI mk)]) := (f3.2 b (List.getElem?_eq_some_iff.mp hb).1 (acb hb2)).trans hb
  refine xj_ixor dX30_joins_26 ?_
  exact xj_ireturn dX30_joins_27 rfl rfl ⟨hz3, by rw [vPJ_4], f3, by rw [tPJ_4]; exact t3⟩
theorem A_X30_joins_5 {b nm mk : Nat} {l : List Int32}  (x : Int32) (hb : G[b]? = some (cO 13 [.int (nI nm), .int (nI mk)])) (hb2 : 82 < b) (hnm : nm < 6) (hmk : mk < 16) (htr : cTr l G) : xMetI E yX30_joins cX30_joins 4 (some FieldType.int) 6 3 19 [.ref b, .int x, .ref 32] G (acQ mk nm (vPJ 5 nm mk x) (tPJ 5 nm mk l) G) := by
  refine xMetI.of (lv := [some (.ref b), some (.int x), some (.ref 32), none]) rfl rfl (Nat.le_of_ble_eq_true rfl) ?_
  refine xj_aload_n dX30_joins_0 rfl rfl ?_
  refine xj_bipush (v := 13) dX30_joins_1 rfl ?_
  refine xj_dV dX30_joins_3 q1828 kV_X4_ran (A_ran htr) (htr).h32 rfl rfl rfl rfl (Nat.le_of_ble_eq_true rfl) ⟨(Nat.le_of_ble_eq_true rfl), (Nat.le_of_ble_eq_true rfl)⟩ (Nat.le_of_ble_eq_true rfl) (Nat.le_of_ble_eq_true rfl) ?_
  rintro _ G1 ⟨rfl, g1, t1⟩
  have f1 : gfa [32, 33] G G1 := g1
  have b1 : G1[b]? = some (cO 13 [.int (nI nm), .int (nI mk)]) := (f1.2 b (List.getElem?_eq_some_iff.mp hb).1 (acb hb2)).trans hb
  refine xj_aload_n dX30_joins_6 rfl rfl ?_
  refine xj_iload_n dX30_joins_7 rfl ?_
  refine xj_aload_n dX30_joins_8 rfl rfl ?_
  refine xj_callH dX30_joins_9 ⟨qn74, rfl⟩ kG_Joins_bends_5 (A_X10_bends_5 x b1 hb2 hnm hmk t1) b1 rfl rfl rfl (Nat.le_of_ble_eq_true rfl) ⟨(Nat.le_of_ble_eq_true rfl), (Nat.le_of_ble_eq_true rfl)⟩ (Nat.le_of_ble_eq_true rfl) (Nat.le_of_ble_eq_true rfl) (fun _ _ _ h => h.elim) (fun v G2 h => ?_)
  obtain ⟨rfl, g2, t2⟩ := h
  have f2 : gfa [32, 33] G G2 := f1.trans g2
  have b2 : G2[b]? = some (cO 13 [.int (nI nm), .int (nI mk)]) := (f2.2 b (List.getElem?_eq_some_iff.mp hb).1 (acb hb2)).trans hb
  refine xj_istn3 dX30_joins_14 rfl ?_
  refine xj_iload_n dX30_joins_15 rfl ?_
  refine xj_aload_n dX30_joins_16 rfl rfl ?_
  refine xj_iload_n dX30_joins_17 rfl ?_
  refine xj_ic1 dX30_joins_18 ?_
  refine xj_iadd dX30_joins_19 ?_
  refine xj_aload_n dX30_joins_20 rfl rfl ?_
  refine xj_callH dX30_joins_21 ⟨qn75, rfl⟩ kG_Joins_parts_5 (A_X13_parts_5 (x + 1) b2 hb2 hnm hmk t2) b2 rfl rfl rfl (Nat.le_of_ble_eq_true rfl) ⟨(Nat.le_of_ble_eq_true rfl), (Nat.le_of_ble_eq_true rfl)⟩ (Nat.le_of_ble_eq_true rfl) (Nat.le_of_ble_eq_true rfl) (fun En w G3 h => ?_) (fun v G3 h => ?_)
  · obtain ⟨hz, hq, g3, t3⟩ := h
    cases hq
    exact xjT_out (fun _ hx => by cases hx) ⟨hz, rfl, f2.trans g3, by rw [tPJ_5]; exact t3⟩
  obtain ⟨hz3, rfl, g3, t3⟩ := h
  have f3 : gfa [32, 33] G G3 := f2.trans g3
  have b3 : G3[b]? = some (cO 13 [.int (nI nm), .int (nI mk)]) := (f3.2 b (List.getElem?_eq_some_iff.mp hb).1 (acb hb2)).trans hb
  refine xj_ixor dX30_joins_26 ?_
  exact xj_ireturn dX30_joins_27 rfl rfl ⟨hz3, by rw [vPJ_5], f3, by rw [tPJ_5]; exact t3⟩
theorem A_X12_joins_4 {b nm mk : Nat} {l : List Int32}  (x : Int32) (hb : G[b]? = some (cO 12 [.int (nI nm), .int (nI mk)])) (hb2 : 82 < b) (hnm : nm < 6) (hmk : mk < 16) (htr : cTr l G) : xMet E yX12_joins cX12_joins 4 (some FieldType.int) 7 3 19 [.ref b, .int x, .ref 32] G (acQ mk nm (vJ 4 nm mk x) (tJ 4 nm mk l) G) := by
  refine xMet.of (lv := [some (.ref b), some (.int x), some (.ref 32), none]) rfl rfl (Nat.le_of_ble_eq_true rfl) ?_
  refine xj_aload_n dX12_joins_0 rfl rfl ?_
  refine xj_bipush (v := 50) dX12_joins_1 rfl ?_
  refine xj_dV dX12_joins_3 q1847 kV_X4_ran (A_ran htr) (htr).h32 rfl rfl rfl rfl (Nat.le_of_ble_eq_true rfl) ⟨(Nat.le_of_ble_eq_true rfl), (Nat.le_of_ble_eq_true rfl)⟩ (Nat.le_of_ble_eq_true rfl) (Nat.le_of_ble_eq_true rfl) ?_
  rintro _ G1 ⟨rfl, g1, t1⟩
  have f1 : gfa [32, 33] G G1 := g1
  have b1 : G1[b]? = some (cO 12 [.int (nI nm), .int (nI mk)]) := (f1.2 b (List.getElem?_eq_some_iff.mp hb).1 (acb hb2)).trans hb
  refine xj_aload_n dX12_joins_6 rfl rfl ?_
  refine xj_iload_n dX12_joins_7 rfl ?_
  refine xj_aload_n dX12_joins_8 rfl rfl ?_
  refine xj_callQI dX12_joins_9 qd10 kQ_Signed_joins (A_X30_joins_4 x b1 hb2 hnm hmk t1) b1 rfl rfl rfl (Nat.le_of_ble_eq_true rfl) ⟨(Nat.le_of_ble_eq_true rfl), (Nat.le_of_ble_eq_true rfl)⟩ (Nat.le_of_ble_eq_true rfl) (Nat.le_of_ble_eq_true rfl) (fun En w G2 h => ?_) (fun v G2 h => ?_)
  · obtain ⟨hz, hq, g2, t2⟩ := h
    cases hq
    exact xjT_out (fun _ hx => by cases hx) ⟨hz, rfl, f1.trans g2, by rw [tJ4_z hz]; exact t2⟩
  obtain ⟨hz2, rfl, g2, t2⟩ := h
  have f2 : gfa [32, 33] G G2 := f1.trans g2
  have b2 : G2[b]? = some (cO 12 [.int (nI nm), .int (nI mk)]) := (f2.2 b (List.getElem?_eq_some_iff.mp hb).1 (acb hb2)).trans hb
  refine xj_istn3 dX12_joins_12 rfl ?_
  refine xj_iload_n dX12_joins_13 rfl ?_
  refine xj_aload_n dX12_joins_14 rfl rfl ?_
  refine xj_aload_n dX12_joins_15 rfl rfl ?_
  refine xj_cU dX12_joins_16 q978 kU_X12_X12_X8_mark (A_mark12 b2) b2 rfl rfl rfl (Nat.le_of_ble_eq_true rfl) ⟨(Nat.le_of_ble_eq_true rfl), (Nat.le_of_ble_eq_true rfl)⟩ (Nat.le_of_ble_eq_true rfl) (Nat.le_of_ble_eq_true rfl) ?_
  refine xj_aload_n dX12_joins_19 rfl rfl ?_
  refine xj_callDI dX12_joins_20 qd12 kD_Signed_bends_4 (A_X28_bends_4 (nI mk) b2 hb2 hnm hmk t2) b2 rfl rfl rfl (Nat.le_of_ble_eq_true rfl) ⟨(Nat.le_of_ble_eq_true rfl), (Nat.le_of_ble_eq_true rfl)⟩ (Nat.le_of_ble_eq_true rfl) (Nat.le_of_ble_eq_true rfl) (fun _ _ _ h => h.elim) (fun v G3 h => ?_)
  obtain ⟨rfl, g3, t3⟩ := h
  have f3 : gfa [32, 33] G G3 := f2.trans g3
  have b3 : G3[b]? = some (cO 12 [.int (nI nm), .int (nI mk)]) := (f3.2 b (List.getElem?_eq_some_iff.mp hb).1 (acb hb2)).trans hb
  refine xj_isub dX12_joins_23 ?_
  exact xj_ireturn dX12_joins_24 rfl rfl ⟨hz2, by rw [vJ4_n hz2, vB_4], f3, by rw [tJ4_n hz2, tB_4]; exact t3⟩
theorem A_X13_joins_5 {b nm mk : Nat} {l : List Int32}  (x : Int32) (hb : G[b]? = some (cO 13 [.int (nI nm), .int (nI mk)])) (hb2 : 82 < b) (hnm : nm < 6) (hmk : mk < 16) (htr : cTr l G) : xMet E yX13_joins cX13_joins 4 (some FieldType.int) 7 3 19 [.ref b, .int x, .ref 32] G (acQ mk nm (vJ 5 nm mk x) (tJ 5 nm mk l) G) := by
  refine xMet.of (lv := [some (.ref b), some (.int x), some (.ref 32), none]) rfl rfl (Nat.le_of_ble_eq_true rfl) ?_
  refine xj_aload_n dX13_joins_0 rfl rfl ?_
  refine xj_bipush (v := 61) dX13_joins_1 rfl ?_
  refine xj_dV dX13_joins_3 q1812 kV_X4_ran (A_ran htr) (htr).h32 rfl rfl rfl rfl (Nat.le_of_ble_eq_true rfl) ⟨(Nat.le_of_ble_eq_true rfl), (Nat.le_of_ble_eq_true rfl)⟩ (Nat.le_of_ble_eq_true rfl) (Nat.le_of_ble_eq_true rfl) ?_
  rintro _ G1 ⟨rfl, g1, t1⟩
  have f1 : gfa [32, 33] G G1 := g1
  have b1 : G1[b]? = some (cO 13 [.int (nI nm), .int (nI mk)]) := (f1.2 b (List.getElem?_eq_some_iff.mp hb).1 (acb hb2)).trans hb
  refine xj_aload_n dX13_joins_6 rfl rfl ?_
  refine xj_iload_n dX13_joins_7 rfl ?_
  refine xj_aload_n dX13_joins_8 rfl rfl ?_
  refine xj_callQI dX13_joins_9 qd8 kQ_Mixed_joins (A_X30_joins_5 x b1 hb2 hnm hmk t1) b1 rfl rfl rfl (Nat.le_of_ble_eq_true rfl) ⟨(Nat.le_of_ble_eq_true rfl), (Nat.le_of_ble_eq_true rfl)⟩ (Nat.le_of_ble_eq_true rfl) (Nat.le_of_ble_eq_true rfl) (fun En w G2 h => ?_) (fun v G2 h => ?_)
  · obtain ⟨hz, hq, g2, t2⟩ := h
    cases hq
    exact xjT_out (fun _ hx => by cases hx) ⟨hz, rfl, f1.trans g2, by rw [tJ5_z hz]; exact t2⟩
  obtain ⟨hz2, rfl, g2, t2⟩ := h
  have f2 : gfa [32, 33] G G2 := f1.trans g2
  have b2 : G2[b]? = some (cO 13 [.int (nI nm), .int (nI mk)]) := (f2.2 b (List.getElem?_eq_some_iff.mp hb).1 (acb hb2)).trans hb
  refine xj_istn3 dX13_joins_12 rfl ?_
  refine xj_iload_n dX13_joins_13 rfl ?_
  refine xj_aload_n dX13_joins_14 rfl rfl ?_
  refine xj_ic1 dX13_joins_15 ?_
  refine xj_aload_n dX13_joins_16 rfl rfl ?_
  refine xj_dU dX13_joins_17 q1837 kU_X13_X13_X10_bends (A_X10_bends_5 1 b2 hb2 hnm hmk t2) b2 rfl rfl rfl (Nat.le_of_ble_eq_true rfl) ⟨(Nat.le_of_ble_eq_true rfl), (Nat.le_of_ble_eq_true rfl)⟩ (Nat.le_of_ble_eq_true rfl) (Nat.le_of_ble_eq_true rfl) ?_
  rintro _ G3 ⟨rfl, g3, t3⟩
  have f3 := f2.trans g3
  refine xj_iadd dX13_joins_20 ?_
  exact xj_ireturn dX13_joins_21 rfl rfl ⟨hz2, by rw [vJ5_n hz2], f3, by rw [tJ5_n hz2]; exact t3⟩
end A35
