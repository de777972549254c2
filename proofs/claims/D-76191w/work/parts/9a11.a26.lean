/-! ===== the class: all rows, one by one ===== -/
set_option maxRecDepth 100000
theorem K22 : xcls 22 RX22 TX22 4 tyX22 := ⟨rfl, in_X22, tyX22_ok, nmX22⟩
theorem K21 : xclsD 21 RX21 TX21 4 tyX21 := ⟨rfl, in_X21, tyX21_ok, by decide +kernel⟩
theorem K25 : xclsD 25 RX25 TX25 2 tyX25 := ⟨rfl, in_X25, tyX25_ok, by decide +kernel⟩
theorem K26 : xclsD 26 RX26 TX26 2 tyX26 := ⟨rfl, in_X26, tyX26_ok, by decide +kernel⟩
theorem kV_X0_goesNext : xsV yX0_goesNext cX0_goesNext 4 none 1 := ⟨q1317, qs54, q151, q1318, by decide, by decide, by decide +kernel⟩
theorem kI_X22_init : xsI yX22_init cX22_init 2 1 := ⟨q1270, q185, q1271, rfl, by decide, by decide, by decide +kernel⟩
theorem kV_X22_iterator : xsV yX22_iterator cX22_iterator 1 (some (FieldType.object "java/util/Iterator")) 0 := ⟨q1288, q1289, q185, q1290, by decide, by decide, by decide +kernel⟩
theorem kV_X22_next_2 : xsV yX22_next_2 cX22_next_2 1 (some (FieldType.array FieldType.byte)) 0 := ⟨q1312, q1313, q185, q1314, by decide, by decide, by decide +kernel⟩
theorem kI_X20_init : xsI yX20_init cX20_init 2 1 := ⟨q1245, q183, q1246, rfl, by decide, by decide, by decide +kernel⟩
theorem kF_X22_I_X22_hasNext : xsF "CoarserOrders$Rows" ⟨"java/util/Iterator", "hasNext", "()Z"⟩ yX22_hasNext cX22_hasNext 1 (some FieldType.boolean) 0 := ⟨q1295, q1294, q1300, q1298, q1296, q1297, q1299, q185, q1301, by decide, by decide +kernel⟩
theorem kF_X22_I_X22_next : xsF "CoarserOrders$Rows" ⟨"java/util/Iterator", "next", "()Ljava/lang/Object;"⟩ yX22_next cX22_next 1 (some (FieldType.object "java/lang/Object")) 0 := ⟨q1305, q1304, q1309, q1307, q1296, q1306, q1308, q185, q1310, by decide, by decide +kernel⟩
theorem kU_X21_X20_X21_worth : xsU "CoarserOrders$1Between" "CoarserOrders$Tally" ⟨"CoarserOrders$Tally", "worth", "([B)I"⟩ yX21_worth cX21_worth 4 (some FieldType.int) 1 := ⟨q1322, Or.inl q1321, q1330, q1331, q184, q1332, by decide, by decide +kernel⟩
theorem kU_X25_X20_X25_worth : xsU "CoarserOrders$1" "CoarserOrders$Tally" ⟨"CoarserOrders$Tally", "worth", "([B)I"⟩ yX25_worth cX25_worth 2 (some FieldType.int) 1 := ⟨q1322, Or.inl q1321, q1323, q1324, q193, q1325, by decide, by decide +kernel⟩
theorem kU_X26_X20_X26_worth : xsU "CoarserOrders$2" "CoarserOrders$Tally" ⟨"CoarserOrders$Tally", "worth", "([B)I"⟩ yX26_worth cX26_worth 2 (some FieldType.int) 1 := ⟨q1322, Or.inl q1321, q1335, q1336, q194, q1337, by decide, by decide +kernel⟩
/-- an iterator that has given i rows -/
def itr (n a r i : Nat) (G : xH) : Prop := G[a]? = some (cO 22 [.ref r, .int (nI (wy n - i)), .int (b1 (decide (0 < i))), .ref 0]) ∧ ∃ L : List Int32, G[r]? = some (cI 1 L) ∧ L.length = 6 ∧ rwL n (rb n (i - 1)) L
theorem drp_128 {n R : Nat} (hn : n < 7) : drp n R < 128 := lp_or_lt2 (k := 7) (N := n - 1) _ (fun p hp => if_lt_pow (by omega)) (n - 1) 0 0 (by omega) (by decide)
def btB (lo x hi : Nat) : Bool := decide (andn lo x = 0) && decide (andn x hi = 0)
theorem lc_0 {m : Nat} (h : m = 0) : lg_cmp (lN m) 0 = 0 := (lg_cmp_eq _ _).mpr (by rw [h]; rfl)
theorem lc_z {m : Nat} (hm : m < 2 ^ 64) (h : lg_cmp (lN m) 0 = 0) : m = 0 := (lN_0 hm).mp ((lg_cmp_eq _ _).mp h)
section A26
variable {E : xE} {G : xH} {d e : Nat → Value} {n : Nat}
theorem A_rowsInit {a : Nat}  (hv : cV d e n G) (h22 : G[a]? = some (cO 22 [.null, .int 0, .int 0, .null])) (ha0 : a ≠ 0) (ha4 : a ≠ 4) : xMet E yX22_init cX22_init 2 none 1 1 6 [.ref a, .ref 0] G (xre (fun v_ G' => v_ = none ∧ G'[a]? = some (cO 22 [.ref G.length, .int (nI (wy n)), .int 0, .ref 0]) ∧ G'[G.length]? = some (cI 1 (List.replicate 6 0)) ∧ G'.length = G.length + 1 ∧ ∀ i, i < G.length → i ≠ a → G'[i]? = G[i]?)) := by
  obtain ⟨hO, hN, hn0, h1n, hn6⟩ := id hv
  have hal := (List.getElem?_eq_some_iff.mp h22).1
  have hl4 := (List.getElem?_eq_some_iff.mp hN).1
  refine xMet.of (lv := [some (.ref a), some (.ref 0)]) rfl rfl (Nat.le_of_ble_eq_true rfl) ?_
  refine xj_aload_n dX22_init_0 rfl rfl ?_
  refine xj_aload_n dX22_init_1 rfl rfl ?_
  refine xj_putF dX22_init_2 K22 3 (by decide) q1277 rfl rfl rfl rfl h22 (Nat.le_of_ble_eq_true rfl) ?_
  refine xj_aload_n dX22_init_5 rfl rfl ?_
  refine xj_objInit dX22_init_6 q1272 qObjI qObjC ⟨(Nat.le_of_ble_eq_true rfl), (Nat.le_of_ble_eq_true rfl)⟩ (Nat.le_of_ble_eq_true rfl) ?_
  refine xj_aload_n dX22_init_9 rfl rfl ?_
  refine xj_bipush (v := 6) dX22_init_10 rfl ?_
  refine xj_newB dX22_init_12 q374 (show (6 : Int32) = nI 6 from rfl) (Nat.le_of_ble_eq_true rfl) (Nat.le_of_ble_eq_true rfl) (Nat.le_of_ble_eq_true rfl) ?_
  rw [List.length_set]
  have ja : ((G.set a (cO 22 [.null, .int 0, .int 0, .ref 0])) ++ [cI 1 (List.replicate 6 0)])[a]? = some (cO 22 [.null, .int 0, .int 0, .ref 0]) := by rw [List.getElem?_append_left (by rw [List.length_set]; exact hal)]; exact gset_self h22
  refine xj_putF dX22_init_14 K22 0 (by decide) q1274 rfl rfl rfl rfl ja (Nat.le_of_ble_eq_true rfl) ?_
  have jb : (((G.set a (cO 22 [.null, .int 0, .int 0, .ref 0])) ++ [cI 1 (List.replicate 6 0)]).set a (cO 22 [.ref G.length, .int 0, .int 0, .ref 0]))[a]? = some (cO 22 [.ref G.length, .int 0, .int 0, .ref 0]) := gset_self ja
  have hvb : cV d e n (((G.set a (cO 22 [.null, .int 0, .int 0, .ref 0])) ++ [cI 1 (List.replicate 6 0)]).set a (cO 22 [.ref G.length, .int 0, .int 0, .ref 0])) := ⟨by rw [gset ha0, List.getElem?_append_left (by rw [List.length_set]; omega), gset ha0]; exact hO, by rw [gset ha4, List.getElem?_append_left (by rw [List.length_set]; omega), gset ha4]; exact hN, hn0, h1n, hn6⟩
  have hOb := hvb.1
  refine xj_aload_n dX22_init_17 rfl rfl ?_
  refine xj_aload_n dX22_init_18 rfl rfl ?_
  refine xj_get dX22_init_19 K22 3 (by decide) q1277 jb rfl ?_
  refine xj_cVN dX22_init_22 q1273 kV_X0_manyRows (A_manyRows hvb) hOb rfl rfl rfl rfl (Nat.le_of_ble_eq_true rfl) ⟨(Nat.le_of_ble_eq_true rfl), (Nat.le_of_ble_eq_true rfl)⟩ (Nat.le_of_ble_eq_true rfl) (Nat.le_of_ble_eq_true rfl) ?_
  refine xj_put dX22_init_25 K22 1 (by decide) q1275 rfl rfl jb (Nat.le_of_ble_eq_true rfl) ?_
  refine xj_return dX22_init_28 rfl  ?_
  refine ⟨rfl, gset_self jb, ?_, ?_, fun i hi hne => ?_⟩
  · rw [gset (by omega), gset (by omega), List.getElem?_append_right (by rw [List.length_set]; exact Nat.le_refl _), List.length_set, Nat.sub_self]; rfl
  · rw [List.length_set, List.length_set, List.length_append, List.length_set, List.length_singleton]
  · rw [gset (fun q => hne q.symm), gset (fun q => hne q.symm), List.getElem?_append_left (by rw [List.length_set]; exact hi), gset (fun q => hne q.symm)]
theorem A_iterator {a r : Nat} {l u : Int32} {L : List Int32}  (hv : cV d e n G) (h22 : G[a]? = some (cO 22 [.ref r, .int l, .int u, .ref 0])) (hL : G[r]? = some (cI 1 L)) (hr0 : r ≠ 0) (hr4 : r ≠ 4) (hln : n ≤ L.length) : xMet E yX22_iterator cX22_iterator 1 (some (FieldType.object "java/util/Iterator")) 1 0 0 [.ref a] G (xre (fun v_ G' => v_ = some (.ref a) ∧ ∃ L' : List Int32, L'.length = L.length ∧ rwL n (rb n 0) L' ∧ G' = G.set r (cI 1 L'))) := by
  obtain ⟨hO, hN, hn0, h1n, hn6⟩ := id hv
  refine xMet.of (lv := [some (.ref a)]) rfl rfl (Nat.le_of_ble_eq_true rfl) ?_
  refine xj_aload_n dX22_iterator_0 rfl rfl ?_
  refine xj_get dX22_iterator_1 K22 3 (by decide) q1277 h22 rfl ?_
  refine xj_aload_n dX22_iterator_4 rfl rfl ?_
  refine xj_get dX22_iterator_5 K22 0 (by decide) q1274 h22 rfl ?_
  refine xj_dVN dX22_iterator_8 q1291 kV_X0_first (A_first hv hL hr0 hr4 hln) hO rfl rfl rfl rfl (Nat.le_of_ble_eq_true rfl) ⟨(Nat.le_of_ble_eq_true rfl), (Nat.le_of_ble_eq_true rfl)⟩ (Nat.le_of_ble_eq_true rfl) (Nat.le_of_ble_eq_true rfl) ?_
  rintro _ _ ⟨rfl, L', h1, h2, rfl⟩
  refine xj_aload_n dX22_iterator_11 rfl rfl ?_
  exact xj_areturn dX22_iterator_12 rfl (Or.inl ⟨_, rfl⟩) rfl ⟨rfl, L', h1, h2, rfl⟩
theorem A_hasNext {a r k : Nat} {u : Int32}  (h22 : G[a]? = some (cO 22 [.ref r, .int (nI k), .int u, .ref 0])) (hk : k < 1000) : xMet E yX22_hasNext cX22_hasNext 1 (some FieldType.boolean) 0 0 0 [.ref a] G (xrv (some (.int (b1 (decide (0 < k))))) G) := by
  refine xMet.of (lv := [some (.ref a)]) rfl rfl (Nat.le_of_ble_eq_true rfl) ?_
  refine xj_aload_n dX22_hasNext_0 rfl rfl ?_
  refine xj_get dX22_hasNext_1 K22 1 (by decide) q1275 h22 rfl ?_
  refine xj_sI_if_le (tgt := 11) (M := 12) dX22_hasNext_4 rfl (fun c4 k => by
      refine xj_ic0 dX22_hasNext_11 ?_
      exact k) (fun c4 k => by
      refine xj_ic1 dX22_hasNext_7 ?_
      refine xj_goto (tgt := 12) dX22_hasNext_8 rfl ?_
      exact k) ?_
  exact xj_ireturn dX22_hasNext_12 rfl (b1_10) (xrv_i (c_gt0 (by omega)))
theorem A_next2 {a r i : Nat}  (hv : cV d e n G) (hit : itr n a r i G) (hi : i < wy n) (har : r ≠ a) (hr0 : r ≠ 0) (hr4 : r ≠ 4) : xMet E yX22_next_2 cX22_next_2 1 (some (FieldType.array FieldType.byte)) 3 0 0 [.ref a] G (xre (fun v_ G' => v_ = some (.ref r) ∧ itr n a r (i + 1) G' ∧ gfr [r, a] G G')) := by
  obtain ⟨hO, hN, hn0, h1n, hn6⟩ := id hv
  have hwy := wy_in n (by omega)
  obtain ⟨h22, L, hL, hL6, hR⟩ := id hit
  rcases Nat.eq_zero_or_pos i with hi0 | hi0
  · refine xMet.of (lv := [some (.ref a)]) rfl rfl (Nat.le_of_ble_eq_true rfl) ?_
    refine xj_aload_n dX22_next_2_0 rfl rfl ?_
    refine xj_get dX22_next_2_1 K22 2 (by decide) q1276 h22 rfl ?_
    refine xj_if_eq (tgt := 18) dX22_next_2_4 rfl (fun c4 => ?_) (fun c4 => absurd (by rw [show b1 (decide (0 < i)) = 0 from by rw [decide_eq_false (by omega)]; rfl]) c4)
    have j22 := h22
    have jr := hL
    refine xj_aload_n dX22_next_2_18 rfl rfl ?_
    refine xj_ic1 dX22_next_2_19 ?_
    refine xj_put dX22_next_2_20 K22 2 (by decide) q1276 rfl rfl j22 (Nat.le_of_ble_eq_true rfl) ?_
    refine xj_aload_n dX22_next_2_23 rfl rfl ?_
    refine xj_dup dX22_next_2_24 rfl ?_
    refine xj_get dX22_next_2_25 K22 1 (by decide) q1275 (gset_self j22) rfl ?_
    refine xj_ic1 dX22_next_2_28 ?_
    refine xj_isub dX22_next_2_29 ?_
    refine xj_top (show _ = (nI (wy n - (i + 1))) from by rw [nI_sub1 (by omega), show wy n - i - 1 = wy n - (i + 1) by omega]) ?_
    refine xj_put dX22_next_2_30 K22 1 (by decide) q1275 rfl rfl (gset_self j22) (Nat.le_of_ble_eq_true rfl) ?_
    refine xj_aload_n dX22_next_2_33 rfl rfl ?_
    refine xj_get dX22_next_2_34 K22 0 (by decide) q1274 (gset_self (gset_self j22)) rfl ?_
    exact xj_areturn dX22_next_2_37 rfl (Or.inr ⟨_, rfl⟩) rfl ⟨rfl, ⟨by rw [gset_set, gset_self j22, decide_eq_true (Nat.succ_pos i)]; rfl, L, by rw [gset (fun q => har q.symm), gset (fun q => har q.symm)]; exact jr, (by omega), (by rw [show i = 0 by omega] at hR ⊢; exact hR)⟩, by rw [gset_set]; exact gfr.refl.set (by simp)⟩
  · refine xMet.of (lv := [some (.ref a)]) rfl rfl (Nat.le_of_ble_eq_true rfl) ?_
    refine xj_aload_n dX22_next_2_0 rfl rfl ?_
    refine xj_get dX22_next_2_1 K22 2 (by decide) q1276 h22 rfl ?_
    refine xj_if_eq (tgt := 18) dX22_next_2_4 rfl (fun c4 => absurd c4 (by rw [show b1 (decide (0 < i)) = 1 from by rw [decide_eq_true hi0]; rfl]; decide)) (fun c4 => ?_)
    refine xj_aload_n dX22_next_2_7 rfl rfl ?_
    refine xj_get dX22_next_2_8 K22 3 (by decide) q1277 h22 rfl ?_
    refine xj_aload_n dX22_next_2_11 rfl rfl ?_
    refine xj_get dX22_next_2_12 K22 0 (by decide) q1274 h22 rfl ?_
    refine xj_dVN dX22_next_2_15 q1315 kV_X0_goesNext (A_goesNext (i := i - 1) hv hL hr0 hr4 hR (by omega) (by omega)) hO rfl rfl rfl rfl (Nat.le_of_ble_eq_true rfl) ⟨(Nat.le_of_ble_eq_true rfl), (Nat.le_of_ble_eq_true rfl)⟩ (Nat.le_of_ble_eq_true rfl) (Nat.le_of_ble_eq_true rfl) ?_
    rintro _ _ ⟨rfl, M, hM, hMR, rfl⟩
    rw [show nxR n (i - 1) = rb n i from by unfold nxR; rw [if_pos (by omega), show i - 1 + 1 = i by omega]] at hMR
    have j22 : (G.set r (cI 1 M))[a]? = some (cO 22 [.ref r, .int (nI (wy n - i)), .int (b1 (decide (0 < i))), .ref 0]) := by rw [gset har]; exact h22
    have jr : (G.set r (cI 1 M))[r]? = some (cI 1 M) := gset_self hL
    refine xj_aload_n dX22_next_2_18 rfl rfl ?_
    refine xj_ic1 dX22_next_2_19 ?_
    refine xj_put dX22_next_2_20 K22 2 (by decide) q1276 rfl rfl j22 (Nat.le_of_ble_eq_true rfl) ?_
    refine xj_aload_n dX22_next_2_23 rfl rfl ?_
    refine xj_dup dX22_next_2_24 rfl ?_
    refine xj_get dX22_next_2_25 K22 1 (by decide) q1275 (gset_self j22) rfl ?_
    refine xj_ic1 dX22_next_2_28 ?_
    refine xj_isub dX22_next_2_29 ?_
    refine xj_top (show _ = (nI (wy n - (i + 1))) from by rw [nI_sub1 (by omega), show wy n - i - 1 = wy n - (i + 1) by omega]) ?_
    refine xj_put dX22_next_2_30 K22 1 (by decide) q1275 rfl rfl (gset_self j22) (Nat.le_of_ble_eq_true rfl) ?_
    refine xj_aload_n dX22_next_2_33 rfl rfl ?_
    refine xj_get dX22_next_2_34 K22 0 (by decide) q1274 (gset_self (gset_self j22)) rfl ?_
    exact xj_areturn dX22_next_2_37 rfl (Or.inr ⟨_, rfl⟩) rfl ⟨rfl, ⟨by rw [gset_set, gset_self j22, decide_eq_true (Nat.succ_pos i)]; rfl, M, by rw [gset (fun q => har q.symm), gset (fun q => har q.symm)]; exact jr, (by omega), hMR⟩, by rw [gset_set]; exact (gfr.refl.set (by simp)).set (by simp)⟩
theorem A_nextO {a r i : Nat}  (hv : cV d e n G) (hit : itr n a r i G) (hi : i < wy n) (har : r ≠ a) (hr0 : r ≠ 0) (hr4 : r ≠ 4) : xMet E yX22_next cX22_next 1 (some (FieldType.object "java/lang/Object")) 4 0 0 [.ref a] G (xre (fun v_ G' => v_ = some (.ref r) ∧ itr n a r (i + 1) G' ∧ gfr [r, a] G G')) := by
  have h22 := hit.1
  refine xMet.of (lv := [some (.ref a)]) rfl rfl (Nat.le_of_ble_eq_true rfl) ?_
  refine xj_aload_n dX22_next_0 rfl rfl ?_
  refine xj_dV dX22_next_1 q1311 kV_X22_next_2 (A_next2 hv hit hi har hr0 hr4) h22 rfl rfl rfl rfl (Nat.le_of_ble_eq_true rfl) ⟨(Nat.le_of_ble_eq_true rfl), (Nat.le_of_ble_eq_true rfl)⟩ (Nat.le_of_ble_eq_true rfl) (Nat.le_of_ble_eq_true rfl) ?_
  rintro _ H ⟨rfl, h1, h2⟩
  exact xj_areturn dX22_next_4 rfl (Or.inl ⟨_, rfl⟩) rfl ⟨rfl, h1, h2⟩
theorem A_tally21 {a : Nat} {u v : Int64}  (hT : G[a]? = some (cO 21 [.null, .long u, .long v, .ref 0])) : xMet E yX20_init cX20_init 2 none 0 0 0 [.ref a, .ref 0] G (xrv none (G.set a (cO 21 [.ref 0, .long u, .long v, .ref 0]))) := by
  refine xMet.of (lv := [some (.ref a), some (.ref 0)]) rfl rfl (Nat.le_of_ble_eq_true rfl) ?_
  refine xj_aload_n dX20_init_0 rfl rfl ?_
  refine xj_aload_n dX20_init_1 rfl rfl ?_
  refine xj_putFD dX20_init_2 K21 0 (by decide) q1251 rfl rfl rfl rfl hT (Nat.le_of_ble_eq_true rfl) ?_
  refine xj_aload_n dX20_init_5 rfl rfl ?_
  refine xj_objInit dX20_init_6 q1247 qObjI qObjC ⟨(Nat.le_of_ble_eq_true rfl), (Nat.le_of_ble_eq_true rfl)⟩ (Nat.le_of_ble_eq_true rfl) ?_
  exact xj_return dX20_init_9 rfl ⟨rfl, rfl⟩
theorem A_init21 {a : Nat} {u v : Int64}  (hT : G[a]? = some (cO 21 [.null, .long 0, .long 0, .null])) : xMet E yX21_init cX21_init 6 none 1 0 0 [.ref a, .ref 0, .long u, .long v] G (xrv none (G.set a (cO 21 [.ref 0, .long u, .long v, .ref 0]))) := by
  refine xMet.of (lv := [some (.ref a), some (.ref 0), some (.long u), none, some (.long v), none]) rfl rfl (Nat.le_of_ble_eq_true rfl) ?_
  refine xj_aload_n dX21_init_0 rfl rfl ?_
  refine xj_aload_n dX21_init_1 rfl rfl ?_
  refine xj_putFD dX21_init_2 K21 3 (by decide) q1250 rfl rfl rfl rfl hT (Nat.le_of_ble_eq_true rfl) ?_
  refine xj_aload_n dX21_init_5 rfl rfl ?_
  refine xj_lload_n dX21_init_6 rfl ?_
  refine xj_putFD dX21_init_7 K21 1 (by decide) q1248 rfl rfl rfl rfl (gset_self hT) (Nat.le_of_ble_eq_true rfl) ?_
  refine xj_aload_n dX21_init_10 rfl rfl ?_
  refine xj_lload dX21_init_11 rfl ?_
  refine xj_putFD dX21_init_13 K21 2 (by decide) q1249 rfl rfl rfl rfl (gset_self (gset_self hT)) (Nat.le_of_ble_eq_true rfl) ?_
  refine xj_aload_n dX21_init_16 rfl rfl ?_
  refine xj_aload_n dX21_init_17 rfl rfl ?_
  refine xj_cIN dX21_init_18 q1244 kI_X20_init (A_tally21 (gset_self (gset_self (gset_self hT)))) rfl rfl (Nat.le_of_ble_eq_true rfl) ⟨(Nat.le_of_ble_eq_true rfl), (Nat.le_of_ble_eq_true rfl)⟩ (Nat.le_of_ble_eq_true rfl) (Nat.le_of_ble_eq_true rfl) ?_
  exact xj_return dX21_init_21 rfl ⟨rfl, by rw [gset_set, gset_set, gset_set]⟩
theorem A_tally25 {a : Nat}  (hT : G[a]? = some (cO 25 [.null, .ref 0])) : xMet E yX20_init cX20_init 2 none 0 0 0 [.ref a, .ref 0] G (xrv none (G.set a (cO 25 [.ref 0, .ref 0]))) := by
  refine xMet.of (lv := [some (.ref a), some (.ref 0)]) rfl rfl (Nat.le_of_ble_eq_true rfl) ?_
  refine xj_aload_n dX20_init_0 rfl rfl ?_
  refine xj_aload_n dX20_init_1 rfl rfl ?_
  refine xj_putFD dX20_init_2 K25 0 (by decide) q1251 rfl rfl rfl rfl hT (Nat.le_of_ble_eq_true rfl) ?_
  refine xj_aload_n dX20_init_5 rfl rfl ?_
  refine xj_objInit dX20_init_6 q1247 qObjI qObjC ⟨(Nat.le_of_ble_eq_true rfl), (Nat.le_of_ble_eq_true rfl)⟩ (Nat.le_of_ble_eq_true rfl) ?_
  exact xj_return dX20_init_9 rfl ⟨rfl, rfl⟩
theorem A_init25 {a : Nat}  (hT : G[a]? = some (cO 25 [.null, .null])) : xMet E yX25_init cX25_init 2 none 1 0 0 [.ref a, .ref 0] G (xrv none (G.set a (cO 25 [.ref 0, .ref 0]))) := by
  refine xMet.of (lv := [some (.ref a), some (.ref 0)]) rfl rfl (Nat.le_of_ble_eq_true rfl) ?_
  refine xj_aload_n dX25_init_0 rfl rfl ?_
  refine xj_aload_n dX25_init_1 rfl rfl ?_
  refine xj_putFD dX25_init_2 K25 1 (by decide) q1867 rfl rfl rfl rfl hT (Nat.le_of_ble_eq_true rfl) ?_
  refine xj_aload_n dX25_init_5 rfl rfl ?_
  refine xj_aload_n dX25_init_6 rfl rfl ?_
  refine xj_cIN dX25_init_7 q1866 kI_X20_init (A_tally25 (gset_self hT)) rfl rfl (Nat.le_of_ble_eq_true rfl) ⟨(Nat.le_of_ble_eq_true rfl), (Nat.le_of_ble_eq_true rfl)⟩ (Nat.le_of_ble_eq_true rfl) (Nat.le_of_ble_eq_true rfl) ?_
  exact xj_return dX25_init_10 rfl ⟨rfl, by rw [gset_set]⟩
theorem A_tally26 {a : Nat}  (hT : G[a]? = some (cO 26 [.null, .ref 0])) : xMet E yX20_init cX20_init 2 none 0 0 0 [.ref a, .ref 0] G (xrv none (G.set a (cO 26 [.ref 0, .ref 0]))) := by
  refine xMet.of (lv := [some (.ref a), some (.ref 0)]) rfl rfl (Nat.le_of_ble_eq_true rfl) ?_
  refine xj_aload_n dX20_init_0 rfl rfl ?_
  refine xj_aload_n dX20_init_1 rfl rfl ?_
  refine xj_putFD dX20_init_2 K26 0 (by decide) q1251 rfl rfl rfl rfl hT (Nat.le_of_ble_eq_true rfl) ?_
  refine xj_aload_n dX20_init_5 rfl rfl ?_
  refine xj_objInit dX20_init_6 q1247 qObjI qObjC ⟨(Nat.le_of_ble_eq_true rfl), (Nat.le_of_ble_eq_true rfl)⟩ (Nat.le_of_ble_eq_true rfl) ?_
  exact xj_return dX20_init_9 rfl ⟨rfl, rfl⟩
theorem A_init26 {a : Nat}  (hT : G[a]? = some (cO 26 [.null, .null])) : xMet E yX26_init cX26_init 2 none 1 0 0 [.ref a, .ref 0] G (xrv none (G.set a (cO 26 [.ref 0, .ref 0]))) := by
  refine xMet.of (lv := [some (.ref a), some (.ref 0)]) rfl rfl (Nat.le_of_ble_eq_true rfl) ?_
  refine xj_aload_n dX26_init_0 rfl rfl ?_
  refine xj_aload_n dX26_init_1 rfl rfl ?_
  refine xj_putFD dX26_init_2 K26 1 (by decide) q1885 rfl rfl rfl rfl hT (Nat.le_of_ble_eq_true rfl) ?_
  refine xj_aload_n dX26_init_5 rfl rfl ?_
  refine xj_aload_n dX26_init_6 rfl rfl ?_
  refine xj_cIN dX26_init_7 q1884 kI_X20_init (A_tally26 (gset_self hT)) rfl rfl (Nat.le_of_ble_eq_true rfl) ⟨(Nat.le_of_ble_eq_true rfl), (Nat.le_of_ble_eq_true rfl)⟩ (Nat.le_of_ble_eq_true rfl) (Nat.le_of_ble_eq_true rfl) ?_
  exact xj_return dX26_init_10 rfl ⟨rfl, by rw [gset_set]⟩
theorem A_worth25 {a r R g : Nat} {L : List Int32}  (hT : G[a]? = some (cO 25 [.ref 0, .ref 0])) (hv : cV d e n G) (hL : G[r]? = some (cI 1 L)) (hR : rwL n R L) (hRm : R ∈ rws n) (hn3 : e 3 = .long (lN g)) (hg : g < 2 ^ 57) : xMet E yX25_worth cX25_worth 2 (some FieldType.int) 4 0 0 [.ref a, .ref r] G (xrv (some (.int (nI (if lst n g R then 1 else 0)))) G) := by
  obtain ⟨hO, hN, hn0, h1n, hn6⟩ := id hv
  refine xMet.of (lv := [some (.ref a), some (.ref r)]) rfl rfl (Nat.le_of_ble_eq_true rfl) ?_
  refine xj_aload_n dX25_worth_0 rfl rfl ?_
  refine xj_getD dX25_worth_1 K25 1 (by decide) q1867 hT rfl ?_
  refine xj_aload_n dX25_worth_4 rfl rfl ?_
  refine xj_cVN dX25_worth_5 q1326 kV_X0_isLeast (A_isLeast hv hn3 (Nat.lt_trans hg (by decide)) hL hR hRm) hO rfl rfl rfl rfl (Nat.le_of_ble_eq_true rfl) ⟨(Nat.le_of_ble_eq_true rfl), (Nat.le_of_ble_eq_true rfl)⟩ (Nat.le_of_ble_eq_true rfl) (Nat.le_of_ble_eq_true rfl) ?_
  refine xj_sI_if_eq (tgt := 15) (M := 16) dX25_worth_8 rfl (fun c8 k => by
      refine xj_ic0 dX25_worth_15 ?_
      exact k) (fun c8 k => by
      refine xj_ic1 dX25_worth_11 ?_
      refine xj_goto (tgt := 16) dX25_worth_12 rfl ?_
      exact k) ?_
  exact xj_ireturn dX25_worth_16 rfl rfl (xrv_i (by rw [b1_if]; cases lst n g R <;> rfl))
theorem A_worth26 {a r R g : Nat} {L : List Int32}  (hT : G[a]? = some (cO 26 [.ref 0, .ref 0])) (hv : cV d e n G) (hL : G[r]? = some (cI 1 L)) (hR : rwL n R L) (hRm : R ∈ rws n) (hn3 : e 3 = .long (lN g)) (hg : g < 2 ^ 57) : xMet E yX26_worth cX26_worth 2 (some FieldType.int) 4 0 0 [.ref a, .ref r] G (xrv (some (.int (nI (if lst n g R then pc64 (drp n R) else 0)))) G) := by
  obtain ⟨hO, hN, hn0, h1n, hn6⟩ := id hv
  refine xMet.of (lv := [some (.ref a), some (.ref r)]) rfl rfl (Nat.le_of_ble_eq_true rfl) ?_
  refine xj_aload_n dX26_worth_0 rfl rfl ?_
  refine xj_getD dX26_worth_1 K26 1 (by decide) q1885 hT rfl ?_
  refine xj_aload_n dX26_worth_4 rfl rfl ?_
  refine xj_cVN dX26_worth_5 q1338 kV_X0_isLeast (A_isLeast hv hn3 (Nat.lt_trans hg (by decide)) hL hR hRm) hO rfl rfl rfl rfl (Nat.le_of_ble_eq_true rfl) ⟨(Nat.le_of_ble_eq_true rfl), (Nat.le_of_ble_eq_true rfl)⟩ (Nat.le_of_ble_eq_true rfl) (Nat.le_of_ble_eq_true rfl) ?_
  refine xj_if_eq (tgt := 25) dX26_worth_8 rfl (fun c8 => ?_) (fun c8 => ?_)
  · refine xj_ic0 dX26_worth_25 ?_
    exact xj_ireturn dX26_worth_26 rfl rfl (xrv_i (by first | (rw [b1_z c8]; rfl) | (rw [b1_nz c8]; rfl)))
  · refine xj_aload_n dX26_worth_11 rfl rfl ?_
    refine xj_getD dX26_worth_12 K26 1 (by decide) q1885 hT rfl ?_
    refine xj_aload_n dX26_worth_15 rfl rfl ?_
    refine xj_cVN dX26_worth_16 q1339 kV_X0_dropSet (A_dropSet hv hL hR hRm) hO rfl rfl rfl rfl (Nat.le_of_ble_eq_true rfl) ⟨(Nat.le_of_ble_eq_true rfl), (Nat.le_of_ble_eq_true rfl)⟩ (Nat.le_of_ble_eq_true rfl) (Nat.le_of_ble_eq_true rfl) ?_
    refine xj_cS dX26_worth_19 q1340 kS_J7_bitCount (M_bitCount (drp_128 (by omega))) rfl rfl (Nat.le_of_ble_eq_true rfl) ⟨(Nat.le_of_ble_eq_true rfl), (Nat.le_of_ble_eq_true rfl)⟩ (Nat.le_of_ble_eq_true rfl) (Nat.le_of_ble_eq_true rfl) ?_
    refine xj_goto (tgt := 26) dX26_worth_22 rfl ?_
    exact xj_ireturn dX26_worth_26 rfl rfl (xrv_i (by first | (rw [b1_z c8]; rfl) | (rw [b1_nz c8]; rfl)))
theorem A_worth21 {a r R lo hi : Nat} {L : List Int32}  (hT : G[a]? = some (cO 21 [.ref 0, .long (lN lo), .long (lN hi), .ref 0])) (hv : cV d e n G) (hL : G[r]? = some (cI 1 L)) (hR : rwL n R L) (hRm : R ∈ rws n) (hlo : lo < 2 ^ 64) (hhi : hi < 2 ^ 64) : xMet E yX21_worth cX21_worth 4 (some FieldType.int) 4 0 0 [.ref a, .ref r] G (xrv (some (.int (nI (if btB lo (iv6 n R) hi then 1 else 0)))) G) := by
  obtain ⟨hO, hN, hn0, h1n, hn6⟩ := id hv
  have hiv := Nat.lt_trans (iv6_lt (by omega) hRm) (show 2 ^ 36 < 2 ^ 64 by decide)
  refine xMet.of (lv := [some (.ref a), some (.ref r), none, none]) rfl rfl (Nat.le_of_ble_eq_true rfl) ?_
  refine xj_aload_n dX21_worth_0 rfl rfl ?_
  refine xj_getD dX21_worth_1 K21 3 (by decide) q1250 hT rfl ?_
  refine xj_aload_n dX21_worth_4 rfl rfl ?_
  refine xj_cVN dX21_worth_5 q1333 kV_X0_swapped (A_swapped hv hL hR hRm) hO rfl rfl rfl rfl (Nat.le_of_ble_eq_true rfl) ⟨(Nat.le_of_ble_eq_true rfl), (Nat.le_of_ble_eq_true rfl)⟩ (Nat.le_of_ble_eq_true rfl) (Nat.le_of_ble_eq_true rfl) ?_
  refine xj_lstn2 dX21_worth_8 rfl ?_
  refine xj_aload_n dX21_worth_9 rfl rfl ?_
  refine xj_getD dX21_worth_10 K21 1 (by decide) q1248 hT rfl ?_
  refine xj_lload_n dX21_worth_13 rfl ?_
  refine xj_ldc2 dX21_worth_14 q1334 ?_
  refine xj_lxor dX21_worth_17 ?_
  refine xj_land dX21_worth_18 ?_
  rw [wb_andn hlo hiv]
  refine xj_lc0 dX21_worth_19 ?_
  refine xj_lcmp dX21_worth_20 ?_
  refine xj_if_ne (tgt := 43) dX21_worth_21 rfl (fun c21 => ?_) (fun c21 => ?_)
  · refine xj_ic0 dX21_worth_43 ?_
    exact xj_ireturn dX21_worth_44 rfl rfl (xrv_i (by unfold btB; first | (rw [decide_eq_false (fun q => c21 (lc_0 q))]; rfl) | (rw [decide_eq_true (lc_z (andn_lt hlo) c21), decide_eq_false (fun q => c36 (lc_0 q))]; rfl) | (rw [decide_eq_true (lc_z (andn_lt hlo) c21), decide_eq_true (lc_z (andn_lt hiv) c36)]; rfl)))
  · refine xj_lload_n dX21_worth_24 rfl ?_
    refine xj_aload_n dX21_worth_25 rfl rfl ?_
    refine xj_getD dX21_worth_26 K21 2 (by decide) q1249 hT rfl ?_
    refine xj_ldc2 dX21_worth_29 q1334 ?_
    refine xj_lxor dX21_worth_32 ?_
    refine xj_land dX21_worth_33 ?_
    rw [wb_andn hiv hhi]
    refine xj_lc0 dX21_worth_34 ?_
    refine xj_lcmp dX21_worth_35 ?_
    refine xj_if_ne (tgt := 43) dX21_worth_36 rfl (fun c36 => ?_) (fun c36 => ?_)
    · refine xj_ic0 dX21_worth_43 ?_
      exact xj_ireturn dX21_worth_44 rfl rfl (xrv_i (by unfold btB; first | (rw [decide_eq_false (fun q => c21 (lc_0 q))]; rfl) | (rw [decide_eq_true (lc_z (andn_lt hlo) c21), decide_eq_false (fun q => c36 (lc_0 q))]; rfl) | (rw [decide_eq_true (lc_z (andn_lt hlo) c21), decide_eq_true (lc_z (andn_lt hiv) c36)]; rfl)))
    · refine xj_ic1 dX21_worth_39 ?_
      refine xj_goto (tgt := 44) dX21_worth_40 rfl ?_
      exact xj_ireturn dX21_worth_44 rfl rfl (xrv_i (by unfold btB; first | (rw [decide_eq_false (fun q => c21 (lc_0 q))]; rfl) | (rw [decide_eq_true (lc_z (andn_lt hlo) c21), decide_eq_false (fun q => c36 (lc_0 q))]; rfl) | (rw [decide_eq_true (lc_z (andn_lt hlo) c21), decide_eq_true (lc_z (andn_lt hiv) c36)]; rfl)))
theorem A_ofAll21 {a : Nat} {f : Nat → Nat} {fs : List Value}  (hv : cV d e n G) (hT : G[a]? = some (cO 21 fs)) (hfs : fs[0]? = some (.ref 0)) (hl83 : 83 ≤ G.length) (hw : ∀ (H : xH) (i : Nat) (L : List Int32), i < wy n → (∀ j, j < G.length → H[j]? = G[j]?) → H[G.length + 1]? = some (cI 1 L) → rwL n (rb n i) L → xMet E yX21_worth cX21_worth 4 (some .int) 4 0 0 [.ref a, .ref (G.length + 1)] H (xrv (some (.int (nI (f i)))) H)) : xMet E yX20_ofAll cX20_ofAll 4 (some FieldType.int) 5 2 10 [.ref a] G (xre (fun v_ G' => v_ = some (.int (nI (lpN (fun i s => s + f i) 0 (wy n) 0))) ∧ gfa [] G G')) := by
  obtain ⟨hO, hN, hn0, h1n, hn6⟩ := id hv
  have hal := (List.getElem?_eq_some_iff.mp hT).1
  have hwy := wy_in n (by omega)
  refine xMet.of (lv := [some (.ref a), none, none, none]) rfl rfl (Nat.le_of_ble_eq_true rfl) ?_
  refine xj_ic0 dX20_ofAll_0 ?_
  refine xj_istn1 dX20_ofAll_1 rfl ?_
  refine xj_new (fs := [.null, .int 0, .int 0, .null]) dX20_ofAll_2 K22 q1267 q1268 q185 rfl (Nat.le_of_ble_eq_true rfl) (Nat.le_of_ble_eq_true rfl) ?_
  have hT1 : (G ++ [cO 22 [.null, .int 0, .int 0, .null]])[a]? = some (cO 21 fs) := by rw [List.getElem?_append_left hal]; exact hT
  have hv1 : cV d e n (G ++ [cO 22 [.null, .int 0, .int 0, .null]]) := ⟨by rw [List.getElem?_append_left (by omega)]; exact hO, by rw [List.getElem?_append_left (by omega)]; exact hN, hn0, h1n, hn6⟩
  refine xj_dup dX20_ofAll_5 rfl ?_
  refine xj_aload_n dX20_ofAll_6 rfl rfl ?_
  refine xj_getD dX20_ofAll_7 K21 0 (by decide) q1251 hT1 hfs ?_
  refine xj_dIN dX20_ofAll_10 q1269 kI_X22_init (A_rowsInit hv1 app_at (by omega) (by omega)) rfl rfl (Nat.le_of_ble_eq_true rfl) ⟨(Nat.le_of_ble_eq_true rfl), (Nat.le_of_ble_eq_true rfl)⟩ (Nat.le_of_ble_eq_true rfl) (Nat.le_of_ble_eq_true rfl) ?_
  rintro _ H0 ⟨rfl, k1, k2, k3, k4⟩
  rw [List.length_append, List.length_singleton] at k1 k2
  have hv2 : cV d e n H0 := ⟨(k4 0 (by rw [List.length_append]; omega) (by omega)).trans hv1.1, (k4 4 (by rw [List.length_append]; omega) (by omega)).trans hv1.2.1, hn0, h1n, hn6⟩
  refine xj_dV dX20_ofAll_13 q1287 kV_X22_iterator (A_iterator hv2 k1 k2 (by omega) (by omega) (by rw [List.length_replicate]; omega)) k1 rfl rfl rfl rfl (Nat.le_of_ble_eq_true rfl) ⟨(Nat.le_of_ble_eq_true rfl), (Nat.le_of_ble_eq_true rfl)⟩ (Nat.le_of_ble_eq_true rfl) (Nat.le_of_ble_eq_true rfl) ?_
  rintro _ _ ⟨rfl, L2, hL2, hL2R, rfl⟩
  rw [List.length_replicate] at hL2
  refine xj_astn2 dX20_ofAll_16 rfl rfl ?_
  have lp : ∀ (K : Nat) (i : Nat) (s : Nat) (H : xH), wy n - i < K → (i ≤ wy n) → (lpN (fun i s => s + f i) i (wy n - i) s = lpN (fun i s => s + f i) 0 (wy n) 0) → (itr n G.length (G.length + 1) i H) → (∀ j, j < G.length → H[j]? = G[j]?) → (H.length = G.length + 2) → xJ E (yX20_ofAll, cX20_ofAll, 4, (some FieldType.int), []) (xR 5 2 10) (xre (fun v_ G' => v_ = some (.int (nI (lpN (fun i s => s + f i) 0 (wy n) 0))) ∧ gfa [] G G')) 0 0 17 [some (.ref a), some (.int (nI s)), some (.ref G.length), none] [] H := by
    intro K
    induction K with
    | zero => intro i s H h; exact absurd h (Nat.not_lt_zero _)
    | succ K ih_lp =>
      intro i s H hK hi hs hit hfr hlH
      have hvH : cV d e n H := ⟨(hfr 0 (by omega)).trans hO, (hfr 4 (by omega)).trans hN, hn0, h1n, hn6⟩
      have h22 := hit.1
      refine xj_aload_n dX20_ofAll_17 rfl rfl ?_
      refine xj_cF dX20_ofAll_18 q1293 kF_X22_I_X22_hasNext (A_hasNext h22 (by omega)) h22 rfl rfl rfl (Nat.le_of_ble_eq_true rfl) ⟨(Nat.le_of_ble_eq_true rfl), (Nat.le_of_ble_eq_true rfl)⟩ (Nat.le_of_ble_eq_true rfl) (Nat.le_of_ble_eq_true rfl) ?_
      refine xj_if_eq (tgt := 47) dX20_ofAll_23 rfl (fun c23 => ?_) (fun c23 => ?_)
      · refine xj_iload_n dX20_ofAll_47 rfl ?_
        exact xj_ireturn dX20_ofAll_48 rfl rfl (by have hiw : i = wy n := (by have h := of_decide_eq_false (b1_z c23); omega); rw [hiw, Nat.sub_self] at hs; exact ⟨by rw [← hs]; rfl, by omega, fun j hj _ => hfr j hj⟩)
      · have hi2 : i < wy n := by have := of_decide_eq_true (b1_nz c23); omega
        refine xj_aload_n dX20_ofAll_26 rfl rfl ?_
        refine xj_dF dX20_ofAll_27 q1303 kF_X22_I_X22_next (A_nextO hvH hit hi2 (by omega) (by omega) (by omega)) h22 rfl rfl rfl (Nat.le_of_ble_eq_true rfl) ⟨(Nat.le_of_ble_eq_true rfl), (Nat.le_of_ble_eq_true rfl)⟩ (Nat.le_of_ble_eq_true rfl) (Nat.le_of_ble_eq_true rfl) ?_
        rintro _ H2 ⟨rfl, hit2, hf2⟩
        obtain ⟨-, L, hL, hL6, hR⟩ := id hit2
        rw [show i + 1 - 1 = i by omega] at hR
        have hfr2 : ∀ j, j < G.length → H2[j]? = G[j]? := fun j hj => (hf2.2 j (by simp only [List.mem_cons, List.not_mem_nil, or_false]; omega)).trans (hfr j hj)
        have hT2 := (hfr2 a hal).trans hT
        refine xj_castE dX20_ofAll_32 q1319 hL xnm_I1 ?_
        refine xj_astn3 dX20_ofAll_35 rfl rfl ?_
        refine xj_iload_n dX20_ofAll_36 rfl ?_
        refine xj_aload_n dX20_ofAll_37 rfl rfl ?_
        refine xj_aload_n dX20_ofAll_38 rfl rfl ?_
        refine xj_cU dX20_ofAll_39 q1320 kU_X21_X20_X21_worth (hw H2 i L hi2 hfr2 hL hR) hT2 rfl rfl rfl (Nat.le_of_ble_eq_true rfl) ⟨(Nat.le_of_ble_eq_true rfl), (Nat.le_of_ble_eq_true rfl)⟩ (Nat.le_of_ble_eq_true rfl) (Nat.le_of_ble_eq_true rfl) ?_
        refine xj_iadd dX20_ofAll_42 ?_
        rw [nI_add]
        refine xj_istn1 dX20_ofAll_43 rfl ?_
        refine xj_goto (tgt := 17) dX20_ofAll_44 rfl ?_
        exact xj_fg3 (ih_lp (i + 1) _ H2 (by omega) (by omega) (by rw [← hs, lp_step _ hi2]) hit2 hfr2 (by rw [hf2.1]; exact hlH))
  exact lp (wy n + 1) 0 0 _ (by omega) (by omega) rfl ⟨by rw [gset (by omega)]; exact k1, L2, gset_self k2, hL2, hL2R⟩ (fun j hj => by rw [gset (by omega), k4 j (by rw [List.length_append, List.length_singleton]; omega) (by omega), List.getElem?_append_left hj]) (by rw [List.length_set, k3, List.length_append, List.length_singleton])
theorem A_ofAll25 {a : Nat} {f : Nat → Nat} {fs : List Value}  (hv : cV d e n G) (hT : G[a]? = some (cO 25 fs)) (hfs : fs[0]? = some (.ref 0)) (hl83 : 83 ≤ G.length) (hw : ∀ (H : xH) (i : Nat) (L : List Int32), i < wy n → (∀ j, j < G.length → H[j]? = G[j]?) → H[G.length + 1]? = some (cI 1 L) → rwL n (rb n i) L → xMet E yX25_worth cX25_worth 2 (some .int) 4 0 0 [.ref a, .ref (G.length + 1)] H (xrv (some (.int (nI (f i)))) H)) : xMet E yX20_ofAll cX20_ofAll 4 (some FieldType.int) 5 2 10 [.ref a] G (xre (fun v_ G' => v_ = some (.int (nI (lpN (fun i s => s + f i) 0 (wy n) 0))) ∧ gfa [] G G')) := by
  obtain ⟨hO, hN, hn0, h1n, hn6⟩ := id hv
  have hal := (List.getElem?_eq_some_iff.mp hT).1
  have hwy := wy_in n (by omega)
  refine xMet.of (lv := [some (.ref a), none, none, none]) rfl rfl (Nat.le_of_ble_eq_true rfl) ?_
  refine xj_ic0 dX20_ofAll_0 ?_
  refine xj_istn1 dX20_ofAll_1 rfl ?_
  refine xj_new (fs := [.null, .int 0, .int 0, .null]) dX20_ofAll_2 K22 q1267 q1268 q185 rfl (Nat.le_of_ble_eq_true rfl) (Nat.le_of_ble_eq_true rfl) ?_
  have hT1 : (G ++ [cO 22 [.null, .int 0, .int 0, .null]])[a]? = some (cO 25 fs) := by rw [List.getElem?_append_left hal]; exact hT
  have hv1 : cV d e n (G ++ [cO 22 [.null, .int 0, .int 0, .null]]) := ⟨by rw [List.getElem?_append_left (by omega)]; exact hO, by rw [List.getElem?_append_left (by omega)]; exact hN, hn0, h1n, hn6⟩
  refine xj_dup dX20_ofAll_5 rfl ?_
  refine xj_aload_n dX20_ofAll_6 rfl rfl ?_
  refine xj_getD dX20_ofAll_7 K25 0 (by decide) q1251 hT1 hfs ?_
  refine xj_dIN dX20_ofAll_10 q1269 kI_X22_init (A_rowsInit hv1 app_at (by omega) (by omega)) rfl rfl (Nat.le_of_ble_eq_true rfl) ⟨(Nat.le_of_ble_eq_true rfl), (Nat.le_of_ble_eq_true rfl)⟩ (Nat.le_of_ble_eq_true rfl) (Nat.le_of_ble_eq_true rfl) ?_
  rintro _ H0 ⟨rfl, k1, k2, k3, k4⟩
  rw [List.length_append, List.length_singleton] at k1 k2
  have hv2 : cV d e n H0 := ⟨(k4 0 (by rw [List.length_append]; omega) (by omega)).trans hv1.1, (k4 4 (by rw [List.length_append]; omega) (by omega)).trans hv1.2.1, hn0, h1n, hn6⟩
  refine xj_dV dX20_ofAll_13 q1287 kV_X22_iterator (A_iterator hv2 k1 k2 (by omega) (by omega) (by rw [List.length_replicate]; omega)) k1 rfl rfl rfl rfl (Nat.le_of_ble_eq_true rfl) ⟨(Nat.le_of_ble_eq_true rfl), (Nat.le_of_ble_eq_true rfl)⟩ (Nat.le_of_ble_eq_true rfl) (Nat.le_of_ble_eq_true rfl) ?_
  rintro _ _ ⟨rfl, L2, hL2, hL2R, rfl⟩
  rw [List.length_replicate] at hL2
  refine xj_astn2 dX20_ofAll_16 rfl rfl ?_
  have lp : ∀ (K : Nat) (i : Nat) (s : Nat) (H : xH), wy n - i < K → (i ≤ wy n) → (lpN (fun i s => s + f i) i (wy n - i) s = lpN (fun i s => s + f i) 0 (wy n) 0) → (itr n G.length (G.length + 1) i H) → (∀ j, j < G.length → H[j]? = G[j]?) → (H.length = G.length + 2) → xJ E (yX20_ofAll, cX20_ofAll, 4, (some FieldType.int), []) (xR 5 2 10) (xre (fun v_ G' => v_ = some (.int (nI (lpN (fun i s => s + f i) 0 (wy n) 0))) ∧ gfa [] G G')) 0 0 17 [some (.ref a), some (.int (nI s)), some (.ref G.length), none] [] H := by
    intro K
    induction K with
    | zero => intro i s H h; exact absurd h (Nat.not_lt_zero _)
    | succ K ih_lp =>
      intro i s H hK hi hs hit hfr hlH
      have hvH : cV d e n H := ⟨(hfr 0 (by omega)).trans hO, (hfr 4 (by omega)).trans hN, hn0, h1n, hn6⟩
      have h22 := hit.1
      refine xj_aload_n dX20_ofAll_17 rfl rfl ?_
      refine xj_cF dX20_ofAll_18 q1293 kF_X22_I_X22_hasNext (A_hasNext h22 (by omega)) h22 rfl rfl rfl (Nat.le_of_ble_eq_true rfl) ⟨(Nat.le_of_ble_eq_true rfl), (Nat.le_of_ble_eq_true rfl)⟩ (Nat.le_of_ble_eq_true rfl) (Nat.le_of_ble_eq_true rfl) ?_
      refine xj_if_eq (tgt := 47) dX20_ofAll_23 rfl (fun c23 => ?_) (fun c23 => ?_)
      · refine xj_iload_n dX20_ofAll_47 rfl ?_
        exact xj_ireturn dX20_ofAll_48 rfl rfl (by have hiw : i = wy n := (by have h := of_decide_eq_false (b1_z c23); omega); rw [hiw, Nat.sub_self] at hs; exact ⟨by rw [← hs]; rfl, by omega, fun j hj _ => hfr j hj⟩)
      · have hi2 : i < wy n := by have := of_decide_eq_true (b1_nz c23); omega
        refine xj_aload_n dX20_ofAll_26 rfl rfl ?_
        refine xj_dF dX20_ofAll_27 q1303 kF_X22_I_X22_next (A_nextO hvH hit hi2 (by omega) (by omega) (by omega)) h22 rfl rfl rfl (Nat.le_of_ble_eq_true rfl) ⟨(Nat.le_of_ble_eq_true rfl), (Nat.le_of_ble_eq_true rfl)⟩ (Nat.le_of_ble_eq_true rfl) (Nat.le_of_ble_eq_true rfl) ?_
        rintro _ H2 ⟨rfl, hit2, hf2⟩
        obtain ⟨-, L, hL, hL6, hR⟩ := id hit2
        rw [show i + 1 - 1 = i by omega] at hR
        have hfr2 : ∀ j, j < G.length → H2[j]? = G[j]? := fun j hj => (hf2.2 j (by simp only [List.mem_cons, List.not_mem_nil, or_false]; omega)).trans (hfr j hj)
        have hT2 := (hfr2 a hal).trans hT
        refine xj_castE dX20_ofAll_32 q1319 hL xnm_I1 ?_
        refine xj_astn3 dX20_ofAll_35 rfl rfl ?_
        refine xj_iload_n dX20_ofAll_36 rfl ?_
        refine xj_aload_n dX20_ofAll_37 rfl rfl ?_
        refine xj_aload_n dX20_ofAll_38 rfl rfl ?_
        refine xj_cU dX20_ofAll_39 q1320 kU_X25_X20_X25_worth (hw H2 i L hi2 hfr2 hL hR) hT2 rfl rfl rfl (Nat.le_of_ble_eq_true rfl) ⟨(Nat.le_of_ble_eq_true rfl), (Nat.le_of_ble_eq_true rfl)⟩ (Nat.le_of_ble_eq_true rfl) (Nat.le_of_ble_eq_true rfl) ?_
        refine xj_iadd dX20_ofAll_42 ?_
        rw [nI_add]
        refine xj_istn1 dX20_ofAll_43 rfl ?_
        refine xj_goto (tgt := 17) dX20_ofAll_44 rfl ?_
        exact xj_fg3 (ih_lp (i + 1) _ H2 (by omega) (by omega) (by rw [← hs, lp_step _ hi2]) hit2 hfr2 (by rw [hf2.1]; exact hlH))
  exact lp (wy n + 1) 0 0 _ (by omega) (by omega) rfl ⟨by rw [gset (by omega)]; exact k1, L2, gset_self k2, hL2, hL2R⟩ (fun j hj => by rw [gset (by omega), k4 j (by rw [List.length_append, List.length_singleton]; omega) (by omega), List.getElem?_append_left hj]) (by rw [List.length_set, k3, List.length_append, List.length_singleton])
theorem A_ofAll26 {a : Nat} {f : Nat → Nat} {fs : List Value}  (hv : cV d e n G) (hT : G[a]? = some (cO 26 fs)) (hfs : fs[0]? = some (.ref 0)) (hl83 : 83 ≤ G.length) (hw : ∀ (H : xH) (i : Nat) (L : List Int32), i < wy n → (∀ j, j < G.length → H[j]? = G[j]?) → H[G.length + 1]? = some (cI 1 L) → rwL n (rb n i) L → xMet E yX26_worth cX26_worth 2 (some .int) 4 0 0 [.ref a, .ref (G.length + 1)] H (xrv (some (.int (nI (f i)))) H)) : xMet E yX20_ofAll cX20_ofAll 4 (some FieldType.int) 5 2 10 [.ref a] G (xre (fun v_ G' => v_ = some (.int (nI (lpN (fun i s => s + f i) 0 (wy n) 0))) ∧ gfa [] G G')) := by
  obtain ⟨hO, hN, hn0, h1n, hn6⟩ := id hv
  have hal := (List.getElem?_eq_some_iff.mp hT).1
  have hwy := wy_in n (by omega)
  refine xMet.of (lv := [some (.ref a), none, none, none]) rfl rfl (Nat.le_of_ble_eq_true rfl) ?_
  refine xj_ic0 dX20_ofAll_0 ?_
  refine xj_istn1 dX20_ofAll_1 rfl ?_
  refine xj_new (fs := [.null, .int 0, .int 0, .null]) dX20_ofAll_2 K22 q1267 q1268 q185 rfl (Nat.le_of_ble_eq_true rfl) (Nat.le_of_ble_eq_true rfl) ?_
  have hT1 : (G ++ [cO 22 [.null, .int 0, .int 0, .null]])[a]? = some (cO 26 fs) := by rw [List.getElem?_append_left hal]; exact hT
  have hv1 : cV d e n (G ++ [cO 22 [.null, .int 0, .int 0, .null]]) := ⟨by rw [List.getElem?_append_left (by omega)]; exact hO, by rw [List.getElem?_append_left (by omega)]; exact hN, hn0, h1n, hn6⟩
  refine xj_dup dX20_ofAll_5 rfl ?_
  refine xj_aload_n dX20_ofAll_6 rfl rfl ?_
  refine xj_getD dX20_ofAll_7 K26 0 (by decide) q1251 hT1 hfs ?_
  refine xj_dIN dX20_ofAll_10 q1269 kI_X22_init (A_rowsInit hv1 app_at (by omega) (by omega)) rfl rfl (Nat.le_of_ble_eq_true rfl) ⟨(Nat.le_of_ble_eq_true rfl), (Nat.le_of_ble_eq_true rfl)⟩ (Nat.le_of_ble_eq_true rfl) (Nat.le_of_ble_eq_true rfl) ?_
  rintro _ H0 ⟨rfl, k1, k2, k3, k4⟩
  rw [List.length_append, List.length_singleton] at k1 k2
  have hv2 : cV d e n H0 := ⟨(k4 0 (by rw [List.length_append]; omega) (by omega)).trans hv1.1, (k4 4 (by rw [List.length_append]; omega) (by omega)).trans hv1.2.1, hn0, h1n, hn6⟩
  refine xj_dV dX20_ofAll_13 q1287 kV_X22_iterator (A_iterator hv2 k1 k2 (by omega) (by omega) (by rw [List.length_replicate]; omega)) k1 rfl rfl rfl rfl (Nat.le_of_ble_eq_true rfl) ⟨(Nat.le_of_ble_eq_true rfl), (Nat.le_of_ble_eq_true rfl)⟩ (Nat.le_of_ble_eq_true rfl) (Nat.le_of_ble_eq_true rfl) ?_
  rintro _ _ ⟨rfl, L2, hL2, hL2R, rfl⟩
  rw [List.length_replicate] at hL2
  refine xj_astn2 dX20_ofAll_16 rfl rfl ?_
  have lp : ∀ (K : Nat) (i : Nat) (s : Nat) (H : xH), wy n - i < K → (i ≤ wy n) → (lpN (fun i s => s + f i) i (wy n - i) s = lpN (fun i s => s + f i) 0 (wy n) 0) → (itr n G.length (G.length + 1) i H) → (∀ j, j < G.length → H[j]? = G[j]?) → (H.length = G.length + 2) → xJ E (yX20_ofAll, cX20_ofAll, 4, (some FieldType.int), []) (xR 5 2 10) (xre (fun v_ G' => v_ = some (.int (nI (lpN (fun i s => s + f i) 0 (wy n) 0))) ∧ gfa [] G G')) 0 0 17 [some (.ref a), some (.int (nI s)), some (.ref G.length), none] [] H := by
    intro K
    induction K with
    | zero => intro i s H h; exact absurd h (Nat.not_lt_zero _)
    | succ K ih_lp =>
      intro i s H hK hi hs hit hfr hlH
      have hvH : cV d e n H := ⟨(hfr 0 (by omega)).trans hO, (hfr 4 (by omega)).trans hN, hn0, h1n, hn6⟩
      have h22 := hit.1
      refine xj_aload_n dX20_ofAll_17 rfl rfl ?_
      refine xj_cF dX20_ofAll_18 q1293 kF_X22_I_X22_hasNext (A_hasNext h22 (by omega)) h22 rfl rfl rfl (Nat.le_of_ble_eq_true rfl) ⟨(Nat.le_of_ble_eq_true rfl), (Nat.le_of_ble_eq_true rfl)⟩ (Nat.le_of_ble_eq_true rfl) (Nat.le_of_ble_eq_true rfl) ?_
      refine xj_if_eq (tgt := 47) dX20_ofAll_23 rfl (fun c23 => ?_) (fun c23 => ?_)
      · refine xj_iload_n dX20_ofAll_47 rfl ?_
        exact xj_ireturn dX20_ofAll_48 rfl rfl (by have hiw : i = wy n := (by have h := of_decide_eq_false (b1_z c23); omega); rw [hiw, Nat.sub_self] at hs; exact ⟨by rw [← hs]; rfl, by omega, fun j hj _ => hfr j hj⟩)
      · have hi2 : i < wy n := by have := of_decide_eq_true (b1_nz c23); omega
        refine xj_aload_n dX20_ofAll_26 rfl rfl ?_
        refine xj_dF dX20_ofAll_27 q1303 kF_X22_I_X22_next (A_nextO hvH hit hi2 (by omega) (by omega) (by omega)) h22 rfl rfl rfl (Nat.le_of_ble_eq_true rfl) ⟨(Nat.le_of_ble_eq_true rfl), (Nat.le_of_ble_eq_true rfl)⟩ (Nat.le_of_ble_eq_true rfl) (Nat.le_of_ble_eq_true rfl) ?_
        rintro _ H2 ⟨rfl, hit2, hf2⟩
        obtain ⟨-, L, hL, hL6, hR⟩ := id hit2
        rw [show i + 1 - 1 = i by omega] at hR
        have hfr2 : ∀ j, j < G.length → H2[j]? = G[j]? := fun j hj => (hf2.2 j (by simp only [List.mem_cons, List.not_mem_nil, or_false]; omega)).trans (hfr j hj)
        have hT2 := (hfr2 a hal).trans hT
        refine xj_castE dX20_ofAll_32 q1319 hL xnm_I1 ?_
        refine xj_astn3 dX20_ofAll_35 rfl rfl ?_
        refine xj_iload_n dX20_ofAll_36 rfl ?_
        refine xj_aload_n dX20_ofAll_37 rfl rfl ?_
        refine xj_aload_n dX20_ofAll_38 rfl rfl ?_
        refine xj_cU dX20_ofAll_39 q1320 kU_X26_X20_X26_worth (hw H2 i L hi2 hfr2 hL hR) hT2 rfl rfl rfl (Nat.le_of_ble_eq_true rfl) ⟨(Nat.le_of_ble_eq_true rfl), (Nat.le_of_ble_eq_true rfl)⟩ (Nat.le_of_ble_eq_true rfl) (Nat.le_of_ble_eq_true rfl) ?_
        refine xj_iadd dX20_ofAll_42 ?_
        rw [nI_add]
        refine xj_istn1 dX20_ofAll_43 rfl ?_
        refine xj_goto (tgt := 17) dX20_ofAll_44 rfl ?_
        exact xj_fg3 (ih_lp (i + 1) _ H2 (by omega) (by omega) (by rw [← hs, lp_step _ hi2]) hit2 hfr2 (by rw [hf2.1]; exact hlH))
  exact lp (wy n + 1) 0 0 _ (by omega) (by omega) rfl ⟨by rw [gset (by omega)]; exact k1, L2, gset_self k2, hL2, hL2R⟩ (fun j hj => by rw [gset (by omega), k4 j (by rw [List.length_append, List.length_singleton]; omega) (by omega), List.getElem?_append_left hj]) (by rw [List.length_set, k3, List.length_append, List.length_singleton])
end A26
