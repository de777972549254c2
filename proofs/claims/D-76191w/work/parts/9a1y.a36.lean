/-! ===== the class: sheets made; must ===== -/
set_option maxRecDepth 100000
theorem kS_X0_isShelf : xsS yX0_isShelf cX0_isShelf 1 (some FieldType.boolean) 1 := ⟨q1469, q151, q1470, by decide, by decide, by decide +kernel⟩
theorem kS_X0_rowOfSort : xsS yX0_rowOfSort cX0_rowOfSort 2 (some (FieldType.object "java/lang/Object")) 2 := ⟨q1545, q151, q1546, by decide, by decide, by decide +kernel⟩
theorem kV_X1_of : xsV yX1_of cX1_of 2 (some (FieldType.object "CoarserOrders$Refusal")) 1 := ⟨q1124, q2612, q155, q1125, by decide, by decide, by decide +kernel⟩
theorem i_nlt {s : Int32} (h : ¬ s < 0) : 0 ≤ s := Int32.not_lt.mp h
theorem i_lt0 {s : Int32} (h : s < 0) : ¬ 0 ≤ s := Int32.not_le.mpr h
theorem i_ge0 {s : Int32} (h : ¬ s < 0) : 0 ≤ s := Int32.not_lt.mp h
theorem i_nle40 {m : Int32} (h : ¬ m ≤ 40) : 40 < m := Int32.not_le.mp h
theorem i_le40 {m : Int32} (h : m ≤ 40) : ¬ 40 < m := Int32.not_lt.mpr h
theorem i_ltge {s : Int32} (h : ¬ 0 ≤ s) : s < 0 := Int32.not_le.mp h
theorem i_gelt {s : Int32} (h : 0 ≤ s) : ¬ s < 0 := Int32.not_lt.mpr h
theorem inC_sort {s : Int32} : inC s (-1) 3 = decide (-1 ≤ s.toInt ∧ s.toInt ≤ 3) := by
  unfold inC
  rw [← Bool.decide_and]
  congr 1
  exact propext ⟨fun h => ⟨Int32.le_iff_toInt_le.mp h.1, Int32.le_iff_toInt_le.mp h.2⟩, fun h => ⟨Int32.le_iff_toInt_le.mpr h.1, Int32.le_iff_toInt_le.mpr h.2⟩⟩
theorem i_nat {s : Int32} (h : ¬ s < 0) {b : Nat} (hb : s.toInt ≤ b) : ∃ t : Nat, t ≤ b ∧ s = nI t := by
  have h0 : 0 ≤ s.toInt := Int32.le_iff_toInt_le.mp (Int32.not_lt.mp h)
  refine ⟨s.toInt.toNat, by omega, ?_⟩
  have e : ((s.toInt.toNat : Nat) : Int) = s.toInt := Int.toNat_of_nonneg h0
  show s = Int32.ofInt ((s.toInt.toNat : Nat) : Int)
  rw [e]
  exact (Int32.ofInt_toInt s).symm
theorem i_sort {s : Int32} (h : decide (-1 ≤ s.toInt ∧ s.toInt ≤ 3) = true) (h0 : ¬ s < 0) : ∃ t : Nat, t < 4 ∧ s = nI t := by
  obtain ⟨t, h1, h2⟩ := i_nat h0 (b := 3) (of_decide_eq_true h).2
  exact ⟨t, by omega, h2⟩
theorem i_forty {k m s : Int32} (h : ¬ m < 0) (hs0 : ¬ s < 0) (hB : shB k s m = true) : ∃ y : Nat, y ≤ 40 ∧ m = nI y := by
  by_cases h4 : (40 : Int32) < m
  · exfalso
    unfold shB at hB
    rw [decide_eq_true (i_ge0 hs0), decide_eq_true h4, Bool.and_self, Bool.not_true, Bool.and_false, Bool.and_false] at hB
    cases hB
  · exact i_nat h (b := 40) (Int32.le_iff_toInt_le.mp (Int32.not_lt.mp h4))
section A36
variable {E : xE} {G : xH} {d e : Nat → Value} {n : Nat}
theorem A_rowOfSort {t k : Nat}  (ht : t < 4) (hk : k ≤ 40) : xMet E yX0_rowOfSort cX0_rowOfSort 2 (some (FieldType.object "java/lang/Object")) 0 3 54 [.int (nI t), .int (nI k)] G (xre (fun v_ G' => v_ = some (.ref G.length) ∧ G' = G ++ [shC t (List.replicate k 0)])) := by
  refine xMet.of (lv := [some (.int (nI t)), some (.int (nI k))]) rfl rfl (Nat.le_of_ble_eq_true rfl) ?_
  refine xj_iload_n dX0_rowOfSort_0 rfl ?_
  refine xj_tabs (tg := [28, 32, 36]) (tgt := 40) dX0_rowOfSort_1 rfl rfl rfl ⟨fun c1 => ?_, fun c1 => ?_, fun c1 => ?_, trivial⟩ (fun c1 => ?_)
  · obtain rfl : t = 0 := sort_k t ht 0 (by decide) c1
    refine xj_iload_n dX0_rowOfSort_28 rfl ?_
    refine xj_newB dX0_rowOfSort_29 q374 rfl (by omega) (Nat.le_of_ble_eq_true rfl) (by omega) ?_
    refine xj_areturn dX0_rowOfSort_31 rfl (Or.inl ⟨_, rfl⟩) rfl ?_
    exact ⟨rfl, by rw [show shC 0 (List.replicate k 0) = cI 1 ((List.replicate k (0 : Int64)).map Int64.toInt32) from rfl]; rw [List.map_replicate]; rfl⟩
  · obtain rfl : t = 1 := sort_k t ht 1 (by decide) c1
    refine xj_iload_n dX0_rowOfSort_32 rfl ?_
    refine xj_newS dX0_rowOfSort_33 q1547 rfl (by omega) (Nat.le_of_ble_eq_true rfl) (by omega) ?_
    refine xj_areturn dX0_rowOfSort_35 rfl (Or.inl ⟨_, rfl⟩) rfl ?_
    exact ⟨rfl, by rw [show shC 1 (List.replicate k 0) = cI 3 ((List.replicate k (0 : Int64)).map Int64.toInt32) from rfl]; rw [List.map_replicate]; rfl⟩
  · obtain rfl : t = 2 := sort_k t ht 2 (by decide) c1
    refine xj_iload_n dX0_rowOfSort_36 rfl ?_
    refine xj_newI dX0_rowOfSort_37 q345 rfl (by omega) (Nat.le_of_ble_eq_true rfl) (by omega) ?_
    refine xj_areturn dX0_rowOfSort_39 rfl (Or.inl ⟨_, rfl⟩) rfl ?_
    exact ⟨rfl, by rw [show shC 2 (List.replicate k 0) = cI 0 ((List.replicate k (0 : Int64)).map Int64.toInt32) from rfl]; rw [List.map_replicate]; rfl⟩
  · obtain rfl : t = 3 := sort_3 t ht c1
    refine xj_iload_n dX0_rowOfSort_40 rfl ?_
    refine xj_newL dX0_rowOfSort_41 q1548 rfl (by omega) (Nat.le_of_ble_eq_true rfl) (by omega) ?_
    refine xj_areturn dX0_rowOfSort_43 rfl (Or.inl ⟨_, rfl⟩) rfl ?_
    exact ⟨rfl, by rw [show shC 3 (List.replicate k 0) = cL 4 (List.replicate k 0) from rfl]⟩
theorem A_rowOfSortN {t : Nat} {m : Int32}  (ht : t < 4) (hm : m < 0) : xMet E yX0_rowOfSort cX0_rowOfSort 2 (some (FieldType.object "java/lang/Object")) 0 3 54 [.int (nI t), .int m] G (xth "java/lang/NegativeArraySizeException" none (fun G' => ∃ j, G' = G ++ List.replicate j cX)) := by
  refine xMet.of (lv := [some (.int (nI t)), some (.int m)]) rfl rfl (Nat.le_of_ble_eq_true rfl) ?_
  refine xj_iload_n dX0_rowOfSort_0 rfl ?_
  refine xj_tabs (tg := [28, 32, 36]) (tgt := 40) dX0_rowOfSort_1 rfl rfl rfl ⟨fun c1 => ?_, fun c1 => ?_, fun c1 => ?_, trivial⟩ (fun c1 => ?_)
  · refine xj_iload_n dX0_rowOfSort_28 rfl ?_
    exact xj_newarrayZ dX0_rowOfSort_29 hm (xrm_R (Nat.le_of_ble_eq_true rfl) (Nat.le_of_ble_eq_true rfl) (Nat.le_of_ble_eq_true rfl)) (fun j => xjT_out (fun _ hx => by cases hx) ⟨rfl, j, rfl⟩)
  · refine xj_iload_n dX0_rowOfSort_32 rfl ?_
    exact xj_newarrayZ dX0_rowOfSort_33 hm (xrm_R (Nat.le_of_ble_eq_true rfl) (Nat.le_of_ble_eq_true rfl) (Nat.le_of_ble_eq_true rfl)) (fun j => xjT_out (fun _ hx => by cases hx) ⟨rfl, j, rfl⟩)
  · refine xj_iload_n dX0_rowOfSort_36 rfl ?_
    exact xj_newarrayZ dX0_rowOfSort_37 hm (xrm_R (Nat.le_of_ble_eq_true rfl) (Nat.le_of_ble_eq_true rfl) (Nat.le_of_ble_eq_true rfl)) (fun j => xjT_out (fun _ hx => by cases hx) ⟨rfl, j, rfl⟩)
  · refine xj_iload_n dX0_rowOfSort_40 rfl ?_
    exact xj_newarrayZ dX0_rowOfSort_41 hm (xrm_R (Nat.le_of_ble_eq_true rfl) (Nat.le_of_ble_eq_true rfl) (Nat.le_of_ble_eq_true rfl)) (fun j => xjT_out (fun _ hx => by cases hx) ⟨rfl, j, rfl⟩)
theorem A_sheet {k s m : Int32} {sh : Nat → Option (Nat × List Int64)} {sa : Nat → Nat}  (hv : cV d e n G) (hSh : cSh sh sa G) (h82 : 82 < G.length) : xMetW E yX0_sheet cX0_sheet 5 (some FieldType.int) [(28, 51, 52, 668)] 2 3 54 [.ref 0, .int k, .int s, .int m] G (xre (fun v_ G' => v_ = some (.int (o_sheet k s m)) ∧ ∃ sa', cSh (s_sheet sh k s m) sa' G' ∧ gfa [35, 37, 39, 41] G G' ∧ ∀ j, j < 4 → sa' j = sa j ∨ G.length ≤ sa' j)) := by
  obtain ⟨hO, hN, hn0, h1n, hn6⟩ := id hv
  refine xMetW.of (lv := [some (.ref 0), some (.int k), some (.int s), some (.int m), none]) rfl rfl (Nat.le_of_ble_eq_true rfl) ?_
  refine xj_iload_n dX0_sheet_0 rfl ?_
  refine xj_cS dX0_sheet_1 q1468 kS_X0_isShelf A_isShelf rfl rfl (Nat.le_of_ble_eq_true rfl) ⟨(Nat.le_of_ble_eq_true rfl), (Nat.le_of_ble_eq_true rfl)⟩ (Nat.le_of_ble_eq_true rfl) (Nat.le_of_ble_eq_true rfl) ?_
  refine xj_if_eq (tgt := 26) dX0_sheet_4 rfl (fun c4 => ?_) (fun c4 => ?_)
  · have hB : shB k s m = false := by
      unfold shB
      first
      | (rw [b1_z c4]; rfl)
      | (rw [b1_z c13, Bool.false_and, Bool.and_false]; done)
      | (rw [decide_eq_true (i_nlt c17), decide_eq_true (i_nle40 c23), Bool.and_self, Bool.not_true, Bool.and_false, Bool.and_false]; done)
    refine xj_icm1 dX0_sheet_26 ?_
    exact xj_ireturn dX0_sheet_27 rfl rfl ⟨by unfold o_sheet; rw [hB]; rfl, sa, by unfold s_sheet; rw [hB]; exact hSh, gfa.refl, fun j _ => Or.inl rfl⟩
  · refine xj_iload_n dX0_sheet_7 rfl ?_
    refine xj_icm1 dX0_sheet_8 ?_
    refine xj_ic3 dX0_sheet_9 ?_
    refine xj_cS dX0_sheet_10 q585 kS_X0_isIn A_isIn rfl rfl (Nat.le_of_ble_eq_true rfl) ⟨(Nat.le_of_ble_eq_true rfl), (Nat.le_of_ble_eq_true rfl)⟩ (Nat.le_of_ble_eq_true rfl) (Nat.le_of_ble_eq_true rfl) ?_
    rw [inC_sort]
    refine xj_if_eq (tgt := 26) dX0_sheet_13 rfl (fun c13 => ?_) (fun c13 => ?_)
    · have hB : shB k s m = false := by
        unfold shB
        first
        | (rw [b1_z c4]; rfl)
        | (rw [b1_z c13, Bool.false_and, Bool.and_false]; done)
        | (rw [decide_eq_true (i_nlt c17), decide_eq_true (i_nle40 c23), Bool.and_self, Bool.not_true, Bool.and_false, Bool.and_false]; done)
      refine xj_icm1 dX0_sheet_26 ?_
      exact xj_ireturn dX0_sheet_27 rfl rfl ⟨by unfold o_sheet; rw [hB]; rfl, sa, by unfold s_sheet; rw [hB]; exact hSh, gfa.refl, fun j _ => Or.inl rfl⟩
    · refine xj_iload_n dX0_sheet_16 rfl ?_
      refine xj_if_lt (tgt := 28) dX0_sheet_17 rfl (fun c17 => ?_) (fun c17 => ?_)
      · have hB : shB k s m = true := by
          unfold shB
          rw [b1_nz c4, b1_nz c13]
          first
          | (rw [decide_eq_false (i_lt0 c17)]; rfl)
          | (rw [decide_eq_false (i_le40 c23), Bool.and_false]; rfl)
        obtain ⟨x, hx, hx31, rfl⟩ := inI_t (b1_nz c4)
        have tx : tn (nI x) = x := nI_clamp hx31
        obtain ⟨v0, -, hc5⟩ := (hSh.2.1 x hx).at
        refine xj_aload_n dX0_sheet_28 rfl rfl ?_
        refine xj_get dX0_sheet_29 K0 34 (by decide) q506 hO rfl ?_
        refine xj_iload_n dX0_sheet_32 rfl ?_
        refine xj_aald dX0_sheet_33 hSh.1 rfl rfl rfl (by omega) (sh_ref hx) ?_
        refine xj_iload_n dX0_sheet_34 rfl ?_
        refine xj_if_ge (tgt := 42) dX0_sheet_35 rfl (fun c35 => ?_) (fun c35 => ?_)
        · have hs0 : ¬ s < 0 := i_gelt c35
          obtain ⟨t, ht, rfl⟩ : ∃ t : Nat, t < 4 ∧ s = nI t := i_sort (b1_nz c13) hs0
          refine xj_iload_n dX0_sheet_42 rfl ?_
          refine xj_iload_n dX0_sheet_43 rfl ?_
          by_cases hm : m < 0
          · have hB1 : (decide ((0 : Int32) ≤ nI t) && decide (m < 0)) = true := by rw [decide_eq_true (i_ge0 hs0), decide_eq_true hm]; rfl
            refine xj_tS dX0_sheet_44 q1544 kS_X0_rowOfSort (A_rowOfSortN ht hm) rfl rfl (Nat.le_of_ble_eq_true rfl) ⟨(Nat.le_of_ble_eq_true rfl), (Nat.le_of_ble_eq_true rfl)⟩ (Nat.le_of_ble_eq_true rfl) (Nat.le_of_ble_eq_true rfl) ?_
            rintro G' ⟨j, rfl⟩
            refine xjT_catchV [] (28, 51, 52, 668) [] rfl (fun z hz => by cases hz) rfl (by decide) q1530 (Or.inl rfl) dX0_sheet_52 (Nat.le_of_ble_eq_true rfl) rfl ?_
            refine xj_bipush (v := -14) dX0_sheet_54 rfl ?_
            exact xj_ireturn dX0_sheet_56 rfl rfl ⟨by unfold o_sheet; rw [if_pos hB, hB1]; rfl, sa, by unfold s_sheet; rw [hB, hB1]; exact hSh.gfa (gfa.refl (W := [])).apps (fun i hi => by cases hi), gfa.refl.apps, fun j _ => Or.inl rfl⟩
          · have hneg : (decide ((0 : Int32) ≤ nI t) && decide (m < 0)) = false := by rw [decide_eq_false hm, Bool.and_false]
            obtain ⟨y, hy, rfl⟩ : ∃ y : Nat, y ≤ 40 ∧ m = nI y := i_forty hm hs0 hB
            refine xj_dS dX0_sheet_44 q1544 kS_X0_rowOfSort (A_rowOfSort ht hy) rfl rfl (Nat.le_of_ble_eq_true rfl) ⟨(Nat.le_of_ble_eq_true rfl), (Nat.le_of_ble_eq_true rfl)⟩ (Nat.le_of_ble_eq_true rfl) (Nat.le_of_ble_eq_true rfl) ?_
            rintro _ _ ⟨rfl, rfl⟩
            have hc6 : (G ++ [shC t (List.replicate y 0)])[35 + 2 * x]? = some (cO 5 [v0]) := by rw [List.getElem?_append_left (List.getElem?_eq_some_iff.mp hc5).1]; exact hc5
            refine xj_putN dX0_sheet_47 K5 0 (by decide) q381 rfl rfl hc6 (Nat.le_of_ble_eq_true rfl) ?_
            refine xj_ic1 dX0_sheet_50 ?_
            exact xj_ireturn dX0_sheet_51 rfl rfl ⟨by unfold o_sheet; rw [if_pos hB, hneg]; rfl, saU sa x G.length, by unfold s_sheet; rw [hB, hneg, if_pos (show (true && !false) = true from rfl), if_neg hs0, tx, show tn (nI t) = t from nI_clamp (by omega), show tn (nI y) = y from nI_clamp (by omega)]; exact hSh.new hx (shN_0 ht hy) h82, (gfa.refl.apps).set (by rcases sh_cases hx with rfl | rfl | rfl | rfl <;> decide), fun j _ => by unfold saU; by_cases e : j = x; (rw [if_pos e]; exact Or.inr (Nat.le_refl _)); (rw [if_neg e]; exact Or.inl rfl)⟩
        · have hs0 : s < 0 := i_ltge c35
          have hneg : (decide (0 ≤ s) && decide (m < 0)) = false := by rw [decide_eq_false (i_lt0 hs0)]; rfl
          refine xj_null dX0_sheet_38 ?_
          refine xj_goto (tgt := 47) dX0_sheet_39 rfl ?_
          refine xj_putN dX0_sheet_47 K5 0 (by decide) q381 rfl rfl hc5 (Nat.le_of_ble_eq_true rfl) ?_
          refine xj_ic1 dX0_sheet_50 ?_
          exact xj_ireturn dX0_sheet_51 rfl rfl ⟨by unfold o_sheet; rw [if_pos hB, hneg]; rfl, sa, by unfold s_sheet; rw [hB, hneg, if_pos (show (true && !false) = true from rfl), if_pos hs0, tx]; exact hSh.null hx hc5, gfa.refl.set (by rcases sh_cases hx with rfl | rfl | rfl | rfl <;> decide), fun j _ => Or.inl rfl⟩
      · refine xj_iload_n dX0_sheet_20 rfl ?_
        refine xj_bipush (v := 40) dX0_sheet_21 rfl ?_
        refine xj_icmp_le (tgt := 28) dX0_sheet_23 rfl (fun c23 => ?_) (fun c23 => ?_)
        · have hB : shB k s m = true := by
            unfold shB
            rw [b1_nz c4, b1_nz c13]
            first
            | (rw [decide_eq_false (i_lt0 c17)]; rfl)
            | (rw [decide_eq_false (i_le40 c23), Bool.and_false]; rfl)
          obtain ⟨x, hx, hx31, rfl⟩ := inI_t (b1_nz c4)
          have tx : tn (nI x) = x := nI_clamp hx31
          obtain ⟨v0, -, hc5⟩ := (hSh.2.1 x hx).at
          refine xj_aload_n dX0_sheet_28 rfl rfl ?_
          refine xj_get dX0_sheet_29 K0 34 (by decide) q506 hO rfl ?_
          refine xj_iload_n dX0_sheet_32 rfl ?_
          refine xj_aald dX0_sheet_33 hSh.1 rfl rfl rfl (by omega) (sh_ref hx) ?_
          refine xj_iload_n dX0_sheet_34 rfl ?_
          refine xj_if_ge (tgt := 42) dX0_sheet_35 rfl (fun c35 => ?_) (fun c35 => ?_)
          · have hs0 : ¬ s < 0 := i_gelt c35
            obtain ⟨t, ht, rfl⟩ : ∃ t : Nat, t < 4 ∧ s = nI t := i_sort (b1_nz c13) hs0
            refine xj_iload_n dX0_sheet_42 rfl ?_
            refine xj_iload_n dX0_sheet_43 rfl ?_
            by_cases hm : m < 0
            · have hB1 : (decide ((0 : Int32) ≤ nI t) && decide (m < 0)) = true := by rw [decide_eq_true (i_ge0 hs0), decide_eq_true hm]; rfl
              refine xj_tS dX0_sheet_44 q1544 kS_X0_rowOfSort (A_rowOfSortN ht hm) rfl rfl (Nat.le_of_ble_eq_true rfl) ⟨(Nat.le_of_ble_eq_true rfl), (Nat.le_of_ble_eq_true rfl)⟩ (Nat.le_of_ble_eq_true rfl) (Nat.le_of_ble_eq_true rfl) ?_
              rintro G' ⟨j, rfl⟩
              refine xjT_catchV [] (28, 51, 52, 668) [] rfl (fun z hz => by cases hz) rfl (by decide) q1530 (Or.inl rfl) dX0_sheet_52 (Nat.le_of_ble_eq_true rfl) rfl ?_
              refine xj_bipush (v := -14) dX0_sheet_54 rfl ?_
              exact xj_ireturn dX0_sheet_56 rfl rfl ⟨by unfold o_sheet; rw [if_pos hB, hB1]; rfl, sa, by unfold s_sheet; rw [hB, hB1]; exact hSh.gfa (gfa.refl (W := [])).apps (fun i hi => by cases hi), gfa.refl.apps, fun j _ => Or.inl rfl⟩
            · have hneg : (decide ((0 : Int32) ≤ nI t) && decide (m < 0)) = false := by rw [decide_eq_false hm, Bool.and_false]
              obtain ⟨y, hy, rfl⟩ : ∃ y : Nat, y ≤ 40 ∧ m = nI y := i_forty hm hs0 hB
              refine xj_dS dX0_sheet_44 q1544 kS_X0_rowOfSort (A_rowOfSort ht hy) rfl rfl (Nat.le_of_ble_eq_true rfl) ⟨(Nat.le_of_ble_eq_true rfl), (Nat.le_of_ble_eq_true rfl)⟩ (Nat.le_of_ble_eq_true rfl) (Nat.le_of_ble_eq_true rfl) ?_
              rintro _ _ ⟨rfl, rfl⟩
              have hc6 : (G ++ [shC t (List.replicate y 0)])[35 + 2 * x]? = some (cO 5 [v0]) := by rw [List.getElem?_append_left (List.getElem?_eq_some_iff.mp hc5).1]; exact hc5
              refine xj_putN dX0_sheet_47 K5 0 (by decide) q381 rfl rfl hc6 (Nat.le_of_ble_eq_true rfl) ?_
              refine xj_ic1 dX0_sheet_50 ?_
              exact xj_ireturn dX0_sheet_51 rfl rfl ⟨by unfold o_sheet; rw [if_pos hB, hneg]; rfl, saU sa x G.length, by unfold s_sheet; rw [hB, hneg, if_pos (show (true && !false) = true from rfl), if_neg hs0, tx, show tn (nI t) = t from nI_clamp (by omega), show tn (nI y) = y from nI_clamp (by omega)]; exact hSh.new hx (shN_0 ht hy) h82, (gfa.refl.apps).set (by rcases sh_cases hx with rfl | rfl | rfl | rfl <;> decide), fun j _ => by unfold saU; by_cases e : j = x; (rw [if_pos e]; exact Or.inr (Nat.le_refl _)); (rw [if_neg e]; exact Or.inl rfl)⟩
          · have hs0 : s < 0 := i_ltge c35
            have hneg : (decide (0 ≤ s) && decide (m < 0)) = false := by rw [decide_eq_false (i_lt0 hs0)]; rfl
            refine xj_null dX0_sheet_38 ?_
            refine xj_goto (tgt := 47) dX0_sheet_39 rfl ?_
            refine xj_putN dX0_sheet_47 K5 0 (by decide) q381 rfl rfl hc5 (Nat.le_of_ble_eq_true rfl) ?_
            refine xj_ic1 dX0_sheet_50 ?_
            exact xj_ireturn dX0_sheet_51 rfl rfl ⟨by unfold o_sheet; rw [if_pos hB, hneg]; rfl, sa, by unfold s_sheet; rw [hB, hneg, if_pos (show (true && !false) = true from rfl), if_pos hs0, tx]; exact hSh.null hx hc5, gfa.refl.set (by rcases sh_cases hx with rfl | rfl | rfl | rfl <;> decide), fun j _ => Or.inl rfl⟩
        · have hB : shB k s m = false := by
            unfold shB
            first
            | (rw [b1_z c4]; rfl)
            | (rw [b1_z c13, Bool.false_and, Bool.and_false]; done)
            | (rw [decide_eq_true (i_nlt c17), decide_eq_true (i_nle40 c23), Bool.and_self, Bool.not_true, Bool.and_false, Bool.and_false]; done)
          refine xj_icm1 dX0_sheet_26 ?_
          exact xj_ireturn dX0_sheet_27 rfl rfl ⟨by unfold o_sheet; rw [hB]; rfl, sa, by unfold s_sheet; rw [hB]; exact hSh, gfa.refl, fun j _ => Or.inl rfl⟩
theorem A_of1 {r : Nat → Value} {v o : Int32}  (hR : G[1]? = some (cO 1 (rFs r (.int v)))) : xMet E yX1_of cX1_of 2 (some (FieldType.object "CoarserOrders$Refusal")) 0 0 0 [.ref 1, .int o] G (xrv (some (.ref 1)) (G.set 1 (cO 1 (rFs r (.int o))))) := by
  refine xMet.of (lv := [some (.ref 1), some (.int o)]) rfl rfl (Nat.le_of_ble_eq_true rfl) ?_
  refine xj_aload_n dX1_of_0 rfl rfl ?_
  refine xj_iload_n dX1_of_1 rfl ?_
  refine xj_put dX1_of_2 K1 6 (by decide) q274 rfl rfl hR (Nat.le_of_ble_eq_true rfl) ?_
  refine xj_aload_n dX1_of_5 rfl rfl ?_
  exact xj_areturn dX1_of_6 rfl (Or.inl ⟨_, rfl⟩) rfl ⟨rfl, rfl⟩
theorem A_of2 {r : Nat → Value} {v o : Int32}  (hR : G[2]? = some (cO 2 (rFs r (.int v)))) : xMet E yX1_of cX1_of 2 (some (FieldType.object "CoarserOrders$Refusal")) 0 0 0 [.ref 2, .int o] G (xrv (some (.ref 2)) (G.set 2 (cO 2 (rFs r (.int o))))) := by
  refine xMet.of (lv := [some (.ref 2), some (.int o)]) rfl rfl (Nat.le_of_ble_eq_true rfl) ?_
  refine xj_aload_n dX1_of_0 rfl rfl ?_
  refine xj_iload_n dX1_of_1 rfl ?_
  refine xj_put dX1_of_2 K2 6 (by decide) q274 rfl rfl hR (Nat.le_of_ble_eq_true rfl) ?_
  refine xj_aload_n dX1_of_5 rfl rfl ?_
  exact xj_areturn dX1_of_6 rfl (Or.inl ⟨_, rfl⟩) rfl ⟨rfl, rfl⟩
theorem A_mustY {o : Int32}  (hv : cV d e n G) : xMet E yX0_must cX0_must 3 none 1 0 0 [.ref 0, .int (b1 true), .int o] G (xrv none G) := by
  obtain ⟨hO, hN, hn0, h1n, hn6⟩ := id hv
  refine xMet.of (lv := [some (.ref 0), some (.int (b1 true)), some (.int o)]) rfl rfl (Nat.le_of_ble_eq_true rfl) ?_
  refine xj_iload_n dX0_must_0 rfl ?_
  refine xj_if_ne (tgt := 13) dX0_must_1 rfl (fun c1 => ?_) (fun c1 => absurd c1 (by decide))
  exact xj_return dX0_must_13 rfl ⟨rfl, rfl⟩
theorem A_mustN {r : Nat → Value} {v o : Int32}  (hv : cV d e n G) (hR : G[1]? = some (cO 1 (rFs r (.int v)))) : xMet E yX0_must cX0_must 3 none 1 0 0 [.ref 0, .int (b1 false), .int o] G (xth "CoarserOrders$Refusal" (some (.ref 1)) (fun G' => G' = G.set 1 (cO 1 (rFs r (.int o))))) := by
  obtain ⟨hO, hN, hn0, h1n, hn6⟩ := id hv
  refine xMet.of (lv := [some (.ref 0), some (.int (b1 false)), some (.int o)]) rfl rfl (Nat.le_of_ble_eq_true rfl) ?_
  refine xj_iload_n dX0_must_0 rfl ?_
  refine xj_if_ne (tgt := 13) dX0_must_1 rfl (fun c1 => absurd rfl c1) (fun c1 => ?_)
  refine xj_aload_n dX0_must_4 rfl rfl ?_
  refine xj_get dX0_must_5 K0 0 (by decide) q468 hO rfl ?_
  refine xj_iload_n dX0_must_8 rfl ?_
  refine xj_cV dX0_must_9 q1476 kV_X1_of (A_of1 hR) hR rfl rfl rfl rfl (Nat.le_of_ble_eq_true rfl) ⟨(Nat.le_of_ble_eq_true rfl), (Nat.le_of_ble_eq_true rfl)⟩ (Nat.le_of_ble_eq_true rfl) (Nat.le_of_ble_eq_true rfl) ?_
  exact xj_athrow dX0_must_12 (gset_self hR) rfl (xjT_out (fun _ hx => by cases hx) ⟨rfl, rfl⟩)
end A36
