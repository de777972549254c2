/-! ===== the reference: acts ===== -/
set_option maxRecDepth 100000
theorem kV_X7_bends : xsV yX7_bends cX7_bends 2 (some FieldType.int) 1 := ⟨q2560, qs142, q161, q2561, by decide, by decide, by decide +kernel⟩
theorem kV_X7_joins : xsV yX7_joins cX7_joins 3 (some FieldType.int) 1 := ⟨q2580, qs147, q161, q2581, by decide, by decide, by decide +kernel⟩
theorem kV_X7_leftyTurns : xsV yX7_leftyTurns cX7_leftyTurns 2 (some FieldType.int) 1 := ⟨q2552, qs140, q161, q2553, by decide, by decide, by decide +kernel⟩
theorem kV_X7_longerParts : xsV yX7_longerParts cX7_longerParts 3 (some FieldType.int) 1 := ⟨q2572, qs145, q161, q2573, by decide, by decide, by decide +kernel⟩
theorem kV_X7_parts : xsV yX7_parts cX7_parts 2 (some FieldType.int) 1 := ⟨q2568, qs144, q161, q2569, by decide, by decide, by decide +kernel⟩
theorem kV_X7_plainBends : xsV yX7_plainBends cX7_plainBends 2 (some FieldType.int) 1 := ⟨q2564, qs143, q161, q2565, by decide, by decide, by decide +kernel⟩
theorem kV_X7_plainJoins : xsV yX7_plainJoins cX7_plainJoins 3 (some FieldType.int) 1 := ⟨q2584, qs148, q161, q2585, by decide, by decide, by decide +kernel⟩
theorem kV_X7_plainParts : xsV yX7_plainParts cX7_plainParts 2 (some FieldType.int) 1 := ⟨q2576, qs146, q161, q2577, by decide, by decide, by decide +kernel⟩
theorem kV_X7_plainTurns : xsV yX7_plainTurns cX7_plainTurns 2 (some FieldType.int) 1 := ⟨q2556, qs141, q161, q2557, by decide, by decide, by decide +kernel⟩
theorem kV_X7_ran : xsV yX7_ran cX7_ran 2 none 1 := ⟨q2548, qs139, q161, q2549, by decide, by decide, by decide +kernel⟩
theorem kV_X7_turns : xsV yX7_turns cX7_turns 2 (some FieldType.int) 1 := ⟨q2544, qs138, q161, q2545, by decide, by decide, by decide +kernel⟩
theorem pq_t {mk nm : Nat} (h : ¬ b1 (false || mk == nm) = 0) : mk = nm := by
  have := b1_nz h
  rw [Bool.false_or, beq_iff_eq] at this
  exact this
theorem pq_f {mk nm : Nat} (h : b1 (false || mk == nm) = 0) : ¬ mk = nm := by
  have := b1_z h
  rw [Bool.false_or] at this
  intro q
  rw [q, beq_self_eq_true] at this
  cases this
theorem pp_ne {mk nm : Nat} (h1 : nm < 6) (h2 : mk < 16) (h : ¬ nI mk = nI nm) : ¬ nI mk - nI nm = 0 := by
  intro q
  have e := congrArg Int32.toInt q
  rw [pk_sub_toInt (by omega) (by omega)] at e
  have : (0 : Int32).toInt = 0 := rfl
  exact h (by rw [show mk = nm by omega])
theorem mkOn_t {l : List (Nat × Nat)} {o : Option (Nat ⊕ (Nat × Nat))} {p : Nat} (h : mkOn l o = some p) : o = some (.inl p) ∧ p < l.length := by
  match o, h with
  | none, h => cases h
  | some (.inr q), h => cases h
  | some (.inl m), h =>
    have h : (if m < l.length then some m else none) = some p := h
    split at h
    · cases h; exact ⟨rfl, by assumption⟩
    · cases h
theorem hby_n {l : List (Nat × Nat)} {o : Option (Nat ⊕ (Nat × Nat))} (h : mkOn l o = none) (q : nI (hby l o) = 0) : False := by
  match o, h with
  | none, _ => exact absurd q (show ¬ nI 2 = 0 by decide)
  | some (.inr z), _ => exact absurd q (show ¬ nI 1 = 0 by decide)
  | some (.inl m), h =>
    have h : (if m < l.length then some m else none) = none := h
    have q : nI (if m < l.length then 0 else 2) = 0 := q
    split at h
    · cases h
    · rename_i hc; rw [if_neg hc] at q; exact absurd q (by decide)
section M19
variable {E : xE} {G T : xH} {a : Nat → xC} {c : Nat → Value} {n : Nat}
theorem M_ran {kd nm mk : Nat} {pt : Bool} {l : List Int32} {bd : Int32} (htr0 : tr c kd nm mk pt (l) a) : xMet E yX7_ran cX7_ran 2 none 0 0 0 [.ref 54, .int bd] (kG a T) (kR (none) T (fun b => kfr [54, 82] a b ∧ tr c kd nm mk pt (rn bd l) b)) := by
  have hfq0 : kfr [54, 82] a a := kfr.refl _ _
  obtain ⟨c0, L0, hO0, hk0, hn0, hm0, hp0, ht0, h82_0, htl0, hcc0⟩ := id htr0
  have h30 := htl0.2.1
  have hL30 := htl0.1
  refine xMet.of (lv := [some (.ref 54), some (.int bd)]) rfl rfl (Nat.le_of_ble_eq_true rfl) ?_
  refine xj_aload_n dX7_ran_0 rfl rfl ?_
  refine xj_get dX7_ran_1 K7 45 (by decide) q1974 (kG_a (by decide) hO0) (congrArg some ht0) ?_
  refine xj_bipush (v := 30) dX7_ran_4 rfl ?_
  refine xj_icmp_ge (tgt := 29) dX7_ran_6 rfl (fun c6 => ?_) (fun c6 => ?_)
  · exact xj_return dX7_ran_29 rfl (by first | (have hl30 : ¬ l.length < 30 := fun h => absurd c6 (nI_ge (a := l.length) (b := 30) h (by omega)); exact kR_v ⟨hfq0, by rw [show rn bd l = l from if_neg hl30]; exact htr0⟩) | exact kR_v ⟨(hfq0.au (by decide)).au (by decide), by rw [show rn bd l = l ++ [bd] from if_pos hl30]; exact ⟨cu c0 45 (.int (nI (l.length + 1))), _, rfl, hk0, hn0, hm0, hp0, by rw [List.length_append]; rfl, rfl, trL_push htl0 hl30, fun j h1 h2 => by unfold cu; rw [if_neg h1]; exact hcc0 j h1 h2⟩⟩)
  · have hl30 : l.length < 30 := Nat.lt_of_not_le fun h => c6 (nI_le (a := 30) h (by omega))
    refine xj_aload_n dX7_ran_9 rfl rfl ?_
    refine xj_get dX7_ran_10 K7 44 (by decide) q1973 (kG_a (by decide) hO0) rfl ?_
    refine xj_aload_n dX7_ran_13 rfl rfl ?_
    refine xj_get dX7_ran_14 K7 45 (by decide) q1974 (kG_a (by decide) hO0) (congrArg some ht0) ?_
    refine xj_iload_n dX7_ran_17 rfl ?_
    refine xj_iast dX7_ran_18 (kG_a (by decide) h82_0) rfl (by omega) (by omega) ?_
    refine xj_eq rfl rfl (kG_set (by decide)) ?_
    refine xj_aload_n dX7_ran_19 rfl rfl ?_
    refine xj_dup dX7_ran_20 rfl ?_
    refine xj_get dX7_ran_21 K7 45 (by decide) q1974 (kG_a (by decide) hO0) (congrArg some ht0) ?_
    refine xj_ic1 dX7_ran_24 ?_
    refine xj_iadd dX7_ran_25 ?_
    rw [nI_1]
    refine xj_put dX7_ran_26 K7 45 (by decide) q1974 rfl rfl (kG_a (by decide) hO0) (Nat.le_of_ble_eq_true rfl) ?_
    refine xj_eq rfl rfl (kG_set (by decide)) ?_
    exact xj_return dX7_ran_29 rfl (by first | (have hl30 : ¬ l.length < 30 := fun h => absurd c6 (nI_ge (a := l.length) (b := 30) h (by omega)); exact kR_v ⟨hfq0, by rw [show rn bd l = l from if_neg hl30]; exact htr0⟩) | exact kR_v ⟨(hfq0.au (by decide)).au (by decide), by rw [show rn bd l = l ++ [bd] from if_pos hl30]; exact ⟨cu c0 45 (.int (nI (l.length + 1))), _, rfl, hk0, hn0, hm0, hp0, by rw [List.length_append]; rfl, rfl, trL_push htl0 hl30, fun j h1 h2 => by unfold cu; rw [if_neg h1]; exact hcc0 j h1 h2⟩⟩)
theorem M_plainTurns {kd nm mk : Nat} {pt : Bool} {l : List Int32} {x : Int32} (htr0 : tr c kd nm mk pt (l) a) : xMet E yX7_plainTurns cX7_plainTurns 2 (some FieldType.int) 1 0 0 [.ref 54, .int x] (kG a T) (kR (some (.int (vPT nm x))) T (fun b => kfr [54, 82] a b ∧ tr c kd nm mk pt (tPT l) b)) := by
  have hfq0 : kfr [54, 82] a a := kfr.refl _ _
  obtain ⟨c0, L0, hO0, hk0, hn0, hm0, hp0, ht0, h82_0, htl0, hcc0⟩ := id htr0
  refine xMet.of (lv := [some (.ref 54), some (.int x)]) rfl rfl (Nat.le_of_ble_eq_true rfl) ?_
  refine xj_aload_n dX7_plainTurns_0 rfl rfl ?_
  refine xj_bipush (v := 10) dX7_plainTurns_1 rfl ?_
  refine xj_dV dX7_plainTurns_3 q2546 kV_X7_ran (M_ran htr0) (kG_a (by decide) hO0) rfl rfl rfl rfl (Nat.le_of_ble_eq_true rfl) ⟨(Nat.le_of_ble_eq_true rfl), (Nat.le_of_ble_eq_true rfl)⟩ (Nat.le_of_ble_eq_true rfl) (Nat.le_of_ble_eq_true rfl) ?_
  rintro _ _ ⟨rfl, bb1, rfl, hfr1, htr1⟩
  have hfq1 := hfq0.trans hfr1 (fun _ h => h)
  obtain ⟨c1, L1, hO1, hk1, hn1, hm1, hp1, ht1, h82_1, htl1, hcc1⟩ := id htr1
  refine xj_iload_n dX7_plainTurns_6 rfl ?_
  refine xj_ic5 dX7_plainTurns_7 ?_
  refine xj_imul dX7_plainTurns_8 ?_
  refine xj_aload_n dX7_plainTurns_9 rfl rfl ?_
  refine xj_get dX7_plainTurns_10 K7 47 (by decide) q1976 (kG_a (by decide) hO1) (congrArg some hn1) ?_
  refine xj_iadd dX7_plainTurns_13 ?_
  exact xj_ireturn dX7_plainTurns_14 rfl rfl (kR_i (rfl) ⟨hfq1, htr1⟩)
theorem M_leftyTurns {kd nm mk : Nat} {pt : Bool} {l : List Int32} {x : Int32} (htr0 : tr c kd nm mk pt (l) a) : xMet E yX7_leftyTurns cX7_leftyTurns 2 (some FieldType.int) 2 0 0 [.ref 54, .int x] (kG a T) (kR (some (.int (vLT nm x))) T (fun b => kfr [54, 82] a b ∧ tr c kd nm mk pt (tLT l) b)) := by
  have hfq0 : kfr [54, 82] a a := kfr.refl _ _
  obtain ⟨c0, L0, hO0, hk0, hn0, hm0, hp0, ht0, h82_0, htl0, hcc0⟩ := id htr0
  refine xMet.of (lv := [some (.ref 54), some (.int x)]) rfl rfl (Nat.le_of_ble_eq_true rfl) ?_
  refine xj_aload_n dX7_leftyTurns_0 rfl rfl ?_
  refine xj_bipush (v := 20) dX7_leftyTurns_1 rfl ?_
  refine xj_dV dX7_leftyTurns_3 q2546 kV_X7_ran (M_ran htr0) (kG_a (by decide) hO0) rfl rfl rfl rfl (Nat.le_of_ble_eq_true rfl) ⟨(Nat.le_of_ble_eq_true rfl), (Nat.le_of_ble_eq_true rfl)⟩ (Nat.le_of_ble_eq_true rfl) (Nat.le_of_ble_eq_true rfl) ?_
  rintro _ _ ⟨rfl, bb1, rfl, hfr1, htr1⟩
  have hfq1 := hfq0.trans hfr1 (fun _ h => h)
  obtain ⟨c1, L1, hO1, hk1, hn1, hm1, hp1, ht1, h82_1, htl1, hcc1⟩ := id htr1
  refine xj_aload_n dX7_leftyTurns_6 rfl rfl ?_
  refine xj_iload_n dX7_leftyTurns_7 rfl ?_
  refine xj_dV dX7_leftyTurns_8 q2554 kV_X7_plainTurns (M_plainTurns htr1) (kG_a (by decide) hO1) rfl rfl rfl rfl (Nat.le_of_ble_eq_true rfl) ⟨(Nat.le_of_ble_eq_true rfl), (Nat.le_of_ble_eq_true rfl)⟩ (Nat.le_of_ble_eq_true rfl) (Nat.le_of_ble_eq_true rfl) ?_
  rintro _ _ ⟨rfl, bb2, rfl, hfr2, htr2⟩
  have hfq2 := hfq1.trans hfr2 (fun _ h => h)
  obtain ⟨c2, L2, hO2, hk2, hn2, hm2, hp2, ht2, h82_2, htl2, hcc2⟩ := id htr2
  refine xj_bipush (v := 9) dX7_leftyTurns_11 rfl ?_
  refine xj_ixor dX7_leftyTurns_13 ?_
  exact xj_ireturn dX7_leftyTurns_14 rfl rfl (kR_i (rfl) ⟨hfq2, htr2⟩)
theorem M_turns {kd nm mk : Nat} {pt : Bool} {l : List Int32} {x : Int32} (hkd : kd < 6) (htr0 : tr c kd nm mk pt (l) a) : xMet E yX7_turns cX7_turns 2 (some FieldType.int) 3 0 0 [.ref 54, .int x] (kG a T) (kR (some (.int (vT kd nm x))) T (fun b => kfr [54, 82] a b ∧ tr c kd nm mk pt (tT kd l) b)) := by
  have hfq0 : kfr [54, 82] a a := kfr.refl _ _
  obtain ⟨c0, L0, hO0, hk0, hn0, hm0, hp0, ht0, h82_0, htl0, hcc0⟩ := id htr0
  refine xMet.of (lv := [some (.ref 54), some (.int x)]) rfl rfl (Nat.le_of_ble_eq_true rfl) ?_
  refine xj_aload_n dX7_turns_0 rfl rfl ?_
  refine xj_get dX7_turns_1 K7 46 (by decide) q1975 (kG_a (by decide) hO0) (congrArg some hk0) ?_
  refine xj_ic3 dX7_turns_4 ?_
  refine xj_icmp_ne (tgt := 24) dX7_turns_5 rfl (fun c5 => ?_) (fun c5 => ?_)
  · refine xj_aload_n dX7_turns_24 rfl rfl ?_
    refine xj_get dX7_turns_25 K7 46 (by decide) q1975 (kG_a (by decide) hO0) (congrArg some hk0) ?_
    refine xj_ic1 dX7_turns_28 ?_
    refine xj_icmp_eq (tgt := 40) dX7_turns_29 rfl (fun c29 => ?_) (fun c29 => ?_)
    · refine xj_aload_n dX7_turns_40 rfl rfl ?_
      refine xj_iload_n dX7_turns_41 rfl ?_
      refine xj_dV dX7_turns_42 q2550 kV_X7_leftyTurns (M_leftyTurns htr0) (kG_a (by decide) hO0) rfl rfl rfl rfl (Nat.le_of_ble_eq_true rfl) ⟨(Nat.le_of_ble_eq_true rfl), (Nat.le_of_ble_eq_true rfl)⟩ (Nat.le_of_ble_eq_true rfl) (Nat.le_of_ble_eq_true rfl) ?_
      rintro _ _ ⟨rfl, bb1, rfl, hfr1, htr1⟩
      have hfq1 := hfq0.trans hfr1 (fun _ h => h)
      obtain ⟨c1, L1, hO1, hk1, hn1, hm1, hp1, ht1, h82_1, htl1, hcc1⟩ := id htr1
      refine xj_goto (tgt := 53) dX7_turns_45 rfl ?_
      exact xj_ireturn dX7_turns_53 rfl rfl (by have n3 := (show ¬ kd = 3 from fun q => c5 (by rw [q]; rfl)); first | (have e := (show kd = 1 from (nI_eq (by omega) (by decide)).mp (show nI kd = nI 1 from c29)); exact kR_i (by unfold vT; rw [if_neg n3, if_pos (Or.inl e)]) ⟨hfq1, by unfold tT; rw [if_neg n3, if_pos (Or.inl e)]; exact htr1⟩) | (have e := (show kd = 4 from (nI_eq (by omega) (by decide)).mp (show nI kd = nI 4 from c37)); exact kR_i (by unfold vT; rw [if_neg n3, if_pos (Or.inr e)]) ⟨hfq1, by unfold tT; rw [if_neg n3, if_pos (Or.inr e)]; exact htr1⟩) | (have e1 := (show ¬ kd = 1 from fun q => c29 (by rw [q]; rfl)); have e2 := (show ¬ kd = 4 from fun q => c37 (by rw [q]; rfl)); exact kR_i (by unfold vT; rw [if_neg n3, if_neg (fun q => q.elim e1 e2)]) ⟨hfq1, by unfold tT; rw [if_neg n3, if_neg (fun q => q.elim e1 e2)]; exact htr1⟩))
    · refine xj_aload_n dX7_turns_32 rfl rfl ?_
      refine xj_get dX7_turns_33 K7 46 (by decide) q1975 (kG_a (by decide) hO0) (congrArg some hk0) ?_
      refine xj_ic4 dX7_turns_36 ?_
      refine xj_icmp_ne (tgt := 48) dX7_turns_37 rfl (fun c37 => ?_) (fun c37 => ?_)
      · refine xj_aload_n dX7_turns_48 rfl rfl ?_
        refine xj_iload_n dX7_turns_49 rfl ?_
        refine xj_dV dX7_turns_50 q2554 kV_X7_plainTurns (M_plainTurns htr0) (kG_a (by decide) hO0) rfl rfl rfl rfl (Nat.le_of_ble_eq_true rfl) ⟨(Nat.le_of_ble_eq_true rfl), (Nat.le_of_ble_eq_true rfl)⟩ (Nat.le_of_ble_eq_true rfl) (Nat.le_of_ble_eq_true rfl) ?_
        rintro _ _ ⟨rfl, bb1, rfl, hfr1, htr1⟩
        have hfq1 := hfq0.trans hfr1 (fun _ h => h)
        obtain ⟨c1, L1, hO1, hk1, hn1, hm1, hp1, ht1, h82_1, htl1, hcc1⟩ := id htr1
        exact xj_ireturn dX7_turns_53 rfl rfl (by have n3 := (show ¬ kd = 3 from fun q => c5 (by rw [q]; rfl)); first | (have e := (show kd = 1 from (nI_eq (by omega) (by decide)).mp (show nI kd = nI 1 from c29)); exact kR_i (by unfold vT; rw [if_neg n3, if_pos (Or.inl e)]) ⟨hfq1, by unfold tT; rw [if_neg n3, if_pos (Or.inl e)]; exact htr1⟩) | (have e := (show kd = 4 from (nI_eq (by omega) (by decide)).mp (show nI kd = nI 4 from c37)); exact kR_i (by unfold vT; rw [if_neg n3, if_pos (Or.inr e)]) ⟨hfq1, by unfold tT; rw [if_neg n3, if_pos (Or.inr e)]; exact htr1⟩) | (have e1 := (show ¬ kd = 1 from fun q => c29 (by rw [q]; rfl)); have e2 := (show ¬ kd = 4 from fun q => c37 (by rw [q]; rfl)); exact kR_i (by unfold vT; rw [if_neg n3, if_neg (fun q => q.elim e1 e2)]) ⟨hfq1, by unfold tT; rw [if_neg n3, if_neg (fun q => q.elim e1 e2)]; exact htr1⟩))
      · refine xj_aload_n dX7_turns_40 rfl rfl ?_
        refine xj_iload_n dX7_turns_41 rfl ?_
        refine xj_dV dX7_turns_42 q2550 kV_X7_leftyTurns (M_leftyTurns htr0) (kG_a (by decide) hO0) rfl rfl rfl rfl (Nat.le_of_ble_eq_true rfl) ⟨(Nat.le_of_ble_eq_true rfl), (Nat.le_of_ble_eq_true rfl)⟩ (Nat.le_of_ble_eq_true rfl) (Nat.le_of_ble_eq_true rfl) ?_
        rintro _ _ ⟨rfl, bb1, rfl, hfr1, htr1⟩
        have hfq1 := hfq0.trans hfr1 (fun _ h => h)
        obtain ⟨c1, L1, hO1, hk1, hn1, hm1, hp1, ht1, h82_1, htl1, hcc1⟩ := id htr1
        refine xj_goto (tgt := 53) dX7_turns_45 rfl ?_
        exact xj_ireturn dX7_turns_53 rfl rfl (by have n3 := (show ¬ kd = 3 from fun q => c5 (by rw [q]; rfl)); first | (have e := (show kd = 1 from (nI_eq (by omega) (by decide)).mp (show nI kd = nI 1 from c29)); exact kR_i (by unfold vT; rw [if_neg n3, if_pos (Or.inl e)]) ⟨hfq1, by unfold tT; rw [if_neg n3, if_pos (Or.inl e)]; exact htr1⟩) | (have e := (show kd = 4 from (nI_eq (by omega) (by decide)).mp (show nI kd = nI 4 from c37)); exact kR_i (by unfold vT; rw [if_neg n3, if_pos (Or.inr e)]) ⟨hfq1, by unfold tT; rw [if_neg n3, if_pos (Or.inr e)]; exact htr1⟩) | (have e1 := (show ¬ kd = 1 from fun q => c29 (by rw [q]; rfl)); have e2 := (show ¬ kd = 4 from fun q => c37 (by rw [q]; rfl)); exact kR_i (by unfold vT; rw [if_neg n3, if_neg (fun q => q.elim e1 e2)]) ⟨hfq1, by unfold tT; rw [if_neg n3, if_neg (fun q => q.elim e1 e2)]; exact htr1⟩))
  · refine xj_aload_n dX7_turns_8 rfl rfl ?_
    refine xj_bipush (v := 40) dX7_turns_9 rfl ?_
    refine xj_dV dX7_turns_11 q2546 kV_X7_ran (M_ran htr0) (kG_a (by decide) hO0) rfl rfl rfl rfl (Nat.le_of_ble_eq_true rfl) ⟨(Nat.le_of_ble_eq_true rfl), (Nat.le_of_ble_eq_true rfl)⟩ (Nat.le_of_ble_eq_true rfl) (Nat.le_of_ble_eq_true rfl) ?_
    rintro _ _ ⟨rfl, bb1, rfl, hfr1, htr1⟩
    have hfq1 := hfq0.trans hfr1 (fun _ h => h)
    obtain ⟨c1, L1, hO1, hk1, hn1, hm1, hp1, ht1, h82_1, htl1, hcc1⟩ := id htr1
    refine xj_ic0 dX7_turns_14 ?_
    refine xj_aload_n dX7_turns_15 rfl rfl ?_
    refine xj_iload_n dX7_turns_16 rfl ?_
    refine xj_ic2 dX7_turns_17 ?_
    refine xj_iadd dX7_turns_18 ?_
    refine xj_dV dX7_turns_19 q2550 kV_X7_leftyTurns (M_leftyTurns htr1) (kG_a (by decide) hO1) rfl rfl rfl rfl (Nat.le_of_ble_eq_true rfl) ⟨(Nat.le_of_ble_eq_true rfl), (Nat.le_of_ble_eq_true rfl)⟩ (Nat.le_of_ble_eq_true rfl) (Nat.le_of_ble_eq_true rfl) ?_
    rintro _ _ ⟨rfl, bb2, rfl, hfr2, htr2⟩
    have hfq2 := hfq1.trans hfr2 (fun _ h => h)
    obtain ⟨c2, L2, hO2, hk2, hn2, hm2, hp2, ht2, h82_2, htl2, hcc2⟩ := id htr2
    refine xj_isub dX7_turns_22 ?_
    exact xj_ireturn dX7_turns_23 rfl rfl (kR_i (by unfold vT; rw [if_pos (show kd = 3 from (nI_eq (by omega) (by decide)).mp (show nI kd = nI 3 from c5))]) ⟨hfq2, by unfold tT; rw [if_pos (show kd = 3 from (nI_eq (by omega) (by decide)).mp (show nI kd = nI 3 from c5))]; exact htr2⟩)
theorem M_plainBends {kd nm mk : Nat} {pt : Bool} {l : List Int32} {x : Int32} (hkd : kd < 6) (htr0 : tr c kd nm mk pt (l) a) : xMet E yX7_plainBends cX7_plainBends 2 (some FieldType.int) 4 0 0 [.ref 54, .int x] (kG a T) (kR (some (.int (vPB kd nm mk x))) T (fun b => kfr [54, 82] a b ∧ tr c kd nm mk pt (tPB kd l) b)) := by
  have hfq0 : kfr [54, 82] a a := kfr.refl _ _
  obtain ⟨c0, L0, hO0, hk0, hn0, hm0, hp0, ht0, h82_0, htl0, hcc0⟩ := id htr0
  refine xMet.of (lv := [some (.ref 54), some (.int x)]) rfl rfl (Nat.le_of_ble_eq_true rfl) ?_
  refine xj_aload_n dX7_plainBends_0 rfl rfl ?_
  refine xj_bipush (v := 11) dX7_plainBends_1 rfl ?_
  refine xj_dV dX7_plainBends_3 q2546 kV_X7_ran (M_ran htr0) (kG_a (by decide) hO0) rfl rfl rfl rfl (Nat.le_of_ble_eq_true rfl) ⟨(Nat.le_of_ble_eq_true rfl), (Nat.le_of_ble_eq_true rfl)⟩ (Nat.le_of_ble_eq_true rfl) (Nat.le_of_ble_eq_true rfl) ?_
  rintro _ _ ⟨rfl, bb1, rfl, hfr1, htr1⟩
  have hfq1 := hfq0.trans hfr1 (fun _ h => h)
  obtain ⟨c1, L1, hO1, hk1, hn1, hm1, hp1, ht1, h82_1, htl1, hcc1⟩ := id htr1
  refine xj_aload_n dX7_plainBends_6 rfl rfl ?_
  refine xj_iload_n dX7_plainBends_7 rfl ?_
  refine xj_dV dX7_plainBends_8 q2542 kV_X7_turns (M_turns hkd htr1) (kG_a (by decide) hO1) rfl rfl rfl rfl (Nat.le_of_ble_eq_true rfl) ⟨(Nat.le_of_ble_eq_true rfl), (Nat.le_of_ble_eq_true rfl)⟩ (Nat.le_of_ble_eq_true rfl) (Nat.le_of_ble_eq_true rfl) ?_
  rintro _ _ ⟨rfl, bb2, rfl, hfr2, htr2⟩
  have hfq2 := hfq1.trans hfr2 (fun _ h => h)
  obtain ⟨c2, L2, hO2, hk2, hn2, hm2, hp2, ht2, h82_2, htl2, hcc2⟩ := id htr2
  refine xj_aload_n dX7_plainBends_11 rfl rfl ?_
  refine xj_get dX7_plainBends_12 K7 48 (by decide) q1977 (kG_a (by decide) hO2) (congrArg some hm2) ?_
  refine xj_isub dX7_plainBends_15 ?_
  exact xj_ireturn dX7_plainBends_16 rfl rfl (kR_i (rfl) ⟨hfq2, htr2⟩)
theorem M_bends {kd nm mk : Nat} {pt : Bool} {l : List Int32} {x : Int32} (hkd : kd < 6) (htr0 : tr c kd nm mk pt (l) a) : xMet E yX7_bends cX7_bends 2 (some FieldType.int) 5 0 0 [.ref 54, .int x] (kG a T) (kR (some (.int (vB kd nm mk x))) T (fun b => kfr [54, 82] a b ∧ tr c kd nm mk pt (tB kd l) b)) := by
  have hfq0 : kfr [54, 82] a a := kfr.refl _ _
  obtain ⟨c0, L0, hO0, hk0, hn0, hm0, hp0, ht0, h82_0, htl0, hcc0⟩ := id htr0
  refine xMet.of (lv := [some (.ref 54), some (.int x)]) rfl rfl (Nat.le_of_ble_eq_true rfl) ?_
  refine xj_aload_n dX7_bends_0 rfl rfl ?_
  refine xj_get dX7_bends_1 K7 46 (by decide) q1975 (kG_a (by decide) hO0) (congrArg some hk0) ?_
  refine xj_ic2 dX7_bends_4 ?_
  refine xj_icmp_eq (tgt := 16) dX7_bends_5 rfl (fun c5 => ?_) (fun c5 => ?_)
  · refine xj_aload_n dX7_bends_16 rfl rfl ?_
    refine xj_bipush (v := 30) dX7_bends_17 rfl ?_
    refine xj_dV dX7_bends_19 q2546 kV_X7_ran (M_ran htr0) (kG_a (by decide) hO0) rfl rfl rfl rfl (Nat.le_of_ble_eq_true rfl) ⟨(Nat.le_of_ble_eq_true rfl), (Nat.le_of_ble_eq_true rfl)⟩ (Nat.le_of_ble_eq_true rfl) (Nat.le_of_ble_eq_true rfl) ?_
    rintro _ _ ⟨rfl, bb1, rfl, hfr1, htr1⟩
    have hfq1 := hfq0.trans hfr1 (fun _ h => h)
    obtain ⟨c1, L1, hO1, hk1, hn1, hm1, hp1, ht1, h82_1, htl1, hcc1⟩ := id htr1
    refine xj_aload_n dX7_bends_22 rfl rfl ?_
    refine xj_iload_n dX7_bends_23 rfl ?_
    refine xj_dV dX7_bends_24 q2562 kV_X7_plainBends (M_plainBends hkd htr1) (kG_a (by decide) hO1) rfl rfl rfl rfl (Nat.le_of_ble_eq_true rfl) ⟨(Nat.le_of_ble_eq_true rfl), (Nat.le_of_ble_eq_true rfl)⟩ (Nat.le_of_ble_eq_true rfl) (Nat.le_of_ble_eq_true rfl) ?_
    rintro _ _ ⟨rfl, bb2, rfl, hfr2, htr2⟩
    have hfq2 := hfq1.trans hfr2 (fun _ h => h)
    obtain ⟨c2, L2, hO2, hk2, hn2, hm2, hp2, ht2, h82_2, htl2, hcc2⟩ := id htr2
    refine xj_ic3 dX7_bends_27 ?_
    refine xj_imul dX7_bends_28 ?_
    exact xj_ireturn dX7_bends_29 rfl rfl (by have e : kd = 2 ∨ kd = 5 := (by first | exact Or.inl (show kd = 2 from (nI_eq (by omega) (by decide)).mp (show nI kd = nI 2 from c5)) | exact Or.inr (show kd = 5 from (nI_eq (by omega) (by decide)).mp (show nI kd = nI 5 from c13))); exact kR_i (by unfold vB; rw [if_pos e]) ⟨hfq2, by unfold tB; rw [if_pos e]; exact htr2⟩)
  · refine xj_aload_n dX7_bends_8 rfl rfl ?_
    refine xj_get dX7_bends_9 K7 46 (by decide) q1975 (kG_a (by decide) hO0) (congrArg some hk0) ?_
    refine xj_ic5 dX7_bends_12 ?_
    refine xj_icmp_ne (tgt := 30) dX7_bends_13 rfl (fun c13 => ?_) (fun c13 => ?_)
    · refine xj_aload_n dX7_bends_30 rfl rfl ?_
      refine xj_iload_n dX7_bends_31 rfl ?_
      refine xj_dV dX7_bends_32 q2562 kV_X7_plainBends (M_plainBends hkd htr0) (kG_a (by decide) hO0) rfl rfl rfl rfl (Nat.le_of_ble_eq_true rfl) ⟨(Nat.le_of_ble_eq_true rfl), (Nat.le_of_ble_eq_true rfl)⟩ (Nat.le_of_ble_eq_true rfl) (Nat.le_of_ble_eq_true rfl) ?_
      rintro _ _ ⟨rfl, bb1, rfl, hfr1, htr1⟩
      have hfq1 := hfq0.trans hfr1 (fun _ h => h)
      obtain ⟨c1, L1, hO1, hk1, hn1, hm1, hp1, ht1, h82_1, htl1, hcc1⟩ := id htr1
      exact xj_ireturn dX7_bends_35 rfl rfl (by have e : ¬ (kd = 2 ∨ kd = 5) := (fun q => q.elim (show ¬ kd = 2 from fun q => c5 (by rw [q]; rfl)) (show ¬ kd = 5 from fun q => c13 (by rw [q]; rfl))); exact kR_i (by unfold vB; rw [if_neg e]) ⟨hfq1, by unfold tB; rw [if_neg e]; exact htr1⟩)
    · refine xj_aload_n dX7_bends_16 rfl rfl ?_
      refine xj_bipush (v := 30) dX7_bends_17 rfl ?_
      refine xj_dV dX7_bends_19 q2546 kV_X7_ran (M_ran htr0) (kG_a (by decide) hO0) rfl rfl rfl rfl (Nat.le_of_ble_eq_true rfl) ⟨(Nat.le_of_ble_eq_true rfl), (Nat.le_of_ble_eq_true rfl)⟩ (Nat.le_of_ble_eq_true rfl) (Nat.le_of_ble_eq_true rfl) ?_
      rintro _ _ ⟨rfl, bb1, rfl, hfr1, htr1⟩
      have hfq1 := hfq0.trans hfr1 (fun _ h => h)
      obtain ⟨c1, L1, hO1, hk1, hn1, hm1, hp1, ht1, h82_1, htl1, hcc1⟩ := id htr1
      refine xj_aload_n dX7_bends_22 rfl rfl ?_
      refine xj_iload_n dX7_bends_23 rfl ?_
      refine xj_dV dX7_bends_24 q2562 kV_X7_plainBends (M_plainBends hkd htr1) (kG_a (by decide) hO1) rfl rfl rfl rfl (Nat.le_of_ble_eq_true rfl) ⟨(Nat.le_of_ble_eq_true rfl), (Nat.le_of_ble_eq_true rfl)⟩ (Nat.le_of_ble_eq_true rfl) (Nat.le_of_ble_eq_true rfl) ?_
      rintro _ _ ⟨rfl, bb2, rfl, hfr2, htr2⟩
      have hfq2 := hfq1.trans hfr2 (fun _ h => h)
      obtain ⟨c2, L2, hO2, hk2, hn2, hm2, hp2, ht2, h82_2, htl2, hcc2⟩ := id htr2
      refine xj_ic3 dX7_bends_27 ?_
      refine xj_imul dX7_bends_28 ?_
      exact xj_ireturn dX7_bends_29 rfl rfl (by have e : kd = 2 ∨ kd = 5 := (by first | exact Or.inl (show kd = 2 from (nI_eq (by omega) (by decide)).mp (show nI kd = nI 2 from c5)) | exact Or.inr (show kd = 5 from (nI_eq (by omega) (by decide)).mp (show nI kd = nI 5 from c13))); exact kR_i (by unfold vB; rw [if_pos e]) ⟨hfq2, by unfold tB; rw [if_pos e]; exact htr2⟩)
theorem M_plainParts {kd nm mk : Nat} {l : List Int32} {x : Int32} (hnm : nm < 6) (hmk : mk < 16) (htr0 : tr c kd nm mk false (l) a) : xMet E yX7_plainParts cX7_plainParts 2 (some FieldType.int) 1 0 0 [.ref 54, .int x] (kG a T) (kR (some (.int (vPP nm mk x))) T (fun b => kfr [54, 82] a b ∧ tr c kd nm mk (false || mk == nm) (tPP l) b)) := by
  have hfq0 : kfr [54, 82] a a := kfr.refl _ _
  obtain ⟨c0, L0, hO0, hk0, hn0, hm0, hp0, ht0, h82_0, htl0, hcc0⟩ := id htr0
  refine xMet.of (lv := [some (.ref 54), some (.int x)]) rfl rfl (Nat.le_of_ble_eq_true rfl) ?_
  refine xj_aload_n dX7_plainParts_0 rfl rfl ?_
  refine xj_bipush (v := 12) dX7_plainParts_1 rfl ?_
  refine xj_dV dX7_plainParts_3 q2546 kV_X7_ran (M_ran htr0) (kG_a (by decide) hO0) rfl rfl rfl rfl (Nat.le_of_ble_eq_true rfl) ⟨(Nat.le_of_ble_eq_true rfl), (Nat.le_of_ble_eq_true rfl)⟩ (Nat.le_of_ble_eq_true rfl) (Nat.le_of_ble_eq_true rfl) ?_
  rintro _ _ ⟨rfl, bb1, rfl, hfr1, htr1⟩
  have hfq1 := hfq0.trans hfr1 (fun _ h => h)
  obtain ⟨c1, L1, hO1, hk1, hn1, hm1, hp1, ht1, h82_1, htl1, hcc1⟩ := id htr1
  refine xj_aload_n dX7_plainParts_6 rfl rfl ?_
  refine xj_aload_n dX7_plainParts_7 rfl rfl ?_
  refine xj_get dX7_plainParts_8 K7 49 (by decide) q1978 (kG_a (by decide) hO1) (congrArg some hp1) ?_
  refine xj_if_ne (tgt := 25) dX7_plainParts_11 rfl (fun c11 => absurd rfl c11) (fun c11 => ?_)
  refine xj_aload_n dX7_plainParts_14 rfl rfl ?_
  refine xj_get dX7_plainParts_15 K7 48 (by decide) q1977 (kG_a (by decide) hO1) (congrArg some hm1) ?_
  refine xj_aload_n dX7_plainParts_18 rfl rfl ?_
  refine xj_get dX7_plainParts_19 K7 47 (by decide) q1976 (kG_a (by decide) hO1) (congrArg some hn1) ?_
  refine xj_icmp_ne (tgt := 29) dX7_plainParts_22 rfl (fun c22 => ?_) (fun c22 => ?_)
  · refine xj_ic0 dX7_plainParts_29 ?_
    have hO2 := hO1
    refine xj_put dX7_plainParts_30 K7 49 (by decide) q1978 rfl rfl (kG_a (by decide) hO1) (Nat.le_of_ble_eq_true rfl) ?_
    refine xj_eq rfl rfl (kG_set (by decide)) ?_
    refine xj_aload_n dX7_plainParts_33 rfl rfl ?_
    refine xj_get dX7_plainParts_34 K7 49 (by decide) q1978 (kG_a (by decide) rfl) rfl ?_
    refine xj_if_eq (tgt := 44) dX7_plainParts_37 rfl (fun c37 => ?_) (fun c37 => ?_)
    · refine xj_aload_n dX7_plainParts_44 rfl rfl ?_
      refine xj_get dX7_plainParts_45 K7 48 (by decide) q1977 (kG_a (by decide) rfl) (congrArg some hm1) ?_
      refine xj_aload_n dX7_plainParts_48 rfl rfl ?_
      refine xj_get dX7_plainParts_49 K7 47 (by decide) q1976 (kG_a (by decide) rfl) (congrArg some hn1) ?_
      refine xj_isub dX7_plainParts_52 ?_
      refine xj_icm1 dX7_plainParts_53 ?_
      refine xj_icmp_ne (tgt := 63) dX7_plainParts_54 rfl (fun c54 => ?_) (fun c54 => ?_)
      · refine xj_iload_n dX7_plainParts_63 rfl ?_
        refine xj_aload_n dX7_plainParts_64 rfl rfl ?_
        refine xj_get dX7_plainParts_65 K7 48 (by decide) q1977 (kG_a (by decide) rfl) (congrArg some hm1) ?_
        refine xj_aload_n dX7_plainParts_68 rfl rfl ?_
        refine xj_get dX7_plainParts_69 K7 47 (by decide) q1976 (kG_a (by decide) rfl) (congrArg some hn1) ?_
        refine xj_isub dX7_plainParts_72 ?_
        refine xj_idiv dX7_plainParts_73 (by first | exact pp_ne hnm hmk c22 | exact absurd c37 (by decide)) ?_
        exact xj_ireturn dX7_plainParts_74 rfl rfl (by first | exact absurd c37 (by decide) | exact absurd rfl c37 | (have e : mk = nm := (nI_eq (by omega) (by omega)).mp c22; exact kR_i (by unfold vPP; rw [if_pos e]) ⟨(hfq1.au (by decide)), ⟨cu c1 49 (.int (b1 (false || mk == nm))), L1, by rw [show (false || mk == nm) = true by rw [e]; simp]; rfl, hk1, hn1, hm1, rfl, ht1, h82_1, htl1, fun j h1 h2 => by unfold cu; rw [if_neg h2]; exact hcc1 j h1 h2⟩⟩) | (have e : ¬ mk = nm := fun q => c22 (by rw [q]); first | exact kR_i (by unfold vPP; rw [if_neg e, if_pos c54]) ⟨(hfq1.au (by decide)), ⟨cu c1 49 (.int (b1 (false || mk == nm))), L1, by rw [show (false || mk == nm) = false by simp [e]]; rfl, hk1, hn1, hm1, rfl, ht1, h82_1, htl1, fun j h1 h2 => by unfold cu; rw [if_neg h2]; exact hcc1 j h1 h2⟩⟩ | exact kR_i (by unfold vPP; rw [if_neg e, if_neg c54]) ⟨(hfq1.au (by decide)), ⟨cu c1 49 (.int (b1 (false || mk == nm))), L1, by rw [show (false || mk == nm) = false by simp [e]]; rfl, hk1, hn1, hm1, rfl, ht1, h82_1, htl1, fun j h1 h2 => by unfold cu; rw [if_neg h2]; exact hcc1 j h1 h2⟩⟩))
      · refine xj_ic0 dX7_plainParts_57 ?_
        refine xj_iload_n dX7_plainParts_58 rfl ?_
        refine xj_isub dX7_plainParts_59 ?_
        refine xj_goto (tgt := 74) dX7_plainParts_60 rfl ?_
        exact xj_ireturn dX7_plainParts_74 rfl rfl (by first | exact absurd c37 (by decide) | exact absurd rfl c37 | (have e : mk = nm := (nI_eq (by omega) (by omega)).mp c22; exact kR_i (by unfold vPP; rw [if_pos e]) ⟨(hfq1.au (by decide)), ⟨cu c1 49 (.int (b1 (false || mk == nm))), L1, by rw [show (false || mk == nm) = true by rw [e]; simp]; rfl, hk1, hn1, hm1, rfl, ht1, h82_1, htl1, fun j h1 h2 => by unfold cu; rw [if_neg h2]; exact hcc1 j h1 h2⟩⟩) | (have e : ¬ mk = nm := fun q => c22 (by rw [q]); first | exact kR_i (by unfold vPP; rw [if_neg e, if_pos c54]) ⟨(hfq1.au (by decide)), ⟨cu c1 49 (.int (b1 (false || mk == nm))), L1, by rw [show (false || mk == nm) = false by simp [e]]; rfl, hk1, hn1, hm1, rfl, ht1, h82_1, htl1, fun j h1 h2 => by unfold cu; rw [if_neg h2]; exact hcc1 j h1 h2⟩⟩ | exact kR_i (by unfold vPP; rw [if_neg e, if_neg c54]) ⟨(hfq1.au (by decide)), ⟨cu c1 49 (.int (b1 (false || mk == nm))), L1, by rw [show (false || mk == nm) = false by simp [e]]; rfl, hk1, hn1, hm1, rfl, ht1, h82_1, htl1, fun j h1 h2 => by unfold cu; rw [if_neg h2]; exact hcc1 j h1 h2⟩⟩))
    · refine xj_ic0 dX7_plainParts_40 ?_
      refine xj_goto (tgt := 74) dX7_plainParts_41 rfl ?_
      exact xj_ireturn dX7_plainParts_74 rfl rfl (by first | exact absurd c37 (by decide) | exact absurd rfl c37 | (have e : mk = nm := (nI_eq (by omega) (by omega)).mp c22; exact kR_i (by unfold vPP; rw [if_pos e]) ⟨(hfq1.au (by decide)), ⟨cu c1 49 (.int (b1 (false || mk == nm))), L1, by rw [show (false || mk == nm) = true by rw [e]; simp]; rfl, hk1, hn1, hm1, rfl, ht1, h82_1, htl1, fun j h1 h2 => by unfold cu; rw [if_neg h2]; exact hcc1 j h1 h2⟩⟩) | (have e : ¬ mk = nm := fun q => c22 (by rw [q]); first | exact kR_i (by unfold vPP; rw [if_neg e, if_pos c54]) ⟨(hfq1.au (by decide)), ⟨cu c1 49 (.int (b1 (false || mk == nm))), L1, by rw [show (false || mk == nm) = false by simp [e]]; rfl, hk1, hn1, hm1, rfl, ht1, h82_1, htl1, fun j h1 h2 => by unfold cu; rw [if_neg h2]; exact hcc1 j h1 h2⟩⟩ | exact kR_i (by unfold vPP; rw [if_neg e, if_neg c54]) ⟨(hfq1.au (by decide)), ⟨cu c1 49 (.int (b1 (false || mk == nm))), L1, by rw [show (false || mk == nm) = false by simp [e]]; rfl, hk1, hn1, hm1, rfl, ht1, h82_1, htl1, fun j h1 h2 => by unfold cu; rw [if_neg h2]; exact hcc1 j h1 h2⟩⟩))
  · refine xj_ic1 dX7_plainParts_25 ?_
    refine xj_goto (tgt := 30) dX7_plainParts_26 rfl ?_
    have hO2 := hO1
    refine xj_put dX7_plainParts_30 K7 49 (by decide) q1978 rfl rfl (kG_a (by decide) hO1) (Nat.le_of_ble_eq_true rfl) ?_
    refine xj_eq rfl rfl (kG_set (by decide)) ?_
    refine xj_aload_n dX7_plainParts_33 rfl rfl ?_
    refine xj_get dX7_plainParts_34 K7 49 (by decide) q1978 (kG_a (by decide) rfl) rfl ?_
    refine xj_if_eq (tgt := 44) dX7_plainParts_37 rfl (fun c37 => ?_) (fun c37 => ?_)
    · refine xj_aload_n dX7_plainParts_44 rfl rfl ?_
      refine xj_get dX7_plainParts_45 K7 48 (by decide) q1977 (kG_a (by decide) rfl) (congrArg some hm1) ?_
      refine xj_aload_n dX7_plainParts_48 rfl rfl ?_
      refine xj_get dX7_plainParts_49 K7 47 (by decide) q1976 (kG_a (by decide) rfl) (congrArg some hn1) ?_
      refine xj_isub dX7_plainParts_52 ?_
      refine xj_icm1 dX7_plainParts_53 ?_
      refine xj_icmp_ne (tgt := 63) dX7_plainParts_54 rfl (fun c54 => ?_) (fun c54 => ?_)
      · refine xj_iload_n dX7_plainParts_63 rfl ?_
        refine xj_aload_n dX7_plainParts_64 rfl rfl ?_
        refine xj_get dX7_plainParts_65 K7 48 (by decide) q1977 (kG_a (by decide) rfl) (congrArg some hm1) ?_
        refine xj_aload_n dX7_plainParts_68 rfl rfl ?_
        refine xj_get dX7_plainParts_69 K7 47 (by decide) q1976 (kG_a (by decide) rfl) (congrArg some hn1) ?_
        refine xj_isub dX7_plainParts_72 ?_
        refine xj_idiv dX7_plainParts_73 (by first | exact pp_ne hnm hmk c22 | exact absurd c37 (by decide)) ?_
        exact xj_ireturn dX7_plainParts_74 rfl rfl (by first | exact absurd c37 (by decide) | exact absurd rfl c37 | (have e : mk = nm := (nI_eq (by omega) (by omega)).mp c22; exact kR_i (by unfold vPP; rw [if_pos e]) ⟨(hfq1.au (by decide)), ⟨cu c1 49 (.int (b1 (false || mk == nm))), L1, by rw [show (false || mk == nm) = true by rw [e]; simp]; rfl, hk1, hn1, hm1, rfl, ht1, h82_1, htl1, fun j h1 h2 => by unfold cu; rw [if_neg h2]; exact hcc1 j h1 h2⟩⟩) | (have e : ¬ mk = nm := fun q => c22 (by rw [q]); first | exact kR_i (by unfold vPP; rw [if_neg e, if_pos c54]) ⟨(hfq1.au (by decide)), ⟨cu c1 49 (.int (b1 (false || mk == nm))), L1, by rw [show (false || mk == nm) = false by simp [e]]; rfl, hk1, hn1, hm1, rfl, ht1, h82_1, htl1, fun j h1 h2 => by unfold cu; rw [if_neg h2]; exact hcc1 j h1 h2⟩⟩ | exact kR_i (by unfold vPP; rw [if_neg e, if_neg c54]) ⟨(hfq1.au (by decide)), ⟨cu c1 49 (.int (b1 (false || mk == nm))), L1, by rw [show (false || mk == nm) = false by simp [e]]; rfl, hk1, hn1, hm1, rfl, ht1, h82_1, htl1, fun j h1 h2 => by unfold cu; rw [if_neg h2]; exact hcc1 j h1 h2⟩⟩))
      · refine xj_ic0 dX7_plainParts_57 ?_
        refine xj_iload_n dX7_plainParts_58 rfl ?_
        refine xj_isub dX7_plainParts_59 ?_
        refine xj_goto (tgt := 74) dX7_plainParts_60 rfl ?_
        exact xj_ireturn dX7_plainParts_74 rfl rfl (by first | exact absurd c37 (by decide) | exact absurd rfl c37 | (have e : mk = nm := (nI_eq (by omega) (by omega)).mp c22; exact kR_i (by unfold vPP; rw [if_pos e]) ⟨(hfq1.au (by decide)), ⟨cu c1 49 (.int (b1 (false || mk == nm))), L1, by rw [show (false || mk == nm) = true by rw [e]; simp]; rfl, hk1, hn1, hm1, rfl, ht1, h82_1, htl1, fun j h1 h2 => by unfold cu; rw [if_neg h2]; exact hcc1 j h1 h2⟩⟩) | (have e : ¬ mk = nm := fun q => c22 (by rw [q]); first | exact kR_i (by unfold vPP; rw [if_neg e, if_pos c54]) ⟨(hfq1.au (by decide)), ⟨cu c1 49 (.int (b1 (false || mk == nm))), L1, by rw [show (false || mk == nm) = false by simp [e]]; rfl, hk1, hn1, hm1, rfl, ht1, h82_1, htl1, fun j h1 h2 => by unfold cu; rw [if_neg h2]; exact hcc1 j h1 h2⟩⟩ | exact kR_i (by unfold vPP; rw [if_neg e, if_neg c54]) ⟨(hfq1.au (by decide)), ⟨cu c1 49 (.int (b1 (false || mk == nm))), L1, by rw [show (false || mk == nm) = false by simp [e]]; rfl, hk1, hn1, hm1, rfl, ht1, h82_1, htl1, fun j h1 h2 => by unfold cu; rw [if_neg h2]; exact hcc1 j h1 h2⟩⟩))
    · refine xj_ic0 dX7_plainParts_40 ?_
      refine xj_goto (tgt := 74) dX7_plainParts_41 rfl ?_
      exact xj_ireturn dX7_plainParts_74 rfl rfl (by first | exact absurd c37 (by decide) | exact absurd rfl c37 | (have e : mk = nm := (nI_eq (by omega) (by omega)).mp c22; exact kR_i (by unfold vPP; rw [if_pos e]) ⟨(hfq1.au (by decide)), ⟨cu c1 49 (.int (b1 (false || mk == nm))), L1, by rw [show (false || mk == nm) = true by rw [e]; simp]; rfl, hk1, hn1, hm1, rfl, ht1, h82_1, htl1, fun j h1 h2 => by unfold cu; rw [if_neg h2]; exact hcc1 j h1 h2⟩⟩) | (have e : ¬ mk = nm := fun q => c22 (by rw [q]); first | exact kR_i (by unfold vPP; rw [if_neg e, if_pos c54]) ⟨(hfq1.au (by decide)), ⟨cu c1 49 (.int (b1 (false || mk == nm))), L1, by rw [show (false || mk == nm) = false by simp [e]]; rfl, hk1, hn1, hm1, rfl, ht1, h82_1, htl1, fun j h1 h2 => by unfold cu; rw [if_neg h2]; exact hcc1 j h1 h2⟩⟩ | exact kR_i (by unfold vPP; rw [if_neg e, if_neg c54]) ⟨(hfq1.au (by decide)), ⟨cu c1 49 (.int (b1 (false || mk == nm))), L1, by rw [show (false || mk == nm) = false by simp [e]]; rfl, hk1, hn1, hm1, rfl, ht1, h82_1, htl1, fun j h1 h2 => by unfold cu; rw [if_neg h2]; exact hcc1 j h1 h2⟩⟩))
theorem M_longerParts {kd nm mk : Nat} {l : List Int32} {x : Int32} (hkd : kd < 6) (hnm : nm < 6) (hmk : mk < 16) (htr0 : tr c kd nm mk false (l) a) : xMet E yX7_longerParts cX7_longerParts 3 (some FieldType.int) 4 0 0 [.ref 54, .int x] (kG a T) (kR (some (.int (vLP kd nm mk x))) T (fun b => kfr [54, 82] a b ∧ tr c kd nm mk (false || mk == nm) (tLP kd nm mk l) b)) := by
  have hfq0 : kfr [54, 82] a a := kfr.refl _ _
  obtain ⟨c0, L0, hO0, hk0, hn0, hm0, hp0, ht0, h82_0, htl0, hcc0⟩ := id htr0
  refine xMet.of (lv := [some (.ref 54), some (.int x), none]) rfl rfl (Nat.le_of_ble_eq_true rfl) ?_
  refine xj_aload_n dX7_longerParts_0 rfl rfl ?_
  refine xj_bipush (v := 31) dX7_longerParts_1 rfl ?_
  refine xj_dV dX7_longerParts_3 q2546 kV_X7_ran (M_ran htr0) (kG_a (by decide) hO0) rfl rfl rfl rfl (Nat.le_of_ble_eq_true rfl) ⟨(Nat.le_of_ble_eq_true rfl), (Nat.le_of_ble_eq_true rfl)⟩ (Nat.le_of_ble_eq_true rfl) (Nat.le_of_ble_eq_true rfl) ?_
  rintro _ _ ⟨rfl, bb1, rfl, hfr1, htr1⟩
  have hfq1 := hfq0.trans hfr1 (fun _ h => h)
  obtain ⟨c1, L1, hO1, hk1, hn1, hm1, hp1, ht1, h82_1, htl1, hcc1⟩ := id htr1
  refine xj_aload_n dX7_longerParts_6 rfl rfl ?_
  refine xj_iload_n dX7_longerParts_7 rfl ?_
  refine xj_dV dX7_longerParts_8 q2574 kV_X7_plainParts (M_plainParts hnm hmk htr1) (kG_a (by decide) hO1) rfl rfl rfl rfl (Nat.le_of_ble_eq_true rfl) ⟨(Nat.le_of_ble_eq_true rfl), (Nat.le_of_ble_eq_true rfl)⟩ (Nat.le_of_ble_eq_true rfl) (Nat.le_of_ble_eq_true rfl) ?_
  rintro _ _ ⟨rfl, bb2, rfl, hfr2, htr2⟩
  have hfq2 := hfq1.trans hfr2 (fun _ h => h)
  obtain ⟨c2, L2, hO2, hk2, hn2, hm2, hp2, ht2, h82_2, htl2, hcc2⟩ := id htr2
  refine xj_istn2 dX7_longerParts_11 rfl ?_
  refine xj_aload_n dX7_longerParts_12 rfl rfl ?_
  refine xj_get dX7_longerParts_13 K7 49 (by decide) q1978 (kG_a (by decide) hO2) (congrArg some hp2) ?_
  refine xj_if_eq (tgt := 23) dX7_longerParts_16 rfl (fun c16 => ?_) (fun c16 => ?_)
  · refine xj_iload_n dX7_longerParts_23 rfl ?_
    refine xj_aload_n dX7_longerParts_24 rfl rfl ?_
    refine xj_aload_n dX7_longerParts_25 rfl rfl ?_
    refine xj_get dX7_longerParts_26 K7 47 (by decide) q1976 (kG_a (by decide) hO2) (congrArg some hn2) ?_
    refine xj_dV dX7_longerParts_29 q2542 kV_X7_turns (M_turns hkd htr2) (kG_a (by decide) hO2) rfl rfl rfl rfl (Nat.le_of_ble_eq_true rfl) ⟨(Nat.le_of_ble_eq_true rfl), (Nat.le_of_ble_eq_true rfl)⟩ (Nat.le_of_ble_eq_true rfl) (Nat.le_of_ble_eq_true rfl) ?_
    rintro _ _ ⟨rfl, bb3, rfl, hfr3, htr3⟩
    have hfq3 := hfq2.trans hfr3 (fun _ h => h)
    obtain ⟨c3, L3, hO3, hk3, hn3, hm3, hp3, ht3, h82_3, htl3, hcc3⟩ := id htr3
    refine xj_iadd dX7_longerParts_32 ?_
    exact xj_ireturn dX7_longerParts_33 rfl rfl (by first | (have e : mk = nm := pq_t c16; exact kR_i (by unfold vLP; rw [if_pos e]) ⟨hfq2, by unfold tLP; rw [if_pos e]; exact htr2⟩) | (have e : ¬ mk = nm := pq_f c16; exact kR_i (by unfold vLP; rw [if_neg e]) ⟨hfq3, by unfold tLP; rw [if_neg e]; exact htr3⟩))
  · refine xj_ic0 dX7_longerParts_19 ?_
    refine xj_goto (tgt := 33) dX7_longerParts_20 rfl ?_
    exact xj_ireturn dX7_longerParts_33 rfl rfl (by first | (have e : mk = nm := pq_t c16; exact kR_i (by unfold vLP; rw [if_pos e]) ⟨hfq2, by unfold tLP; rw [if_pos e]; exact htr2⟩) | (have e : ¬ mk = nm := pq_f c16; exact kR_i (by unfold vLP; rw [if_neg e]) ⟨hfq3, by unfold tLP; rw [if_neg e]; exact htr3⟩))
theorem M_parts {kd nm mk : Nat} {l : List Int32} {x : Int32} (hkd : kd < 6) (hnm : nm < 6) (hmk : mk < 16) (htr0 : tr c kd nm mk false (l) a) : xMet E yX7_parts cX7_parts 2 (some FieldType.int) 5 0 0 [.ref 54, .int x] (kG a T) (kR (some (.int (vP kd nm mk x))) T (fun b => kfr [54, 82] a b ∧ tr c kd nm mk (false || mk == nm) (tP kd nm mk l) b)) := by
  have hfq0 : kfr [54, 82] a a := kfr.refl _ _
  obtain ⟨c0, L0, hO0, hk0, hn0, hm0, hp0, ht0, h82_0, htl0, hcc0⟩ := id htr0
  refine xMet.of (lv := [some (.ref 54), some (.int x)]) rfl rfl (Nat.le_of_ble_eq_true rfl) ?_
  refine xj_aload_n dX7_parts_0 rfl rfl ?_
  refine xj_get dX7_parts_1 K7 46 (by decide) q1975 (kG_a (by decide) hO0) (congrArg some hk0) ?_
  refine xj_ic5 dX7_parts_4 ?_
  refine xj_icmp_ne (tgt := 27) dX7_parts_5 rfl (fun c5 => ?_) (fun c5 => ?_)
  · refine xj_aload_n dX7_parts_27 rfl rfl ?_
    refine xj_get dX7_parts_28 K7 46 (by decide) q1975 (kG_a (by decide) hO0) (congrArg some hk0) ?_
    refine xj_ic2 dX7_parts_31 ?_
    refine xj_icmp_ne (tgt := 43) dX7_parts_32 rfl (fun c32 => ?_) (fun c32 => ?_)
    · refine xj_aload_n dX7_parts_43 rfl rfl ?_
      refine xj_iload_n dX7_parts_44 rfl ?_
      refine xj_dV dX7_parts_45 q2574 kV_X7_plainParts (M_plainParts hnm hmk htr0) (kG_a (by decide) hO0) rfl rfl rfl rfl (Nat.le_of_ble_eq_true rfl) ⟨(Nat.le_of_ble_eq_true rfl), (Nat.le_of_ble_eq_true rfl)⟩ (Nat.le_of_ble_eq_true rfl) (Nat.le_of_ble_eq_true rfl) ?_
      rintro _ _ ⟨rfl, bb1, rfl, hfr1, htr1⟩
      have hfq1 := hfq0.trans hfr1 (fun _ h => h)
      obtain ⟨c1, L1, hO1, hk1, hn1, hm1, hp1, ht1, h82_1, htl1, hcc1⟩ := id htr1
      exact xj_ireturn dX7_parts_48 rfl rfl (by have n5 := (show ¬ kd = 5 from fun q => c5 (by rw [q]; rfl)); first | (have e := (show kd = 2 from (nI_eq (by omega) (by decide)).mp (show nI kd = nI 2 from c32)); exact kR_i (by unfold vP; rw [if_neg n5, if_pos e]) ⟨hfq1, by unfold tP; rw [if_neg n5, if_pos e]; exact htr1⟩) | (have e := (show ¬ kd = 2 from fun q => c32 (by rw [q]; rfl)); exact kR_i (by unfold vP; rw [if_neg n5, if_neg e]) ⟨hfq1, by unfold tP; rw [if_neg n5, if_neg e]; exact htr1⟩))
    · refine xj_aload_n dX7_parts_35 rfl rfl ?_
      refine xj_iload_n dX7_parts_36 rfl ?_
      refine xj_dV dX7_parts_37 q2570 kV_X7_longerParts (M_longerParts hkd hnm hmk htr0) (kG_a (by decide) hO0) rfl rfl rfl rfl (Nat.le_of_ble_eq_true rfl) ⟨(Nat.le_of_ble_eq_true rfl), (Nat.le_of_ble_eq_true rfl)⟩ (Nat.le_of_ble_eq_true rfl) (Nat.le_of_ble_eq_true rfl) ?_
      rintro _ _ ⟨rfl, bb1, rfl, hfr1, htr1⟩
      have hfq1 := hfq0.trans hfr1 (fun _ h => h)
      obtain ⟨c1, L1, hO1, hk1, hn1, hm1, hp1, ht1, h82_1, htl1, hcc1⟩ := id htr1
      refine xj_goto (tgt := 48) dX7_parts_40 rfl ?_
      exact xj_ireturn dX7_parts_48 rfl rfl (by have n5 := (show ¬ kd = 5 from fun q => c5 (by rw [q]; rfl)); first | (have e := (show kd = 2 from (nI_eq (by omega) (by decide)).mp (show nI kd = nI 2 from c32)); exact kR_i (by unfold vP; rw [if_neg n5, if_pos e]) ⟨hfq1, by unfold tP; rw [if_neg n5, if_pos e]; exact htr1⟩) | (have e := (show ¬ kd = 2 from fun q => c32 (by rw [q]; rfl)); exact kR_i (by unfold vP; rw [if_neg n5, if_neg e]) ⟨hfq1, by unfold tP; rw [if_neg n5, if_neg e]; exact htr1⟩))
  · refine xj_aload_n dX7_parts_8 rfl rfl ?_
    refine xj_bipush (v := 60) dX7_parts_9 rfl ?_
    refine xj_dV dX7_parts_11 q2546 kV_X7_ran (M_ran htr0) (kG_a (by decide) hO0) rfl rfl rfl rfl (Nat.le_of_ble_eq_true rfl) ⟨(Nat.le_of_ble_eq_true rfl), (Nat.le_of_ble_eq_true rfl)⟩ (Nat.le_of_ble_eq_true rfl) (Nat.le_of_ble_eq_true rfl) ?_
    rintro _ _ ⟨rfl, bb1, rfl, hfr1, htr1⟩
    have hfq1 := hfq0.trans hfr1 (fun _ h => h)
    obtain ⟨c1, L1, hO1, hk1, hn1, hm1, hp1, ht1, h82_1, htl1, hcc1⟩ := id htr1
    refine xj_aload_n dX7_parts_14 rfl rfl ?_
    refine xj_iload_n dX7_parts_15 rfl ?_
    refine xj_aload_n dX7_parts_16 rfl rfl ?_
    refine xj_get dX7_parts_17 K7 48 (by decide) q1977 (kG_a (by decide) hO1) (congrArg some hm1) ?_
    refine xj_isub dX7_parts_20 ?_
    refine xj_dV dX7_parts_21 q2570 kV_X7_longerParts (M_longerParts hkd hnm hmk htr1) (kG_a (by decide) hO1) rfl rfl rfl rfl (Nat.le_of_ble_eq_true rfl) ⟨(Nat.le_of_ble_eq_true rfl), (Nat.le_of_ble_eq_true rfl)⟩ (Nat.le_of_ble_eq_true rfl) (Nat.le_of_ble_eq_true rfl) ?_
    rintro _ _ ⟨rfl, bb2, rfl, hfr2, htr2⟩
    have hfq2 := hfq1.trans hfr2 (fun _ h => h)
    obtain ⟨c2, L2, hO2, hk2, hn2, hm2, hp2, ht2, h82_2, htl2, hcc2⟩ := id htr2
    refine xj_ic5 dX7_parts_24 ?_
    refine xj_ixor dX7_parts_25 ?_
    exact xj_ireturn dX7_parts_26 rfl rfl (kR_i (by unfold vP; rw [if_pos (show kd = 5 from (nI_eq (by omega) (by decide)).mp (show nI kd = nI 5 from c5))]) ⟨hfq2, by unfold tP; rw [if_pos (show kd = 5 from (nI_eq (by omega) (by decide)).mp (show nI kd = nI 5 from c5))]; exact htr2⟩)
theorem M_plainJoins {kd nm mk : Nat} {l : List Int32} {x : Int32} (hkd : kd < 6) (hnm : nm < 6) (hmk : mk < 16) (htr0 : tr c kd nm mk false (l) a) : xMet E yX7_plainJoins cX7_plainJoins 3 (some FieldType.int) 6 0 0 [.ref 54, .int x] (kG a T) (kR (some (.int (vPJ kd nm mk x))) T (fun b => kfr [54, 82] a b ∧ tr c kd nm mk (false || mk == nm) (tPJ kd nm mk l) b)) := by
  have hfq0 : kfr [54, 82] a a := kfr.refl _ _
  obtain ⟨c0, L0, hO0, hk0, hn0, hm0, hp0, ht0, h82_0, htl0, hcc0⟩ := id htr0
  refine xMet.of (lv := [some (.ref 54), some (.int x), none]) rfl rfl (Nat.le_of_ble_eq_true rfl) ?_
  refine xj_aload_n dX7_plainJoins_0 rfl rfl ?_
  refine xj_bipush (v := 13) dX7_plainJoins_1 rfl ?_
  refine xj_dV dX7_plainJoins_3 q2546 kV_X7_ran (M_ran htr0) (kG_a (by decide) hO0) rfl rfl rfl rfl (Nat.le_of_ble_eq_true rfl) ⟨(Nat.le_of_ble_eq_true rfl), (Nat.le_of_ble_eq_true rfl)⟩ (Nat.le_of_ble_eq_true rfl) (Nat.le_of_ble_eq_true rfl) ?_
  rintro _ _ ⟨rfl, bb1, rfl, hfr1, htr1⟩
  have hfq1 := hfq0.trans hfr1 (fun _ h => h)
  obtain ⟨c1, L1, hO1, hk1, hn1, hm1, hp1, ht1, h82_1, htl1, hcc1⟩ := id htr1
  refine xj_aload_n dX7_plainJoins_6 rfl rfl ?_
  refine xj_iload_n dX7_plainJoins_7 rfl ?_
  refine xj_dV dX7_plainJoins_8 q2558 kV_X7_bends (M_bends hkd htr1) (kG_a (by decide) hO1) rfl rfl rfl rfl (Nat.le_of_ble_eq_true rfl) ⟨(Nat.le_of_ble_eq_true rfl), (Nat.le_of_ble_eq_true rfl)⟩ (Nat.le_of_ble_eq_true rfl) (Nat.le_of_ble_eq_true rfl) ?_
  rintro _ _ ⟨rfl, bb2, rfl, hfr2, htr2⟩
  have hfq2 := hfq1.trans hfr2 (fun _ h => h)
  obtain ⟨c2, L2, hO2, hk2, hn2, hm2, hp2, ht2, h82_2, htl2, hcc2⟩ := id htr2
  refine xj_istn2 dX7_plainJoins_11 rfl ?_
  refine xj_iload_n dX7_plainJoins_12 rfl ?_
  refine xj_aload_n dX7_plainJoins_13 rfl rfl ?_
  refine xj_iload_n dX7_plainJoins_14 rfl ?_
  refine xj_ic1 dX7_plainJoins_15 ?_
  refine xj_iadd dX7_plainJoins_16 ?_
  refine xj_dV dX7_plainJoins_17 q2566 kV_X7_parts (M_parts hkd hnm hmk htr2) (kG_a (by decide) hO2) rfl rfl rfl rfl (Nat.le_of_ble_eq_true rfl) ⟨(Nat.le_of_ble_eq_true rfl), (Nat.le_of_ble_eq_true rfl)⟩ (Nat.le_of_ble_eq_true rfl) (Nat.le_of_ble_eq_true rfl) ?_
  rintro _ _ ⟨rfl, bb3, rfl, hfr3, htr3⟩
  have hfq3 := hfq2.trans hfr3 (fun _ h => h)
  obtain ⟨c3, L3, hO3, hk3, hn3, hm3, hp3, ht3, h82_3, htl3, hcc3⟩ := id htr3
  refine xj_ixor dX7_plainJoins_20 ?_
  exact xj_ireturn dX7_plainJoins_21 rfl rfl (kR_i (rfl) ⟨hfq3, htr3⟩)
theorem M_joins {kd nm mk : Nat} {l : List Int32} {x : Int32} (hkd : kd < 6) (hnm : nm < 6) (hmk : mk < 16) (htr0 : tr c kd nm mk false (l) a) : xMet E yX7_joins cX7_joins 3 (some FieldType.int) 7 0 0 [.ref 54, .int x] (kG a T) (kR (some (.int (vJ kd nm mk x))) T (fun b => kfr [54, 82] a b ∧ tr c kd nm mk (false || mk == nm) (tJ kd nm mk l) b)) := by
  have hfq0 : kfr [54, 82] a a := kfr.refl _ _
  obtain ⟨c0, L0, hO0, hk0, hn0, hm0, hp0, ht0, h82_0, htl0, hcc0⟩ := id htr0
  refine xMet.of (lv := [some (.ref 54), some (.int x), none]) rfl rfl (Nat.le_of_ble_eq_true rfl) ?_
  refine xj_aload_n dX7_joins_0 rfl rfl ?_
  refine xj_get dX7_joins_1 K7 46 (by decide) q1975 (kG_a (by decide) hO0) (congrArg some hk0) ?_
  refine xj_ic4 dX7_joins_4 ?_
  refine xj_icmp_eq (tgt := 22) dX7_joins_5 rfl (fun c5 => ?_) (fun c5 => ?_)
  · refine xj_aload_n dX7_joins_22 rfl rfl ?_
    refine xj_aload_n dX7_joins_23 rfl rfl ?_
    refine xj_get dX7_joins_24 K7 46 (by decide) q1975 (kG_a (by decide) hO0) (congrArg some hk0) ?_
    refine xj_ic4 dX7_joins_27 ?_
    refine xj_icmp_ne (tgt := 36) dX7_joins_28 rfl (fun c28 => ?_) (fun c28 => ?_)
    · refine xj_bipush (v := 61) dX7_joins_36 rfl ?_
      refine xj_dV dX7_joins_38 q2546 kV_X7_ran (M_ran htr0) (kG_a (by decide) hO0) rfl rfl rfl rfl (Nat.le_of_ble_eq_true rfl) ⟨(Nat.le_of_ble_eq_true rfl), (Nat.le_of_ble_eq_true rfl)⟩ (Nat.le_of_ble_eq_true rfl) (Nat.le_of_ble_eq_true rfl) ?_
      rintro _ _ ⟨rfl, bb1, rfl, hfr1, htr1⟩
      have hfq1 := hfq0.trans hfr1 (fun _ h => h)
      obtain ⟨c1, L1, hO1, hk1, hn1, hm1, hp1, ht1, h82_1, htl1, hcc1⟩ := id htr1
      refine xj_aload_n dX7_joins_41 rfl rfl ?_
      refine xj_iload_n dX7_joins_42 rfl ?_
      refine xj_dV dX7_joins_43 q2582 kV_X7_plainJoins (M_plainJoins hkd hnm hmk htr1) (kG_a (by decide) hO1) rfl rfl rfl rfl (Nat.le_of_ble_eq_true rfl) ⟨(Nat.le_of_ble_eq_true rfl), (Nat.le_of_ble_eq_true rfl)⟩ (Nat.le_of_ble_eq_true rfl) (Nat.le_of_ble_eq_true rfl) ?_
      rintro _ _ ⟨rfl, bb2, rfl, hfr2, htr2⟩
      have hfq2 := hfq1.trans hfr2 (fun _ h => h)
      obtain ⟨c2, L2, hO2, hk2, hn2, hm2, hp2, ht2, h82_2, htl2, hcc2⟩ := id htr2
      refine xj_istn2 dX7_joins_46 rfl ?_
      refine xj_aload_n dX7_joins_47 rfl rfl ?_
      refine xj_get dX7_joins_48 K7 49 (by decide) q1978 (kG_a (by decide) hO2) (congrArg some hp2) ?_
      refine xj_if_eq (tgt := 56) dX7_joins_51 rfl (fun c51 => ?_) (fun c51 => ?_)
      · refine xj_aload_n dX7_joins_56 rfl rfl ?_
        refine xj_get dX7_joins_57 K7 46 (by decide) q1975 (kG_a (by decide) hO2) (congrArg some hk2) ?_
        refine xj_ic4 dX7_joins_60 ?_
        refine xj_icmp_ne (tgt := 77) dX7_joins_61 rfl (fun c61 => ?_) (fun c61 => ?_)
        · refine xj_iload_n dX7_joins_77 rfl ?_
          refine xj_aload_n dX7_joins_78 rfl rfl ?_
          refine xj_ic1 dX7_joins_79 ?_
          refine xj_dV dX7_joins_80 q2558 kV_X7_bends (M_bends hkd htr2) (kG_a (by decide) hO2) rfl rfl rfl rfl (Nat.le_of_ble_eq_true rfl) ⟨(Nat.le_of_ble_eq_true rfl), (Nat.le_of_ble_eq_true rfl)⟩ (Nat.le_of_ble_eq_true rfl) (Nat.le_of_ble_eq_true rfl) ?_
          rintro _ _ ⟨rfl, bb3, rfl, hfr3, htr3⟩
          have hfq3 := hfq2.trans hfr3 (fun _ h => h)
          obtain ⟨c3, L3, hO3, hk3, hn3, hm3, hp3, ht3, h82_3, htl3, hcc3⟩ := id htr3
          refine xj_iadd dX7_joins_83 ?_
          exact xj_ireturn dX7_joins_84 rfl rfl (by have e4 : kd = 4 ∨ kd = 5 := (by first | exact Or.inl (show kd = 4 from (nI_eq (by omega) (by decide)).mp (show nI kd = nI 4 from c5)) | exact Or.inr (show kd = 5 from (nI_eq (by omega) (by decide)).mp (show nI kd = nI 5 from c13))); have e : ¬ mk = nm := pq_f c51; first | (have q4 := (show kd = 4 from (nI_eq (by omega) (by decide)).mp (show nI kd = nI 4 from c28)); have q6 := (show kd = 4 from (nI_eq (by omega) (by decide)).mp (show nI kd = nI 4 from c61)); exact kR_i (by unfold vJ; rw [if_pos e4, if_neg e, if_pos q4]) ⟨hfq3, by unfold tJ; rw [if_pos e4, if_neg e, if_pos q4]; exact htr3⟩) | (have q4 := (show ¬ kd = 4 from fun q => c28 (by rw [q]; rfl)); have q6 := (show ¬ kd = 4 from fun q => c61 (by rw [q]; rfl)); exact kR_i (by unfold vJ; rw [if_pos e4, if_neg e, if_neg q4]) ⟨hfq3, by unfold tJ; rw [if_pos e4, if_neg e, if_neg q4]; exact htr3⟩) | exact absurd (show kd = 4 from (nI_eq (by omega) (by decide)).mp (show nI kd = nI 4 from c61)) (show ¬ kd = 4 from fun q => c28 (by rw [q]; rfl)) | exact absurd (show kd = 4 from (nI_eq (by omega) (by decide)).mp (show nI kd = nI 4 from c28)) (show ¬ kd = 4 from fun q => c61 (by rw [q]; rfl)))
        · refine xj_iload_n dX7_joins_64 rfl ?_
          refine xj_aload_n dX7_joins_65 rfl rfl ?_
          refine xj_aload_n dX7_joins_66 rfl rfl ?_
          refine xj_get dX7_joins_67 K7 48 (by decide) q1977 (kG_a (by decide) hO2) (congrArg some hm2) ?_
          refine xj_dV dX7_joins_70 q2558 kV_X7_bends (M_bends hkd htr2) (kG_a (by decide) hO2) rfl rfl rfl rfl (Nat.le_of_ble_eq_true rfl) ⟨(Nat.le_of_ble_eq_true rfl), (Nat.le_of_ble_eq_true rfl)⟩ (Nat.le_of_ble_eq_true rfl) (Nat.le_of_ble_eq_true rfl) ?_
          rintro _ _ ⟨rfl, bb3, rfl, hfr3, htr3⟩
          have hfq3 := hfq2.trans hfr3 (fun _ h => h)
          obtain ⟨c3, L3, hO3, hk3, hn3, hm3, hp3, ht3, h82_3, htl3, hcc3⟩ := id htr3
          refine xj_isub dX7_joins_73 ?_
          refine xj_goto (tgt := 84) dX7_joins_74 rfl ?_
          exact xj_ireturn dX7_joins_84 rfl rfl (by have e4 : kd = 4 ∨ kd = 5 := (by first | exact Or.inl (show kd = 4 from (nI_eq (by omega) (by decide)).mp (show nI kd = nI 4 from c5)) | exact Or.inr (show kd = 5 from (nI_eq (by omega) (by decide)).mp (show nI kd = nI 5 from c13))); have e : ¬ mk = nm := pq_f c51; first | (have q4 := (show kd = 4 from (nI_eq (by omega) (by decide)).mp (show nI kd = nI 4 from c28)); have q6 := (show kd = 4 from (nI_eq (by omega) (by decide)).mp (show nI kd = nI 4 from c61)); exact kR_i (by unfold vJ; rw [if_pos e4, if_neg e, if_pos q4]) ⟨hfq3, by unfold tJ; rw [if_pos e4, if_neg e, if_pos q4]; exact htr3⟩) | (have q4 := (show ¬ kd = 4 from fun q => c28 (by rw [q]; rfl)); have q6 := (show ¬ kd = 4 from fun q => c61 (by rw [q]; rfl)); exact kR_i (by unfold vJ; rw [if_pos e4, if_neg e, if_neg q4]) ⟨hfq3, by unfold tJ; rw [if_pos e4, if_neg e, if_neg q4]; exact htr3⟩) | exact absurd (show kd = 4 from (nI_eq (by omega) (by decide)).mp (show nI kd = nI 4 from c61)) (show ¬ kd = 4 from fun q => c28 (by rw [q]; rfl)) | exact absurd (show kd = 4 from (nI_eq (by omega) (by decide)).mp (show nI kd = nI 4 from c28)) (show ¬ kd = 4 from fun q => c61 (by rw [q]; rfl)))
      · refine xj_ic0 dX7_joins_54 ?_
        exact xj_ireturn dX7_joins_55 rfl rfl (by have e4 : kd = 4 ∨ kd = 5 := (by first | exact Or.inl (show kd = 4 from (nI_eq (by omega) (by decide)).mp (show nI kd = nI 4 from c5)) | exact Or.inr (show kd = 5 from (nI_eq (by omega) (by decide)).mp (show nI kd = nI 5 from c13))); have e : mk = nm := pq_t c51; first | (have q4 := (show kd = 4 from (nI_eq (by omega) (by decide)).mp (show nI kd = nI 4 from c28)); exact kR_i (by unfold vJ; rw [if_pos e4, if_pos e]) ⟨hfq2, by unfold tJ; rw [if_pos e4, if_pos e, if_pos q4]; exact htr2⟩) | (have q4 := (show ¬ kd = 4 from fun q => c28 (by rw [q]; rfl)); exact kR_i (by unfold vJ; rw [if_pos e4, if_pos e]) ⟨hfq2, by unfold tJ; rw [if_pos e4, if_pos e, if_neg q4]; exact htr2⟩))
    · refine xj_bipush (v := 50) dX7_joins_31 rfl ?_
      refine xj_goto (tgt := 38) dX7_joins_33 rfl ?_
      refine xj_dV dX7_joins_38 q2546 kV_X7_ran (M_ran htr0) (kG_a (by decide) hO0) rfl rfl rfl rfl (Nat.le_of_ble_eq_true rfl) ⟨(Nat.le_of_ble_eq_true rfl), (Nat.le_of_ble_eq_true rfl)⟩ (Nat.le_of_ble_eq_true rfl) (Nat.le_of_ble_eq_true rfl) ?_
      rintro _ _ ⟨rfl, bb1, rfl, hfr1, htr1⟩
      have hfq1 := hfq0.trans hfr1 (fun _ h => h)
      obtain ⟨c1, L1, hO1, hk1, hn1, hm1, hp1, ht1, h82_1, htl1, hcc1⟩ := id htr1
      refine xj_aload_n dX7_joins_41 rfl rfl ?_
      refine xj_iload_n dX7_joins_42 rfl ?_
      refine xj_dV dX7_joins_43 q2582 kV_X7_plainJoins (M_plainJoins hkd hnm hmk htr1) (kG_a (by decide) hO1) rfl rfl rfl rfl (Nat.le_of_ble_eq_true rfl) ⟨(Nat.le_of_ble_eq_true rfl), (Nat.le_of_ble_eq_true rfl)⟩ (Nat.le_of_ble_eq_true rfl) (Nat.le_of_ble_eq_true rfl) ?_
      rintro _ _ ⟨rfl, bb2, rfl, hfr2, htr2⟩
      have hfq2 := hfq1.trans hfr2 (fun _ h => h)
      obtain ⟨c2, L2, hO2, hk2, hn2, hm2, hp2, ht2, h82_2, htl2, hcc2⟩ := id htr2
      refine xj_istn2 dX7_joins_46 rfl ?_
      refine xj_aload_n dX7_joins_47 rfl rfl ?_
      refine xj_get dX7_joins_48 K7 49 (by decide) q1978 (kG_a (by decide) hO2) (congrArg some hp2) ?_
      refine xj_if_eq (tgt := 56) dX7_joins_51 rfl (fun c51 => ?_) (fun c51 => ?_)
      · refine xj_aload_n dX7_joins_56 rfl rfl ?_
        refine xj_get dX7_joins_57 K7 46 (by decide) q1975 (kG_a (by decide) hO2) (congrArg some hk2) ?_
        refine xj_ic4 dX7_joins_60 ?_
        refine xj_icmp_ne (tgt := 77) dX7_joins_61 rfl (fun c61 => ?_) (fun c61 => ?_)
        · refine xj_iload_n dX7_joins_77 rfl ?_
          refine xj_aload_n dX7_joins_78 rfl rfl ?_
          refine xj_ic1 dX7_joins_79 ?_
          refine xj_dV dX7_joins_80 q2558 kV_X7_bends (M_bends hkd htr2) (kG_a (by decide) hO2) rfl rfl rfl rfl (Nat.le_of_ble_eq_true rfl) ⟨(Nat.le_of_ble_eq_true rfl), (Nat.le_of_ble_eq_true rfl)⟩ (Nat.le_of_ble_eq_true rfl) (Nat.le_of_ble_eq_true rfl) ?_
          rintro _ _ ⟨rfl, bb3, rfl, hfr3, htr3⟩
          have hfq3 := hfq2.trans hfr3 (fun _ h => h)
          obtain ⟨c3, L3, hO3, hk3, hn3, hm3, hp3, ht3, h82_3, htl3, hcc3⟩ := id htr3
          refine xj_iadd dX7_joins_83 ?_
          exact xj_ireturn dX7_joins_84 rfl rfl (by have e4 : kd = 4 ∨ kd = 5 := (by first | exact Or.inl (show kd = 4 from (nI_eq (by omega) (by decide)).mp (show nI kd = nI 4 from c5)) | exact Or.inr (show kd = 5 from (nI_eq (by omega) (by decide)).mp (show nI kd = nI 5 from c13))); have e : ¬ mk = nm := pq_f c51; first | (have q4 := (show kd = 4 from (nI_eq (by omega) (by decide)).mp (show nI kd = nI 4 from c28)); have q6 := (show kd = 4 from (nI_eq (by omega) (by decide)).mp (show nI kd = nI 4 from c61)); exact kR_i (by unfold vJ; rw [if_pos e4, if_neg e, if_pos q4]) ⟨hfq3, by unfold tJ; rw [if_pos e4, if_neg e, if_pos q4]; exact htr3⟩) | (have q4 := (show ¬ kd = 4 from fun q => c28 (by rw [q]; rfl)); have q6 := (show ¬ kd = 4 from fun q => c61 (by rw [q]; rfl)); exact kR_i (by unfold vJ; rw [if_pos e4, if_neg e, if_neg q4]) ⟨hfq3, by unfold tJ; rw [if_pos e4, if_neg e, if_neg q4]; exact htr3⟩) | exact absurd (show kd = 4 from (nI_eq (by omega) (by decide)).mp (show nI kd = nI 4 from c61)) (show ¬ kd = 4 from fun q => c28 (by rw [q]; rfl)) | exact absurd (show kd = 4 from (nI_eq (by omega) (by decide)).mp (show nI kd = nI 4 from c28)) (show ¬ kd = 4 from fun q => c61 (by rw [q]; rfl)))
        · refine xj_iload_n dX7_joins_64 rfl ?_
          refine xj_aload_n dX7_joins_65 rfl rfl ?_
          refine xj_aload_n dX7_joins_66 rfl rfl ?_
          refine xj_get dX7_joins_67 K7 48 (by decide) q1977 (kG_a (by decide) hO2) (congrArg some hm2) ?_
          refine xj_dV dX7_joins_70 q2558 kV_X7_bends (M_bends hkd htr2) (kG_a (by decide) hO2) rfl rfl rfl rfl (Nat.le_of_ble_eq_true rfl) ⟨(Nat.le_of_ble_eq_true rfl), (Nat.le_of_ble_eq_true rfl)⟩ (Nat.le_of_ble_eq_true rfl) (Nat.le_of_ble_eq_true rfl) ?_
          rintro _ _ ⟨rfl, bb3, rfl, hfr3, htr3⟩
          have hfq3 := hfq2.trans hfr3 (fun _ h => h)
          obtain ⟨c3, L3, hO3, hk3, hn3, hm3, hp3, ht3, h82_3, htl3, hcc3⟩ := id htr3
          refine xj_isub dX7_joins_73 ?_
          refine xj_goto (tgt := 84) dX7_joins_74 rfl ?_
          exact xj_ireturn dX7_joins_84 rfl rfl (by have e4 : kd = 4 ∨ kd = 5 := (by first | exact Or.inl (show kd = 4 from (nI_eq (by omega) (by decide)).mp (show nI kd = nI 4 from c5)) | exact Or.inr (show kd = 5 from (nI_eq (by omega) (by decide)).mp (show nI kd = nI 5 from c13))); have e : ¬ mk = nm := pq_f c51; first | (have q4 := (show kd = 4 from (nI_eq (by omega) (by decide)).mp (show nI kd = nI 4 from c28)); have q6 := (show kd = 4 from (nI_eq (by omega) (by decide)).mp (show nI kd = nI 4 from c61)); exact kR_i (by unfold vJ; rw [if_pos e4, if_neg e, if_pos q4]) ⟨hfq3, by unfold tJ; rw [if_pos e4, if_neg e, if_pos q4]; exact htr3⟩) | (have q4 := (show ¬ kd = 4 from fun q => c28 (by rw [q]; rfl)); have q6 := (show ¬ kd = 4 from fun q => c61 (by rw [q]; rfl)); exact kR_i (by unfold vJ; rw [if_pos e4, if_neg e, if_neg q4]) ⟨hfq3, by unfold tJ; rw [if_pos e4, if_neg e, if_neg q4]; exact htr3⟩) | exact absurd (show kd = 4 from (nI_eq (by omega) (by decide)).mp (show nI kd = nI 4 from c61)) (show ¬ kd = 4 from fun q => c28 (by rw [q]; rfl)) | exact absurd (show kd = 4 from (nI_eq (by omega) (by decide)).mp (show nI kd = nI 4 from c28)) (show ¬ kd = 4 from fun q => c61 (by rw [q]; rfl)))
      · refine xj_ic0 dX7_joins_54 ?_
        exact xj_ireturn dX7_joins_55 rfl rfl (by have e4 : kd = 4 ∨ kd = 5 := (by first | exact Or.inl (show kd = 4 from (nI_eq (by omega) (by decide)).mp (show nI kd = nI 4 from c5)) | exact Or.inr (show kd = 5 from (nI_eq (by omega) (by decide)).mp (show nI kd = nI 5 from c13))); have e : mk = nm := pq_t c51; first | (have q4 := (show kd = 4 from (nI_eq (by omega) (by decide)).mp (show nI kd = nI 4 from c28)); exact kR_i (by unfold vJ; rw [if_pos e4, if_pos e]) ⟨hfq2, by unfold tJ; rw [if_pos e4, if_pos e, if_pos q4]; exact htr2⟩) | (have q4 := (show ¬ kd = 4 from fun q => c28 (by rw [q]; rfl)); exact kR_i (by unfold vJ; rw [if_pos e4, if_pos e]) ⟨hfq2, by unfold tJ; rw [if_pos e4, if_pos e, if_neg q4]; exact htr2⟩))
  · refine xj_aload_n dX7_joins_8 rfl rfl ?_
    refine xj_get dX7_joins_9 K7 46 (by decide) q1975 (kG_a (by decide) hO0) (congrArg some hk0) ?_
    refine xj_ic5 dX7_joins_12 ?_
    refine xj_icmp_eq (tgt := 22) dX7_joins_13 rfl (fun c13 => ?_) (fun c13 => ?_)
    · refine xj_aload_n dX7_joins_22 rfl rfl ?_
      refine xj_aload_n dX7_joins_23 rfl rfl ?_
      refine xj_get dX7_joins_24 K7 46 (by decide) q1975 (kG_a (by decide) hO0) (congrArg some hk0) ?_
      refine xj_ic4 dX7_joins_27 ?_
      refine xj_icmp_ne (tgt := 36) dX7_joins_28 rfl (fun c28 => ?_) (fun c28 => ?_)
      · refine xj_bipush (v := 61) dX7_joins_36 rfl ?_
        refine xj_dV dX7_joins_38 q2546 kV_X7_ran (M_ran htr0) (kG_a (by decide) hO0) rfl rfl rfl rfl (Nat.le_of_ble_eq_true rfl) ⟨(Nat.le_of_ble_eq_true rfl), (Nat.le_of_ble_eq_true rfl)⟩ (Nat.le_of_ble_eq_true rfl) (Nat.le_of_ble_eq_true rfl) ?_
        rintro _ _ ⟨rfl, bb1, rfl, hfr1, htr1⟩
        have hfq1 := hfq0.trans hfr1 (fun _ h => h)
        obtain ⟨c1, L1, hO1, hk1, hn1, hm1, hp1, ht1, h82_1, htl1, hcc1⟩ := id htr1
        refine xj_aload_n dX7_joins_41 rfl rfl ?_
        refine xj_iload_n dX7_joins_42 rfl ?_
        refine xj_dV dX7_joins_43 q2582 kV_X7_plainJoins (M_plainJoins hkd hnm hmk htr1) (kG_a (by decide) hO1) rfl rfl rfl rfl (Nat.le_of_ble_eq_true rfl) ⟨(Nat.le_of_ble_eq_true rfl), (Nat.le_of_ble_eq_true rfl)⟩ (Nat.le_of_ble_eq_true rfl) (Nat.le_of_ble_eq_true rfl) ?_
        rintro _ _ ⟨rfl, bb2, rfl, hfr2, htr2⟩
        have hfq2 := hfq1.trans hfr2 (fun _ h => h)
        obtain ⟨c2, L2, hO2, hk2, hn2, hm2, hp2, ht2, h82_2, htl2, hcc2⟩ := id htr2
        refine xj_istn2 dX7_joins_46 rfl ?_
        refine xj_aload_n dX7_joins_47 rfl rfl ?_
        refine xj_get dX7_joins_48 K7 49 (by decide) q1978 (kG_a (by decide) hO2) (congrArg some hp2) ?_
        refine xj_if_eq (tgt := 56) dX7_joins_51 rfl (fun c51 => ?_) (fun c51 => ?_)
        · refine xj_aload_n dX7_joins_56 rfl rfl ?_
          refine xj_get dX7_joins_57 K7 46 (by decide) q1975 (kG_a (by decide) hO2) (congrArg some hk2) ?_
          refine xj_ic4 dX7_joins_60 ?_
          refine xj_icmp_ne (tgt := 77) dX7_joins_61 rfl (fun c61 => ?_) (fun c61 => ?_)
          · refine xj_iload_n dX7_joins_77 rfl ?_
            refine xj_aload_n dX7_joins_78 rfl rfl ?_
            refine xj_ic1 dX7_joins_79 ?_
            refine xj_dV dX7_joins_80 q2558 kV_X7_bends (M_bends hkd htr2) (kG_a (by decide) hO2) rfl rfl rfl rfl (Nat.le_of_ble_eq_true rfl) ⟨(Nat.le_of_ble_eq_true rfl), (Nat.le_of_ble_eq_true rfl)⟩ (Nat.le_of_ble_eq_true rfl) (Nat.le_of_ble_eq_true rfl) ?_
            rintro _ _ ⟨rfl, bb3, rfl, hfr3, htr3⟩
            have hfq3 := hfq2.trans hfr3 (fun _ h => h)
            obtain ⟨c3, L3, hO3, hk3, hn3, hm3, hp3, ht3, h82_3, htl3, hcc3⟩ := id htr3
            refine xj_iadd dX7_joins_83 ?_
            exact xj_ireturn dX7_joins_84 rfl rfl (by have e4 : kd = 4 ∨ kd = 5 := (by first | exact Or.inl (show kd = 4 from (nI_eq (by omega) (by decide)).mp (show nI kd = nI 4 from c5)) | exact Or.inr (show kd = 5 from (nI_eq (by omega) (by decide)).mp (show nI kd = nI 5 from c13))); have e : ¬ mk = nm := pq_f c51; first | (have q4 := (show kd = 4 from (nI_eq (by omega) (by decide)).mp (show nI kd = nI 4 from c28)); have q6 := (show kd = 4 from (nI_eq (by omega) (by decide)).mp (show nI kd = nI 4 from c61)); exact kR_i (by unfold vJ; rw [if_pos e4, if_neg e, if_pos q4]) ⟨hfq3, by unfold tJ; rw [if_pos e4, if_neg e, if_pos q4]; exact htr3⟩) | (have q4 := (show ¬ kd = 4 from fun q => c28 (by rw [q]; rfl)); have q6 := (show ¬ kd = 4 from fun q => c61 (by rw [q]; rfl)); exact kR_i (by unfold vJ; rw [if_pos e4, if_neg e, if_neg q4]) ⟨hfq3, by unfold tJ; rw [if_pos e4, if_neg e, if_neg q4]; exact htr3⟩) | exact absurd (show kd = 4 from (nI_eq (by omega) (by decide)).mp (show nI kd = nI 4 from c61)) (show ¬ kd = 4 from fun q => c28 (by rw [q]; rfl)) | exact absurd (show kd = 4 from (nI_eq (by omega) (by decide)).mp (show nI kd = nI 4 from c28)) (show ¬ kd = 4 from fun q => c61 (by rw [q]; rfl)))
          · refine xj_iload_n dX7_joins_64 rfl ?_
            refine xj_aload_n dX7_joins_65 rfl rfl ?_
            refine xj_aload_n dX7_joins_66 rfl rfl ?_
            refine xj_get dX7_joins_67 K7 48 (by decide) q1977 (kG_a (by decide) hO2) (congrArg some hm2) ?_
            refine xj_dV dX7_joins_70 q2558 kV_X7_bends (M_bends hkd htr2) (kG_a (by decide) hO2) rfl rfl rfl rfl (Nat.le_of_ble_eq_true rfl) ⟨(Nat.le_of_ble_eq_true rfl), (Nat.le_of_ble_eq_true rfl)⟩ (Nat.le_of_ble_eq_true rfl) (Nat.le_of_ble_eq_true rfl) ?_
            rintro _ _ ⟨rfl, bb3, rfl, hfr3, htr3⟩
            have hfq3 := hfq2.trans hfr3 (fun _ h => h)
            obtain ⟨c3, L3, hO3, hk3, hn3, hm3, hp3, ht3, h82_3, htl3, hcc3⟩ := id htr3
            refine xj_isub dX7_joins_73 ?_
            refine xj_goto (tgt := 84) dX7_joins_74 rfl ?_
            exact xj_ireturn dX7_joins_84 rfl rfl (by have e4 : kd = 4 ∨ kd = 5 := (by first | exact Or.inl (show kd = 4 from (nI_eq (by omega) (by decide)).mp (show nI kd = nI 4 from c5)) | exact Or.inr (show kd = 5 from (nI_eq (by omega) (by decide)).mp (show nI kd = nI 5 from c13))); have e : ¬ mk = nm := pq_f c51; first | (have q4 := (show kd = 4 from (nI_eq (by omega) (by decide)).mp (show nI kd = nI 4 from c28)); have q6 := (show kd = 4 from (nI_eq (by omega) (by decide)).mp (show nI kd = nI 4 from c61)); exact kR_i (by unfold vJ; rw [if_pos e4, if_neg e, if_pos q4]) ⟨hfq3, by unfold tJ; rw [if_pos e4, if_neg e, if_pos q4]; exact htr3⟩) | (have q4 := (show ¬ kd = 4 from fun q => c28 (by rw [q]; rfl)); have q6 := (show ¬ kd = 4 from fun q => c61 (by rw [q]; rfl)); exact kR_i (by unfold vJ; rw [if_pos e4, if_neg e, if_neg q4]) ⟨hfq3, by unfold tJ; rw [if_pos e4, if_neg e, if_neg q4]; exact htr3⟩) | exact absurd (show kd = 4 from (nI_eq (by omega) (by decide)).mp (show nI kd = nI 4 from c61)) (show ¬ kd = 4 from fun q => c28 (by rw [q]; rfl)) | exact absurd (show kd = 4 from (nI_eq (by omega) (by decide)).mp (show nI kd = nI 4 from c28)) (show ¬ kd = 4 from fun q => c61 (by rw [q]; rfl)))
        · refine xj_ic0 dX7_joins_54 ?_
          exact xj_ireturn dX7_joins_55 rfl rfl (by have e4 : kd = 4 ∨ kd = 5 := (by first | exact Or.inl (show kd = 4 from (nI_eq (by omega) (by decide)).mp (show nI kd = nI 4 from c5)) | exact Or.inr (show kd = 5 from (nI_eq (by omega) (by decide)).mp (show nI kd = nI 5 from c13))); have e : mk = nm := pq_t c51; first | (have q4 := (show kd = 4 from (nI_eq (by omega) (by decide)).mp (show nI kd = nI 4 from c28)); exact kR_i (by unfold vJ; rw [if_pos e4, if_pos e]) ⟨hfq2, by unfold tJ; rw [if_pos e4, if_pos e, if_pos q4]; exact htr2⟩) | (have q4 := (show ¬ kd = 4 from fun q => c28 (by rw [q]; rfl)); exact kR_i (by unfold vJ; rw [if_pos e4, if_pos e]) ⟨hfq2, by unfold tJ; rw [if_pos e4, if_pos e, if_neg q4]; exact htr2⟩))
      · refine xj_bipush (v := 50) dX7_joins_31 rfl ?_
        refine xj_goto (tgt := 38) dX7_joins_33 rfl ?_
        refine xj_dV dX7_joins_38 q2546 kV_X7_ran (M_ran htr0) (kG_a (by decide) hO0) rfl rfl rfl rfl (Nat.le_of_ble_eq_true rfl) ⟨(Nat.le_of_ble_eq_true rfl), (Nat.le_of_ble_eq_true rfl)⟩ (Nat.le_of_ble_eq_true rfl) (Nat.le_of_ble_eq_true rfl) ?_
        rintro _ _ ⟨rfl, bb1, rfl, hfr1, htr1⟩
        have hfq1 := hfq0.trans hfr1 (fun _ h => h)
        obtain ⟨c1, L1, hO1, hk1, hn1, hm1, hp1, ht1, h82_1, htl1, hcc1⟩ := id htr1
        refine xj_aload_n dX7_joins_41 rfl rfl ?_
        refine xj_iload_n dX7_joins_42 rfl ?_
        refine xj_dV dX7_joins_43 q2582 kV_X7_plainJoins (M_plainJoins hkd hnm hmk htr1) (kG_a (by decide) hO1) rfl rfl rfl rfl (Nat.le_of_ble_eq_true rfl) ⟨(Nat.le_of_ble_eq_true rfl), (Nat.le_of_ble_eq_true rfl)⟩ (Nat.le_of_ble_eq_true rfl) (Nat.le_of_ble_eq_true rfl) ?_
        rintro _ _ ⟨rfl, bb2, rfl, hfr2, htr2⟩
        have hfq2 := hfq1.trans hfr2 (fun _ h => h)
        obtain ⟨c2, L2, hO2, hk2, hn2, hm2, hp2, ht2, h82_2, htl2, hcc2⟩ := id htr2
        refine xj_istn2 dX7_joins_46 rfl ?_
        refine xj_aload_n dX7_joins_47 rfl rfl ?_
        refine xj_get dX7_joins_48 K7 49 (by decide) q1978 (kG_a (by decide) hO2) (congrArg some hp2) ?_
        refine xj_if_eq (tgt := 56) dX7_joins_51 rfl (fun c51 => ?_) (fun c51 => ?_)
        · refine xj_aload_n dX7_joins_56 rfl rfl ?_
          refine xj_get dX7_joins_57 K7 46 (by decide) q1975 (kG_a (by decide) hO2) (congrArg some hk2) ?_
          refine xj_ic4 dX7_joins_60 ?_
          refine xj_icmp_ne (tgt := 77) dX7_joins_61 rfl (fun c61 => ?_) (fun c61 => ?_)
          · refine xj_iload_n dX7_joins_77 rfl ?_
            refine xj_aload_n dX7_joins_78 rfl rfl ?_
            refine xj_ic1 dX7_joins_79 ?_
            refine xj_dV dX7_joins_80 q2558 kV_X7_bends (M_bends hkd htr2) (kG_a (by decide) hO2) rfl rfl rfl rfl (Nat.le_of_ble_eq_true rfl) ⟨(Nat.le_of_ble_eq_true rfl), (Nat.le_of_ble_eq_true rfl)⟩ (Nat.le_of_ble_eq_true rfl) (Nat.le_of_ble_eq_true rfl) ?_
            rintro _ _ ⟨rfl, bb3, rfl, hfr3, htr3⟩
            have hfq3 := hfq2.trans hfr3 (fun _ h => h)
            obtain ⟨c3, L3, hO3, hk3, hn3, hm3, hp3, ht3, h82_3, htl3, hcc3⟩ := id htr3
            refine xj_iadd dX7_joins_83 ?_
            exact xj_ireturn dX7_joins_84 rfl rfl (by have e4 : kd = 4 ∨ kd = 5 := (by first | exact Or.inl (show kd = 4 from (nI_eq (by omega) (by decide)).mp (show nI kd = nI 4 from c5)) | exact Or.inr (show kd = 5 from (nI_eq (by omega) (by decide)).mp (show nI kd = nI 5 from c13))); have e : ¬ mk = nm := pq_f c51; first | (have q4 := (show kd = 4 from (nI_eq (by omega) (by decide)).mp (show nI kd = nI 4 from c28)); have q6 := (show kd = 4 from (nI_eq (by omega) (by decide)).mp (show nI kd = nI 4 from c61)); exact kR_i (by unfold vJ; rw [if_pos e4, if_neg e, if_pos q4]) ⟨hfq3, by unfold tJ; rw [if_pos e4, if_neg e, if_pos q4]; exact htr3⟩) | (have q4 := (show ¬ kd = 4 from fun q => c28 (by rw [q]; rfl)); have q6 := (show ¬ kd = 4 from fun q => c61 (by rw [q]; rfl)); exact kR_i (by unfold vJ; rw [if_pos e4, if_neg e, if_neg q4]) ⟨hfq3, by unfold tJ; rw [if_pos e4, if_neg e, if_neg q4]; exact htr3⟩) | exact absurd (show kd = 4 from (nI_eq (by omega) (by decide)).mp (show nI kd = nI 4 from c61)) (show ¬ kd = 4 from fun q => c28 (by rw [q]; rfl)) | exact absurd (show kd = 4 from (nI_eq (by omega) (by decide)).mp (show nI kd = nI 4 from c28)) (show ¬ kd = 4 from fun q => c61 (by rw [q]; rfl)))
          · refine xj_iload_n dX7_joins_64 rfl ?_
            refine xj_aload_n dX7_joins_65 rfl rfl ?_
            refine xj_aload_n dX7_joins_66 rfl rfl ?_
            refine xj_get dX7_joins_67 K7 48 (by decide) q1977 (kG_a (by decide) hO2) (congrArg some hm2) ?_
            refine xj_dV dX7_joins_70 q2558 kV_X7_bends (M_bends hkd htr2) (kG_a (by decide) hO2) rfl rfl rfl rfl (Nat.le_of_ble_eq_true rfl) ⟨(Nat.le_of_ble_eq_true rfl), (Nat.le_of_ble_eq_true rfl)⟩ (Nat.le_of_ble_eq_true rfl) (Nat.le_of_ble_eq_true rfl) ?_
            rintro _ _ ⟨rfl, bb3, rfl, hfr3, htr3⟩
            have hfq3 := hfq2.trans hfr3 (fun _ h => h)
            obtain ⟨c3, L3, hO3, hk3, hn3, hm3, hp3, ht3, h82_3, htl3, hcc3⟩ := id htr3
            refine xj_isub dX7_joins_73 ?_
            refine xj_goto (tgt := 84) dX7_joins_74 rfl ?_
            exact xj_ireturn dX7_joins_84 rfl rfl (by have e4 : kd = 4 ∨ kd = 5 := (by first | exact Or.inl (show kd = 4 from (nI_eq (by omega) (by decide)).mp (show nI kd = nI 4 from c5)) | exact Or.inr (show kd = 5 from (nI_eq (by omega) (by decide)).mp (show nI kd = nI 5 from c13))); have e : ¬ mk = nm := pq_f c51; first | (have q4 := (show kd = 4 from (nI_eq (by omega) (by decide)).mp (show nI kd = nI 4 from c28)); have q6 := (show kd = 4 from (nI_eq (by omega) (by decide)).mp (show nI kd = nI 4 from c61)); exact kR_i (by unfold vJ; rw [if_pos e4, if_neg e, if_pos q4]) ⟨hfq3, by unfold tJ; rw [if_pos e4, if_neg e, if_pos q4]; exact htr3⟩) | (have q4 := (show ¬ kd = 4 from fun q => c28 (by rw [q]; rfl)); have q6 := (show ¬ kd = 4 from fun q => c61 (by rw [q]; rfl)); exact kR_i (by unfold vJ; rw [if_pos e4, if_neg e, if_neg q4]) ⟨hfq3, by unfold tJ; rw [if_pos e4, if_neg e, if_neg q4]; exact htr3⟩) | exact absurd (show kd = 4 from (nI_eq (by omega) (by decide)).mp (show nI kd = nI 4 from c61)) (show ¬ kd = 4 from fun q => c28 (by rw [q]; rfl)) | exact absurd (show kd = 4 from (nI_eq (by omega) (by decide)).mp (show nI kd = nI 4 from c28)) (show ¬ kd = 4 from fun q => c61 (by rw [q]; rfl)))
        · refine xj_ic0 dX7_joins_54 ?_
          exact xj_ireturn dX7_joins_55 rfl rfl (by have e4 : kd = 4 ∨ kd = 5 := (by first | exact Or.inl (show kd = 4 from (nI_eq (by omega) (by decide)).mp (show nI kd = nI 4 from c5)) | exact Or.inr (show kd = 5 from (nI_eq (by omega) (by decide)).mp (show nI kd = nI 5 from c13))); have e : mk = nm := pq_t c51; first | (have q4 := (show kd = 4 from (nI_eq (by omega) (by decide)).mp (show nI kd = nI 4 from c28)); exact kR_i (by unfold vJ; rw [if_pos e4, if_pos e]) ⟨hfq2, by unfold tJ; rw [if_pos e4, if_pos e, if_pos q4]; exact htr2⟩) | (have q4 := (show ¬ kd = 4 from fun q => c28 (by rw [q]; rfl)); exact kR_i (by unfold vJ; rw [if_pos e4, if_pos e]) ⟨hfq2, by unfold tJ; rw [if_pos e4, if_pos e, if_neg q4]; exact htr2⟩))
    · refine xj_aload_n dX7_joins_16 rfl rfl ?_
      refine xj_iload_n dX7_joins_17 rfl ?_
      refine xj_dV dX7_joins_18 q2582 kV_X7_plainJoins (M_plainJoins hkd hnm hmk htr0) (kG_a (by decide) hO0) rfl rfl rfl rfl (Nat.le_of_ble_eq_true rfl) ⟨(Nat.le_of_ble_eq_true rfl), (Nat.le_of_ble_eq_true rfl)⟩ (Nat.le_of_ble_eq_true rfl) (Nat.le_of_ble_eq_true rfl) ?_
      rintro _ _ ⟨rfl, bb1, rfl, hfr1, htr1⟩
      have hfq1 := hfq0.trans hfr1 (fun _ h => h)
      obtain ⟨c1, L1, hO1, hk1, hn1, hm1, hp1, ht1, h82_1, htl1, hcc1⟩ := id htr1
      exact xj_ireturn dX7_joins_21 rfl rfl (by have e4 : ¬ (kd = 4 ∨ kd = 5) := (fun q => q.elim (show ¬ kd = 4 from fun q => c5 (by rw [q]; rfl)) (show ¬ kd = 5 from fun q => c13 (by rw [q]; rfl))); exact kR_i (by unfold vJ; rw [if_neg e4]) ⟨hfq1, by unfold tJ; rw [if_neg e4]; exact htr1⟩)
theorem M_act {l : List (Nat × Nat)} {hl : Nat → Option (Nat ⊕ (Nat × Nat))} {k w x : Int32} {L0 : List Int32} (hv : kV c n a) (hw : kW hl a) (hm : kM c l a) (h82 : a 82 = cI 0 L0) (hL0 : L0.length = 30) : xMet E yX7_act cX7_act 5 (some FieldType.int) 8 0 0 [.ref 54, .int k, .int w, .int x] (kG a T) (kR (some (.int (o_act l hl k w x))) T (fun b => kfr [54, 82] a b ∧ ∃ (c' : Nat → Value) (L : List Int32), b 54 = cO 7 (mFs c') ∧ c' 45 = .int (nI (s_act l hl k w).length) ∧ b 82 = cI 0 L ∧ trL L (s_act l hl k w) ∧ ∀ j, j ≠ 45 → j ≠ 46 → j ≠ 47 → j ≠ 48 → j ≠ 49 → c' j = c j)) := by
  obtain ⟨hO, hf0, h1n, hn6, h63, h64⟩ := id hv
  obtain ⟨Hh, Th, Lh, h79, h80, h81, hWL⟩ := id hw
  obtain ⟨hH4, hT4, hL4, hWW⟩ := id hWL
  obtain ⟨hf2, Kd, Mk, h55, h56, hML⟩ := id hm
  obtain ⟨hK6, hM6, hl6, hKM⟩ := id hML
  refine xMet.of (lv := [some (.ref 54), some (.int k), some (.int w), some (.int x), none]) rfl rfl (Nat.le_of_ble_eq_true rfl) ?_
  refine xj_aload_n dX7_act_0 rfl rfl ?_
  refine xj_ic0 dX7_act_1 ?_
  refine xj_put dX7_act_2 K7 45 (by decide) q1974 rfl rfl (kG_a (by decide) hO) (Nat.le_of_ble_eq_true rfl) ?_
  refine xj_eq rfl rfl (show _ = kG (au a 54 (cO 7 (mFs (cu c 45 (.int 0))))) T from kG_set (by decide)) ?_
  refine xj_iload_n dX7_act_5 rfl ?_
  refine xj_cS dX7_act_6 q2522 kS_X7_isShelf M_isShelf rfl rfl (Nat.le_of_ble_eq_true rfl) ⟨(Nat.le_of_ble_eq_true rfl), (Nat.le_of_ble_eq_true rfl)⟩ (Nat.le_of_ble_eq_true rfl) (Nat.le_of_ble_eq_true rfl) ?_
  refine xj_if_eq (tgt := 32) dX7_act_9 rfl (fun c9 => ?_) (fun c9 => ?_)
  · refine xj_ic0 dX7_act_32 ?_
    exact xj_ireturn dX7_act_33 rfl rfl (by have hn : actM l hl k w = none := (by first | (simp [actM, b1_z c9]; done) | (have h := b1_z c21; rw [inB_c3] at h; simp [actM, h]; done)); exact kR_i (by unfold o_act; rw [hn]) ⟨(kfr.refl _ _).au (by decide), cu c 45 (.int 0), L0, rfl, by unfold s_act; rw [hn]; rfl, h82, by unfold s_act; rw [hn]; exact ⟨hL0, Nat.zero_le _, fun i v h => by cases h⟩, fun j h1 _ _ _ _ => by unfold cu; rw [if_neg h1]⟩)
  · refine xj_iload_n dX7_act_12 rfl ?_
    refine xj_i2l dX7_act_13 ?_
    refine xj_lc0 dX7_act_14 ?_
    refine xj_ldc2 dX7_act_15 q2139 ?_
    refine xj_cS dX7_act_18 q2085 kS_X7_in M_in rfl rfl (Nat.le_of_ble_eq_true rfl) ⟨(Nat.le_of_ble_eq_true rfl), (Nat.le_of_ble_eq_true rfl)⟩ (Nat.le_of_ble_eq_true rfl) (Nat.le_of_ble_eq_true rfl) ?_
    refine xj_if_eq (tgt := 32) dX7_act_21 rfl (fun c21 => ?_) (fun c21 => ?_)
    · refine xj_ic0 dX7_act_32 ?_
      exact xj_ireturn dX7_act_33 rfl rfl (by have hn : actM l hl k w = none := (by first | (simp [actM, b1_z c9]; done) | (have h := b1_z c21; rw [inB_c3] at h; simp [actM, h]; done)); exact kR_i (by unfold o_act; rw [hn]) ⟨(kfr.refl _ _).au (by decide), cu c 45 (.int 0), L0, rfl, by unfold s_act; rw [hn]; rfl, h82, by unfold s_act; rw [hn]; exact ⟨hL0, Nat.zero_le _, fun i v h => by cases h⟩, fun j h1 _ _ _ _ => by unfold cu; rw [if_neg h1]⟩)
    · have hb1 := b1_nz c9
      obtain ⟨j, hj4, hj31, rfl⟩ := inI_t hb1
      have e1 : tn (nI j) = j := nI_clamp hj31
      have hb2 := b1_nz c21
      rw [inB_c3] at hb2
      have hWj := hWW j hj4
      cases hmo : mkOn l (hl j) with
      | none =>
        refine xj_aload_n dX7_act_24 rfl rfl ?_
        refine xj_iload_n dX7_act_25 rfl ?_
        refine xj_cV dX7_act_26 q2531 kV_X7_heldBy (M_heldBy (hv.u rfl rfl rfl rfl) (hw.u rfl rfl rfl) (hm.u rfl rfl rfl) hj4) (kG_a (by decide) rfl) rfl rfl rfl rfl (Nat.le_of_ble_eq_true rfl) ⟨(Nat.le_of_ble_eq_true rfl), (Nat.le_of_ble_eq_true rfl)⟩ (Nat.le_of_ble_eq_true rfl) (Nat.le_of_ble_eq_true rfl) ?_
        refine xj_if_eq (tgt := 34) dX7_act_29 rfl (fun c29 => absurd c29 (fun q => hby_n hmo q)) (fun c29 => ?_)
        refine xj_ic0 dX7_act_32 ?_
        exact xj_ireturn dX7_act_33 rfl rfl (by have hn : actM l hl (nI j) w = none := (by simp [actM, hb1, hb2, e1, hmo]); exact kR_i (by unfold o_act; rw [hn]) ⟨(kfr.refl _ _).au (by decide), cu c 45 (.int 0), L0, rfl, by unfold s_act; rw [hn]; rfl, h82, by unfold s_act; rw [hn]; exact ⟨hL0, Nat.zero_le _, fun i v h => by cases h⟩, fun j h1 _ _ _ _ => by unfold cu; rw [if_neg h1]⟩)
      | some p =>
        obtain ⟨hlj, hpl⟩ := mkOn_t hmo
        have hhb : nI (hby l (hl j)) = 0 := by rw [hlj]; show nI (if p < l.length then 0 else 2) = 0; rw [if_pos hpl]; rfl
        have ha : actM l hl (nI j) w = some p := by simp [actM, hb1, hb2, e1, hmo]
        have hov : o_act l hl (nI j) w x = vA (mkAt l p).1 p (mkAt l p).2 w x := by unfold o_act; rw [ha]
        have hsv : s_act l hl (nI j) w = tA (mkAt l p).1 p (mkAt l p).2 w := by unfold s_act; rw [ha]
        rw [hlj] at hWj
        refine xj_aload_n dX7_act_24 rfl rfl ?_
        refine xj_iload_n dX7_act_25 rfl ?_
        refine xj_cV dX7_act_26 q2531 kV_X7_heldBy (M_heldBy (hv.u rfl rfl rfl rfl) (hw.u rfl rfl rfl) (hm.u rfl rfl rfl) hj4) (kG_a (by decide) rfl) rfl rfl rfl rfl (Nat.le_of_ble_eq_true rfl) ⟨(Nat.le_of_ble_eq_true rfl), (Nat.le_of_ble_eq_true rfl)⟩ (Nat.le_of_ble_eq_true rfl) (Nat.le_of_ble_eq_true rfl) ?_
        refine xj_if_eq (tgt := 34) dX7_act_29 rfl (fun c29 => ?_) (fun c29 => absurd hhb c29)
        refine xj_aload_n dX7_act_34 rfl rfl ?_
        refine xj_aload_n dX7_act_35 rfl rfl ?_
        refine xj_get dX7_act_36 K7 42 (by decide) q1971 (kG_a (by decide) rfl) rfl ?_
        refine xj_iload_n dX7_act_39 rfl ?_
        refine xj_iald dX7_act_40 (kG_a (by decide) h80) rfl hj31 hWj.2.1 ?_
        refine xj_put dX7_act_41 K7 47 (by decide) q1976 rfl rfl (kG_a (by decide) rfl) (Nat.le_of_ble_eq_true rfl) ?_
        refine xj_eq rfl rfl (kG_set (by decide)) ?_
        refine xj_aload_n dX7_act_44 rfl rfl ?_
        refine xj_aload_n dX7_act_45 rfl rfl ?_
        refine xj_get dX7_act_46 K7 4 (by decide) q1933 (kG_a (by decide) rfl) rfl ?_
        refine xj_aload_n dX7_act_49 rfl rfl ?_
        refine xj_get dX7_act_50 K7 47 (by decide) q1976 (kG_a (by decide) rfl) rfl ?_
        refine xj_iald dX7_act_53 (kG_a (by decide) h55) rfl (by omega) (hKM p _ (mkAt_some hpl)).1 ?_
        refine xj_put dX7_act_54 K7 46 (by decide) q1975 rfl rfl (kG_a (by decide) rfl) (Nat.le_of_ble_eq_true rfl) ?_
        refine xj_eq rfl rfl (kG_set (by decide)) ?_
        refine xj_aload_n dX7_act_57 rfl rfl ?_
        refine xj_aload_n dX7_act_58 rfl rfl ?_
        refine xj_get dX7_act_59 K7 5 (by decide) q1934 (kG_a (by decide) rfl) rfl ?_
        refine xj_aload_n dX7_act_62 rfl rfl ?_
        refine xj_get dX7_act_63 K7 47 (by decide) q1976 (kG_a (by decide) rfl) rfl ?_
        refine xj_iald dX7_act_66 (kG_a (by decide) h56) rfl (by omega) (hKM p _ (mkAt_some hpl)).2.1 ?_
        refine xj_put dX7_act_67 K7 48 (by decide) q1977 rfl rfl (kG_a (by decide) rfl) (Nat.le_of_ble_eq_true rfl) ?_
        refine xj_eq rfl rfl (kG_set (by decide)) ?_
        refine xj_aload_n dX7_act_70 rfl rfl ?_
        refine xj_ic0 dX7_act_71 ?_
        refine xj_put dX7_act_72 K7 49 (by decide) q1978 rfl rfl (kG_a (by decide) rfl) (Nat.le_of_ble_eq_true rfl) ?_
        refine xj_eq rfl rfl (kG_set (by decide)) ?_
        have hkm := hKM p _ (mkAt_some hpl)
        rw [au_au, au_au, au_au, au_au]
        have htr0 : tr (cu (cu (cu (cu (cu c 45 (.int 0)) 47 (.int (nI p))) 46 (.int (nI (mkAt l p).1))) 48 (.int (nI (mkAt l p).2))) 49 (.int 0)) (mkAt l p).1 p (mkAt l p).2 false [] (au a 54 (cO 7 (mFs (cu (cu (cu (cu (cu c 45 (.int 0)) 47 (.int (nI p))) 46 (.int (nI (mkAt l p).1))) 48 (.int (nI (mkAt l p).2))) 49 (.int 0))))) := ⟨(cu (cu (cu (cu (cu c 45 (.int 0)) 47 (.int (nI p))) 46 (.int (nI (mkAt l p).1))) 48 (.int (nI (mkAt l p).2))) 49 (.int 0)), L0, rfl, rfl, rfl, rfl, rfl, rfl, h82, ⟨hL0, by decide, fun i v h => by cases h⟩, fun _ _ _ => rfl⟩
        refine xj_eq rfl rfl (show _ = kG (au a 54 (cO 7 (mFs (cu (cu (cu (cu (cu c 45 (.int 0)) 47 (.int (nI p))) 46 (.int (nI (mkAt l p).1))) 48 (.int (nI (mkAt l p).2))) 49 (.int 0))))) T from rfl) ?_
        have hO0 : au a 54 (cO 7 (mFs (cu (cu (cu (cu (cu c 45 (.int 0)) 47 (.int (nI p))) 46 (.int (nI (mkAt l p).1))) 48 (.int (nI (mkAt l p).2))) 49 (.int 0)))) 54 = cO 7 (mFs (cu (cu (cu (cu (cu c 45 (.int 0)) 47 (.int (nI p))) 46 (.int (nI (mkAt l p).1))) 48 (.int (nI (mkAt l p).2))) 49 (.int 0))) := rfl
        have hfq0 : kfr [54, 82] a (au a 54 (cO 7 (mFs (cu (cu (cu (cu (cu c 45 (.int 0)) 47 (.int (nI p))) 46 (.int (nI (mkAt l p).1))) 48 (.int (nI (mkAt l p).2))) 49 (.int 0))))) := (kfr.refl _ _).au (by decide)
        refine xj_iload_n dX7_act_75 rfl ?_
        refine xj_if_ne (tgt := 87) dX7_act_76 rfl (fun c76 => ?_) (fun c76 => ?_)
        · refine xj_iload_n dX7_act_87 rfl ?_
          refine xj_ic1 dX7_act_88 ?_
          refine xj_icmp_ne (tgt := 100) dX7_act_89 rfl (fun c89 => ?_) (fun c89 => ?_)
          · refine xj_iload_n dX7_act_100 rfl ?_
            refine xj_ic2 dX7_act_101 ?_
            refine xj_icmp_ne (tgt := 113) dX7_act_102 rfl (fun c102 => ?_) (fun c102 => ?_)
            · refine xj_aload_n dX7_act_113 rfl rfl ?_
              refine xj_iload_n dX7_act_114 rfl ?_
              refine xj_dV dX7_act_115 q2578 kV_X7_joins (M_joins hkm.2.2.1 (by omega) hkm.2.2.2 htr0) (kG_a (by decide) hO0) rfl rfl rfl rfl (Nat.le_of_ble_eq_true rfl) ⟨(Nat.le_of_ble_eq_true rfl), (Nat.le_of_ble_eq_true rfl)⟩ (Nat.le_of_ble_eq_true rfl) (Nat.le_of_ble_eq_true rfl) ?_
              rintro _ _ ⟨rfl, bb1, rfl, hfr1, htr1⟩
              have hfq1 := hfq0.trans hfr1 (fun _ h => h)
              obtain ⟨c1, L1, hO1, hk1, hn1, hm1, hp1, ht1, h82_1, htl1, hcc1⟩ := id htr1
              refine xj_ist4 dX7_act_118 rfl ?_
              refine xj_aload_n dX7_act_120 rfl rfl ?_
              refine xj_get dX7_act_121 K7 49 (by decide) q1978 (kG_a (by decide) hO1) (congrArg some hp1) ?_
              refine xj_if_eq (tgt := 132) dX7_act_124 rfl (fun c124 => ?_) (fun c124 => ?_)
              · refine xj_iload dX7_act_132 rfl ?_
                exact xj_ireturn dX7_act_134 rfl rfl (by first | (exact absurd rfl c124) | (exact kR_i (by rw [hov]; unfold vA; rw [if_pos c76]) ⟨hfq1, c1, L1, hO1, by rw [hsv]; unfold tA; rw [if_pos c76]; exact ht1, h82_1, by rw [hsv]; unfold tA; rw [if_pos c76]; exact htl1, fun j h1 h2 h3 h4 h5 => by rw [hcc1 j h1 h5]; unfold cu; rw [if_neg h5, if_neg h4, if_neg h2, if_neg h3, if_neg h1]⟩) | (exact kR_i (by rw [hov]; unfold vA; rw [if_neg c76, if_pos c89]) ⟨hfq1, c1, L1, hO1, by rw [hsv]; unfold tA; rw [if_neg c76, if_pos c89]; exact ht1, h82_1, by rw [hsv]; unfold tA; rw [if_neg c76, if_pos c89]; exact htl1, fun j h1 h2 h3 h4 h5 => by rw [hcc1 j h1 h5]; unfold cu; rw [if_neg h5, if_neg h4, if_neg h2, if_neg h3, if_neg h1]⟩) | (have e := pq_f c124; exact kR_i (by rw [hov]; unfold vA; rw [if_neg c76, if_neg c89, if_neg e, if_pos c102]) ⟨hfq1, c1, L1, hO1, by rw [hsv]; unfold tA; rw [if_neg c76, if_neg c89, if_pos c102]; exact ht1, h82_1, by rw [hsv]; unfold tA; rw [if_neg c76, if_neg c89, if_pos c102]; exact htl1, fun j h1 h2 h3 h4 h5 => by rw [hcc1 j h1 h5]; unfold cu; rw [if_neg h5, if_neg h4, if_neg h2, if_neg h3, if_neg h1]⟩) | (have e := pq_f c124; exact kR_i (by rw [hov]; unfold vA; rw [if_neg c76, if_neg c89, if_neg e, if_neg c102]) ⟨hfq1, c1, L1, hO1, by rw [hsv]; unfold tA; rw [if_neg c76, if_neg c89, if_neg c102]; exact ht1, h82_1, by rw [hsv]; unfold tA; rw [if_neg c76, if_neg c89, if_neg c102]; exact htl1, fun j h1 h2 h3 h4 h5 => by rw [hcc1 j h1 h5]; unfold cu; rw [if_neg h5, if_neg h4, if_neg h2, if_neg h3, if_neg h1]⟩) | (have e := pq_t c124; exact kR_i (by rw [hov]; unfold vA; rw [if_neg c76, if_neg c89, if_pos e]) ⟨hfq1, c1, L1, hO1, by rw [hsv]; unfold tA; rw [if_neg c76, if_neg c89, if_pos c102]; exact ht1, h82_1, by rw [hsv]; unfold tA; rw [if_neg c76, if_neg c89, if_pos c102]; exact htl1, fun j h1 h2 h3 h4 h5 => by rw [hcc1 j h1 h5]; unfold cu; rw [if_neg h5, if_neg h4, if_neg h2, if_neg h3, if_neg h1]⟩) | (have e := pq_t c124; exact kR_i (by rw [hov]; unfold vA; rw [if_neg c76, if_neg c89, if_pos e]) ⟨hfq1, c1, L1, hO1, by rw [hsv]; unfold tA; rw [if_neg c76, if_neg c89, if_neg c102]; exact ht1, h82_1, by rw [hsv]; unfold tA; rw [if_neg c76, if_neg c89, if_neg c102]; exact htl1, fun j h1 h2 h3 h4 h5 => by rw [hcc1 j h1 h5]; unfold cu; rw [if_neg h5, if_neg h4, if_neg h2, if_neg h3, if_neg h1]⟩))
              · refine xj_bipush (v := -15) dX7_act_127 rfl ?_
                refine xj_goto (tgt := 134) dX7_act_129 rfl ?_
                exact xj_ireturn dX7_act_134 rfl rfl (by first | (exact absurd rfl c124) | (exact kR_i (by rw [hov]; unfold vA; rw [if_pos c76]) ⟨hfq1, c1, L1, hO1, by rw [hsv]; unfold tA; rw [if_pos c76]; exact ht1, h82_1, by rw [hsv]; unfold tA; rw [if_pos c76]; exact htl1, fun j h1 h2 h3 h4 h5 => by rw [hcc1 j h1 h5]; unfold cu; rw [if_neg h5, if_neg h4, if_neg h2, if_neg h3, if_neg h1]⟩) | (exact kR_i (by rw [hov]; unfold vA; rw [if_neg c76, if_pos c89]) ⟨hfq1, c1, L1, hO1, by rw [hsv]; unfold tA; rw [if_neg c76, if_pos c89]; exact ht1, h82_1, by rw [hsv]; unfold tA; rw [if_neg c76, if_pos c89]; exact htl1, fun j h1 h2 h3 h4 h5 => by rw [hcc1 j h1 h5]; unfold cu; rw [if_neg h5, if_neg h4, if_neg h2, if_neg h3, if_neg h1]⟩) | (have e := pq_f c124; exact kR_i (by rw [hov]; unfold vA; rw [if_neg c76, if_neg c89, if_neg e, if_pos c102]) ⟨hfq1, c1, L1, hO1, by rw [hsv]; unfold tA; rw [if_neg c76, if_neg c89, if_pos c102]; exact ht1, h82_1, by rw [hsv]; unfold tA; rw [if_neg c76, if_neg c89, if_pos c102]; exact htl1, fun j h1 h2 h3 h4 h5 => by rw [hcc1 j h1 h5]; unfold cu; rw [if_neg h5, if_neg h4, if_neg h2, if_neg h3, if_neg h1]⟩) | (have e := pq_f c124; exact kR_i (by rw [hov]; unfold vA; rw [if_neg c76, if_neg c89, if_neg e, if_neg c102]) ⟨hfq1, c1, L1, hO1, by rw [hsv]; unfold tA; rw [if_neg c76, if_neg c89, if_neg c102]; exact ht1, h82_1, by rw [hsv]; unfold tA; rw [if_neg c76, if_neg c89, if_neg c102]; exact htl1, fun j h1 h2 h3 h4 h5 => by rw [hcc1 j h1 h5]; unfold cu; rw [if_neg h5, if_neg h4, if_neg h2, if_neg h3, if_neg h1]⟩) | (have e := pq_t c124; exact kR_i (by rw [hov]; unfold vA; rw [if_neg c76, if_neg c89, if_pos e]) ⟨hfq1, c1, L1, hO1, by rw [hsv]; unfold tA; rw [if_neg c76, if_neg c89, if_pos c102]; exact ht1, h82_1, by rw [hsv]; unfold tA; rw [if_neg c76, if_neg c89, if_pos c102]; exact htl1, fun j h1 h2 h3 h4 h5 => by rw [hcc1 j h1 h5]; unfold cu; rw [if_neg h5, if_neg h4, if_neg h2, if_neg h3, if_neg h1]⟩) | (have e := pq_t c124; exact kR_i (by rw [hov]; unfold vA; rw [if_neg c76, if_neg c89, if_pos e]) ⟨hfq1, c1, L1, hO1, by rw [hsv]; unfold tA; rw [if_neg c76, if_neg c89, if_neg c102]; exact ht1, h82_1, by rw [hsv]; unfold tA; rw [if_neg c76, if_neg c89, if_neg c102]; exact htl1, fun j h1 h2 h3 h4 h5 => by rw [hcc1 j h1 h5]; unfold cu; rw [if_neg h5, if_neg h4, if_neg h2, if_neg h3, if_neg h1]⟩))
            · refine xj_aload_n dX7_act_105 rfl rfl ?_
              refine xj_iload_n dX7_act_106 rfl ?_
              refine xj_dV dX7_act_107 q2566 kV_X7_parts (M_parts hkm.2.2.1 (by omega) hkm.2.2.2 htr0) (kG_a (by decide) hO0) rfl rfl rfl rfl (Nat.le_of_ble_eq_true rfl) ⟨(Nat.le_of_ble_eq_true rfl), (Nat.le_of_ble_eq_true rfl)⟩ (Nat.le_of_ble_eq_true rfl) (Nat.le_of_ble_eq_true rfl) ?_
              rintro _ _ ⟨rfl, bb1, rfl, hfr1, htr1⟩
              have hfq1 := hfq0.trans hfr1 (fun _ h => h)
              obtain ⟨c1, L1, hO1, hk1, hn1, hm1, hp1, ht1, h82_1, htl1, hcc1⟩ := id htr1
              refine xj_goto (tgt := 118) dX7_act_110 rfl ?_
              refine xj_ist4 dX7_act_118 rfl ?_
              refine xj_aload_n dX7_act_120 rfl rfl ?_
              refine xj_get dX7_act_121 K7 49 (by decide) q1978 (kG_a (by decide) hO1) (congrArg some hp1) ?_
              refine xj_if_eq (tgt := 132) dX7_act_124 rfl (fun c124 => ?_) (fun c124 => ?_)
              · refine xj_iload dX7_act_132 rfl ?_
                exact xj_ireturn dX7_act_134 rfl rfl (by first | (exact absurd rfl c124) | (exact kR_i (by rw [hov]; unfold vA; rw [if_pos c76]) ⟨hfq1, c1, L1, hO1, by rw [hsv]; unfold tA; rw [if_pos c76]; exact ht1, h82_1, by rw [hsv]; unfold tA; rw [if_pos c76]; exact htl1, fun j h1 h2 h3 h4 h5 => by rw [hcc1 j h1 h5]; unfold cu; rw [if_neg h5, if_neg h4, if_neg h2, if_neg h3, if_neg h1]⟩) | (exact kR_i (by rw [hov]; unfold vA; rw [if_neg c76, if_pos c89]) ⟨hfq1, c1, L1, hO1, by rw [hsv]; unfold tA; rw [if_neg c76, if_pos c89]; exact ht1, h82_1, by rw [hsv]; unfold tA; rw [if_neg c76, if_pos c89]; exact htl1, fun j h1 h2 h3 h4 h5 => by rw [hcc1 j h1 h5]; unfold cu; rw [if_neg h5, if_neg h4, if_neg h2, if_neg h3, if_neg h1]⟩) | (have e := pq_f c124; exact kR_i (by rw [hov]; unfold vA; rw [if_neg c76, if_neg c89, if_neg e, if_pos c102]) ⟨hfq1, c1, L1, hO1, by rw [hsv]; unfold tA; rw [if_neg c76, if_neg c89, if_pos c102]; exact ht1, h82_1, by rw [hsv]; unfold tA; rw [if_neg c76, if_neg c89, if_pos c102]; exact htl1, fun j h1 h2 h3 h4 h5 => by rw [hcc1 j h1 h5]; unfold cu; rw [if_neg h5, if_neg h4, if_neg h2, if_neg h3, if_neg h1]⟩) | (have e := pq_f c124; exact kR_i (by rw [hov]; unfold vA; rw [if_neg c76, if_neg c89, if_neg e, if_neg c102]) ⟨hfq1, c1, L1, hO1, by rw [hsv]; unfold tA; rw [if_neg c76, if_neg c89, if_neg c102]; exact ht1, h82_1, by rw [hsv]; unfold tA; rw [if_neg c76, if_neg c89, if_neg c102]; exact htl1, fun j h1 h2 h3 h4 h5 => by rw [hcc1 j h1 h5]; unfold cu; rw [if_neg h5, if_neg h4, if_neg h2, if_neg h3, if_neg h1]⟩) | (have e := pq_t c124; exact kR_i (by rw [hov]; unfold vA; rw [if_neg c76, if_neg c89, if_pos e]) ⟨hfq1, c1, L1, hO1, by rw [hsv]; unfold tA; rw [if_neg c76, if_neg c89, if_pos c102]; exact ht1, h82_1, by rw [hsv]; unfold tA; rw [if_neg c76, if_neg c89, if_pos c102]; exact htl1, fun j h1 h2 h3 h4 h5 => by rw [hcc1 j h1 h5]; unfold cu; rw [if_neg h5, if_neg h4, if_neg h2, if_neg h3, if_neg h1]⟩) | (have e := pq_t c124; exact kR_i (by rw [hov]; unfold vA; rw [if_neg c76, if_neg c89, if_pos e]) ⟨hfq1, c1, L1, hO1, by rw [hsv]; unfold tA; rw [if_neg c76, if_neg c89, if_neg c102]; exact ht1, h82_1, by rw [hsv]; unfold tA; rw [if_neg c76, if_neg c89, if_neg c102]; exact htl1, fun j h1 h2 h3 h4 h5 => by rw [hcc1 j h1 h5]; unfold cu; rw [if_neg h5, if_neg h4, if_neg h2, if_neg h3, if_neg h1]⟩))
              · refine xj_bipush (v := -15) dX7_act_127 rfl ?_
                refine xj_goto (tgt := 134) dX7_act_129 rfl ?_
                exact xj_ireturn dX7_act_134 rfl rfl (by first | (exact absurd rfl c124) | (exact kR_i (by rw [hov]; unfold vA; rw [if_pos c76]) ⟨hfq1, c1, L1, hO1, by rw [hsv]; unfold tA; rw [if_pos c76]; exact ht1, h82_1, by rw [hsv]; unfold tA; rw [if_pos c76]; exact htl1, fun j h1 h2 h3 h4 h5 => by rw [hcc1 j h1 h5]; unfold cu; rw [if_neg h5, if_neg h4, if_neg h2, if_neg h3, if_neg h1]⟩) | (exact kR_i (by rw [hov]; unfold vA; rw [if_neg c76, if_pos c89]) ⟨hfq1, c1, L1, hO1, by rw [hsv]; unfold tA; rw [if_neg c76, if_pos c89]; exact ht1, h82_1, by rw [hsv]; unfold tA; rw [if_neg c76, if_pos c89]; exact htl1, fun j h1 h2 h3 h4 h5 => by rw [hcc1 j h1 h5]; unfold cu; rw [if_neg h5, if_neg h4, if_neg h2, if_neg h3, if_neg h1]⟩) | (have e := pq_f c124; exact kR_i (by rw [hov]; unfold vA; rw [if_neg c76, if_neg c89, if_neg e, if_pos c102]) ⟨hfq1, c1, L1, hO1, by rw [hsv]; unfold tA; rw [if_neg c76, if_neg c89, if_pos c102]; exact ht1, h82_1, by rw [hsv]; unfold tA; rw [if_neg c76, if_neg c89, if_pos c102]; exact htl1, fun j h1 h2 h3 h4 h5 => by rw [hcc1 j h1 h5]; unfold cu; rw [if_neg h5, if_neg h4, if_neg h2, if_neg h3, if_neg h1]⟩) | (have e := pq_f c124; exact kR_i (by rw [hov]; unfold vA; rw [if_neg c76, if_neg c89, if_neg e, if_neg c102]) ⟨hfq1, c1, L1, hO1, by rw [hsv]; unfold tA; rw [if_neg c76, if_neg c89, if_neg c102]; exact ht1, h82_1, by rw [hsv]; unfold tA; rw [if_neg c76, if_neg c89, if_neg c102]; exact htl1, fun j h1 h2 h3 h4 h5 => by rw [hcc1 j h1 h5]; unfold cu; rw [if_neg h5, if_neg h4, if_neg h2, if_neg h3, if_neg h1]⟩) | (have e := pq_t c124; exact kR_i (by rw [hov]; unfold vA; rw [if_neg c76, if_neg c89, if_pos e]) ⟨hfq1, c1, L1, hO1, by rw [hsv]; unfold tA; rw [if_neg c76, if_neg c89, if_pos c102]; exact ht1, h82_1, by rw [hsv]; unfold tA; rw [if_neg c76, if_neg c89, if_pos c102]; exact htl1, fun j h1 h2 h3 h4 h5 => by rw [hcc1 j h1 h5]; unfold cu; rw [if_neg h5, if_neg h4, if_neg h2, if_neg h3, if_neg h1]⟩) | (have e := pq_t c124; exact kR_i (by rw [hov]; unfold vA; rw [if_neg c76, if_neg c89, if_pos e]) ⟨hfq1, c1, L1, hO1, by rw [hsv]; unfold tA; rw [if_neg c76, if_neg c89, if_neg c102]; exact ht1, h82_1, by rw [hsv]; unfold tA; rw [if_neg c76, if_neg c89, if_neg c102]; exact htl1, fun j h1 h2 h3 h4 h5 => by rw [hcc1 j h1 h5]; unfold cu; rw [if_neg h5, if_neg h4, if_neg h2, if_neg h3, if_neg h1]⟩))
          · refine xj_aload_n dX7_act_92 rfl rfl ?_
            refine xj_iload_n dX7_act_93 rfl ?_
            refine xj_dV dX7_act_94 q2558 kV_X7_bends (M_bends hkm.2.2.1 htr0) (kG_a (by decide) hO0) rfl rfl rfl rfl (Nat.le_of_ble_eq_true rfl) ⟨(Nat.le_of_ble_eq_true rfl), (Nat.le_of_ble_eq_true rfl)⟩ (Nat.le_of_ble_eq_true rfl) (Nat.le_of_ble_eq_true rfl) ?_
            rintro _ _ ⟨rfl, bb1, rfl, hfr1, htr1⟩
            have hfq1 := hfq0.trans hfr1 (fun _ h => h)
            obtain ⟨c1, L1, hO1, hk1, hn1, hm1, hp1, ht1, h82_1, htl1, hcc1⟩ := id htr1
            refine xj_goto (tgt := 118) dX7_act_97 rfl ?_
            refine xj_ist4 dX7_act_118 rfl ?_
            refine xj_aload_n dX7_act_120 rfl rfl ?_
            refine xj_get dX7_act_121 K7 49 (by decide) q1978 (kG_a (by decide) hO1) (congrArg some hp1) ?_
            refine xj_if_eq (tgt := 132) dX7_act_124 rfl (fun c124 => ?_) (fun c124 => ?_)
            · refine xj_iload dX7_act_132 rfl ?_
              exact xj_ireturn dX7_act_134 rfl rfl (by first | (exact absurd rfl c124) | (exact kR_i (by rw [hov]; unfold vA; rw [if_pos c76]) ⟨hfq1, c1, L1, hO1, by rw [hsv]; unfold tA; rw [if_pos c76]; exact ht1, h82_1, by rw [hsv]; unfold tA; rw [if_pos c76]; exact htl1, fun j h1 h2 h3 h4 h5 => by rw [hcc1 j h1 h5]; unfold cu; rw [if_neg h5, if_neg h4, if_neg h2, if_neg h3, if_neg h1]⟩) | (exact kR_i (by rw [hov]; unfold vA; rw [if_neg c76, if_pos c89]) ⟨hfq1, c1, L1, hO1, by rw [hsv]; unfold tA; rw [if_neg c76, if_pos c89]; exact ht1, h82_1, by rw [hsv]; unfold tA; rw [if_neg c76, if_pos c89]; exact htl1, fun j h1 h2 h3 h4 h5 => by rw [hcc1 j h1 h5]; unfold cu; rw [if_neg h5, if_neg h4, if_neg h2, if_neg h3, if_neg h1]⟩) | (have e := pq_f c124; exact kR_i (by rw [hov]; unfold vA; rw [if_neg c76, if_neg c89, if_neg e, if_pos c102]) ⟨hfq1, c1, L1, hO1, by rw [hsv]; unfold tA; rw [if_neg c76, if_neg c89, if_pos c102]; exact ht1, h82_1, by rw [hsv]; unfold tA; rw [if_neg c76, if_neg c89, if_pos c102]; exact htl1, fun j h1 h2 h3 h4 h5 => by rw [hcc1 j h1 h5]; unfold cu; rw [if_neg h5, if_neg h4, if_neg h2, if_neg h3, if_neg h1]⟩) | (have e := pq_f c124; exact kR_i (by rw [hov]; unfold vA; rw [if_neg c76, if_neg c89, if_neg e, if_neg c102]) ⟨hfq1, c1, L1, hO1, by rw [hsv]; unfold tA; rw [if_neg c76, if_neg c89, if_neg c102]; exact ht1, h82_1, by rw [hsv]; unfold tA; rw [if_neg c76, if_neg c89, if_neg c102]; exact htl1, fun j h1 h2 h3 h4 h5 => by rw [hcc1 j h1 h5]; unfold cu; rw [if_neg h5, if_neg h4, if_neg h2, if_neg h3, if_neg h1]⟩) | (have e := pq_t c124; exact kR_i (by rw [hov]; unfold vA; rw [if_neg c76, if_neg c89, if_pos e]) ⟨hfq1, c1, L1, hO1, by rw [hsv]; unfold tA; rw [if_neg c76, if_neg c89, if_pos c102]; exact ht1, h82_1, by rw [hsv]; unfold tA; rw [if_neg c76, if_neg c89, if_pos c102]; exact htl1, fun j h1 h2 h3 h4 h5 => by rw [hcc1 j h1 h5]; unfold cu; rw [if_neg h5, if_neg h4, if_neg h2, if_neg h3, if_neg h1]⟩) | (have e := pq_t c124; exact kR_i (by rw [hov]; unfold vA; rw [if_neg c76, if_neg c89, if_pos e]) ⟨hfq1, c1, L1, hO1, by rw [hsv]; unfold tA; rw [if_neg c76, if_neg c89, if_neg c102]; exact ht1, h82_1, by rw [hsv]; unfold tA; rw [if_neg c76, if_neg c89, if_neg c102]; exact htl1, fun j h1 h2 h3 h4 h5 => by rw [hcc1 j h1 h5]; unfold cu; rw [if_neg h5, if_neg h4, if_neg h2, if_neg h3, if_neg h1]⟩))
            · refine xj_bipush (v := -15) dX7_act_127 rfl ?_
              refine xj_goto (tgt := 134) dX7_act_129 rfl ?_
              exact xj_ireturn dX7_act_134 rfl rfl (by first | (exact absurd rfl c124) | (exact kR_i (by rw [hov]; unfold vA; rw [if_pos c76]) ⟨hfq1, c1, L1, hO1, by rw [hsv]; unfold tA; rw [if_pos c76]; exact ht1, h82_1, by rw [hsv]; unfold tA; rw [if_pos c76]; exact htl1, fun j h1 h2 h3 h4 h5 => by rw [hcc1 j h1 h5]; unfold cu; rw [if_neg h5, if_neg h4, if_neg h2, if_neg h3, if_neg h1]⟩) | (exact kR_i (by rw [hov]; unfold vA; rw [if_neg c76, if_pos c89]) ⟨hfq1, c1, L1, hO1, by rw [hsv]; unfold tA; rw [if_neg c76, if_pos c89]; exact ht1, h82_1, by rw [hsv]; unfold tA; rw [if_neg c76, if_pos c89]; exact htl1, fun j h1 h2 h3 h4 h5 => by rw [hcc1 j h1 h5]; unfold cu; rw [if_neg h5, if_neg h4, if_neg h2, if_neg h3, if_neg h1]⟩) | (have e := pq_f c124; exact kR_i (by rw [hov]; unfold vA; rw [if_neg c76, if_neg c89, if_neg e, if_pos c102]) ⟨hfq1, c1, L1, hO1, by rw [hsv]; unfold tA; rw [if_neg c76, if_neg c89, if_pos c102]; exact ht1, h82_1, by rw [hsv]; unfold tA; rw [if_neg c76, if_neg c89, if_pos c102]; exact htl1, fun j h1 h2 h3 h4 h5 => by rw [hcc1 j h1 h5]; unfold cu; rw [if_neg h5, if_neg h4, if_neg h2, if_neg h3, if_neg h1]⟩) | (have e := pq_f c124; exact kR_i (by rw [hov]; unfold vA; rw [if_neg c76, if_neg c89, if_neg e, if_neg c102]) ⟨hfq1, c1, L1, hO1, by rw [hsv]; unfold tA; rw [if_neg c76, if_neg c89, if_neg c102]; exact ht1, h82_1, by rw [hsv]; unfold tA; rw [if_neg c76, if_neg c89, if_neg c102]; exact htl1, fun j h1 h2 h3 h4 h5 => by rw [hcc1 j h1 h5]; unfold cu; rw [if_neg h5, if_neg h4, if_neg h2, if_neg h3, if_neg h1]⟩) | (have e := pq_t c124; exact kR_i (by rw [hov]; unfold vA; rw [if_neg c76, if_neg c89, if_pos e]) ⟨hfq1, c1, L1, hO1, by rw [hsv]; unfold tA; rw [if_neg c76, if_neg c89, if_pos c102]; exact ht1, h82_1, by rw [hsv]; unfold tA; rw [if_neg c76, if_neg c89, if_pos c102]; exact htl1, fun j h1 h2 h3 h4 h5 => by rw [hcc1 j h1 h5]; unfold cu; rw [if_neg h5, if_neg h4, if_neg h2, if_neg h3, if_neg h1]⟩) | (have e := pq_t c124; exact kR_i (by rw [hov]; unfold vA; rw [if_neg c76, if_neg c89, if_pos e]) ⟨hfq1, c1, L1, hO1, by rw [hsv]; unfold tA; rw [if_neg c76, if_neg c89, if_neg c102]; exact ht1, h82_1, by rw [hsv]; unfold tA; rw [if_neg c76, if_neg c89, if_neg c102]; exact htl1, fun j h1 h2 h3 h4 h5 => by rw [hcc1 j h1 h5]; unfold cu; rw [if_neg h5, if_neg h4, if_neg h2, if_neg h3, if_neg h1]⟩))
        · refine xj_aload_n dX7_act_79 rfl rfl ?_
          refine xj_iload_n dX7_act_80 rfl ?_
          refine xj_dV dX7_act_81 q2542 kV_X7_turns (M_turns hkm.2.2.1 htr0) (kG_a (by decide) hO0) rfl rfl rfl rfl (Nat.le_of_ble_eq_true rfl) ⟨(Nat.le_of_ble_eq_true rfl), (Nat.le_of_ble_eq_true rfl)⟩ (Nat.le_of_ble_eq_true rfl) (Nat.le_of_ble_eq_true rfl) ?_
          rintro _ _ ⟨rfl, bb1, rfl, hfr1, htr1⟩
          have hfq1 := hfq0.trans hfr1 (fun _ h => h)
          obtain ⟨c1, L1, hO1, hk1, hn1, hm1, hp1, ht1, h82_1, htl1, hcc1⟩ := id htr1
          refine xj_goto (tgt := 118) dX7_act_84 rfl ?_
          refine xj_ist4 dX7_act_118 rfl ?_
          refine xj_aload_n dX7_act_120 rfl rfl ?_
          refine xj_get dX7_act_121 K7 49 (by decide) q1978 (kG_a (by decide) hO1) (congrArg some hp1) ?_
          refine xj_if_eq (tgt := 132) dX7_act_124 rfl (fun c124 => ?_) (fun c124 => ?_)
          · refine xj_iload dX7_act_132 rfl ?_
            exact xj_ireturn dX7_act_134 rfl rfl (by first | (exact absurd rfl c124) | (exact kR_i (by rw [hov]; unfold vA; rw [if_pos c76]) ⟨hfq1, c1, L1, hO1, by rw [hsv]; unfold tA; rw [if_pos c76]; exact ht1, h82_1, by rw [hsv]; unfold tA; rw [if_pos c76]; exact htl1, fun j h1 h2 h3 h4 h5 => by rw [hcc1 j h1 h5]; unfold cu; rw [if_neg h5, if_neg h4, if_neg h2, if_neg h3, if_neg h1]⟩) | (exact kR_i (by rw [hov]; unfold vA; rw [if_neg c76, if_pos c89]) ⟨hfq1, c1, L1, hO1, by rw [hsv]; unfold tA; rw [if_neg c76, if_pos c89]; exact ht1, h82_1, by rw [hsv]; unfold tA; rw [if_neg c76, if_pos c89]; exact htl1, fun j h1 h2 h3 h4 h5 => by rw [hcc1 j h1 h5]; unfold cu; rw [if_neg h5, if_neg h4, if_neg h2, if_neg h3, if_neg h1]⟩) | (have e := pq_f c124; exact kR_i (by rw [hov]; unfold vA; rw [if_neg c76, if_neg c89, if_neg e, if_pos c102]) ⟨hfq1, c1, L1, hO1, by rw [hsv]; unfold tA; rw [if_neg c76, if_neg c89, if_pos c102]; exact ht1, h82_1, by rw [hsv]; unfold tA; rw [if_neg c76, if_neg c89, if_pos c102]; exact htl1, fun j h1 h2 h3 h4 h5 => by rw [hcc1 j h1 h5]; unfold cu; rw [if_neg h5, if_neg h4, if_neg h2, if_neg h3, if_neg h1]⟩) | (have e := pq_f c124; exact kR_i (by rw [hov]; unfold vA; rw [if_neg c76, if_neg c89, if_neg e, if_neg c102]) ⟨hfq1, c1, L1, hO1, by rw [hsv]; unfold tA; rw [if_neg c76, if_neg c89, if_neg c102]; exact ht1, h82_1, by rw [hsv]; unfold tA; rw [if_neg c76, if_neg c89, if_neg c102]; exact htl1, fun j h1 h2 h3 h4 h5 => by rw [hcc1 j h1 h5]; unfold cu; rw [if_neg h5, if_neg h4, if_neg h2, if_neg h3, if_neg h1]⟩) | (have e := pq_t c124; exact kR_i (by rw [hov]; unfold vA; rw [if_neg c76, if_neg c89, if_pos e]) ⟨hfq1, c1, L1, hO1, by rw [hsv]; unfold tA; rw [if_neg c76, if_neg c89, if_pos c102]; exact ht1, h82_1, by rw [hsv]; unfold tA; rw [if_neg c76, if_neg c89, if_pos c102]; exact htl1, fun j h1 h2 h3 h4 h5 => by rw [hcc1 j h1 h5]; unfold cu; rw [if_neg h5, if_neg h4, if_neg h2, if_neg h3, if_neg h1]⟩) | (have e := pq_t c124; exact kR_i (by rw [hov]; unfold vA; rw [if_neg c76, if_neg c89, if_pos e]) ⟨hfq1, c1, L1, hO1, by rw [hsv]; unfold tA; rw [if_neg c76, if_neg c89, if_neg c102]; exact ht1, h82_1, by rw [hsv]; unfold tA; rw [if_neg c76, if_neg c89, if_neg c102]; exact htl1, fun j h1 h2 h3 h4 h5 => by rw [hcc1 j h1 h5]; unfold cu; rw [if_neg h5, if_neg h4, if_neg h2, if_neg h3, if_neg h1]⟩))
          · refine xj_bipush (v := -15) dX7_act_127 rfl ?_
            refine xj_goto (tgt := 134) dX7_act_129 rfl ?_
            exact xj_ireturn dX7_act_134 rfl rfl (by first | (exact absurd rfl c124) | (exact kR_i (by rw [hov]; unfold vA; rw [if_pos c76]) ⟨hfq1, c1, L1, hO1, by rw [hsv]; unfold tA; rw [if_pos c76]; exact ht1, h82_1, by rw [hsv]; unfold tA; rw [if_pos c76]; exact htl1, fun j h1 h2 h3 h4 h5 => by rw [hcc1 j h1 h5]; unfold cu; rw [if_neg h5, if_neg h4, if_neg h2, if_neg h3, if_neg h1]⟩) | (exact kR_i (by rw [hov]; unfold vA; rw [if_neg c76, if_pos c89]) ⟨hfq1, c1, L1, hO1, by rw [hsv]; unfold tA; rw [if_neg c76, if_pos c89]; exact ht1, h82_1, by rw [hsv]; unfold tA; rw [if_neg c76, if_pos c89]; exact htl1, fun j h1 h2 h3 h4 h5 => by rw [hcc1 j h1 h5]; unfold cu; rw [if_neg h5, if_neg h4, if_neg h2, if_neg h3, if_neg h1]⟩) | (have e := pq_f c124; exact kR_i (by rw [hov]; unfold vA; rw [if_neg c76, if_neg c89, if_neg e, if_pos c102]) ⟨hfq1, c1, L1, hO1, by rw [hsv]; unfold tA; rw [if_neg c76, if_neg c89, if_pos c102]; exact ht1, h82_1, by rw [hsv]; unfold tA; rw [if_neg c76, if_neg c89, if_pos c102]; exact htl1, fun j h1 h2 h3 h4 h5 => by rw [hcc1 j h1 h5]; unfold cu; rw [if_neg h5, if_neg h4, if_neg h2, if_neg h3, if_neg h1]⟩) | (have e := pq_f c124; exact kR_i (by rw [hov]; unfold vA; rw [if_neg c76, if_neg c89, if_neg e, if_neg c102]) ⟨hfq1, c1, L1, hO1, by rw [hsv]; unfold tA; rw [if_neg c76, if_neg c89, if_neg c102]; exact ht1, h82_1, by rw [hsv]; unfold tA; rw [if_neg c76, if_neg c89, if_neg c102]; exact htl1, fun j h1 h2 h3 h4 h5 => by rw [hcc1 j h1 h5]; unfold cu; rw [if_neg h5, if_neg h4, if_neg h2, if_neg h3, if_neg h1]⟩) | (have e := pq_t c124; exact kR_i (by rw [hov]; unfold vA; rw [if_neg c76, if_neg c89, if_pos e]) ⟨hfq1, c1, L1, hO1, by rw [hsv]; unfold tA; rw [if_neg c76, if_neg c89, if_pos c102]; exact ht1, h82_1, by rw [hsv]; unfold tA; rw [if_neg c76, if_neg c89, if_pos c102]; exact htl1, fun j h1 h2 h3 h4 h5 => by rw [hcc1 j h1 h5]; unfold cu; rw [if_neg h5, if_neg h4, if_neg h2, if_neg h3, if_neg h1]⟩) | (have e := pq_t c124; exact kR_i (by rw [hov]; unfold vA; rw [if_neg c76, if_neg c89, if_pos e]) ⟨hfq1, c1, L1, hO1, by rw [hsv]; unfold tA; rw [if_neg c76, if_neg c89, if_neg c102]; exact ht1, h82_1, by rw [hsv]; unfold tA; rw [if_neg c76, if_neg c89, if_neg c102]; exact htl1, fun j h1 h2 h3 h4 h5 => by rw [hcc1 j h1 h5]; unfold cu; rw [if_neg h5, if_neg h4, if_neg h2, if_neg h3, if_neg h1]⟩))
end M19
