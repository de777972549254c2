/-! ===== the reference: how far ===== -/
set_option maxRecDepth 100000
theorem kV_X7_begins : xsV yX7_begins cX7_begins 2 none 0 := ⟨q2412, qs127, q161, q2413, by decide, by decide, by decide +kernel⟩
theorem i32_lt0 {x : Int32} (h : ¬ 0 ≤ x) : x < 0 := by rw [Int32.lt_iff_toInt_lt]; rw [Int32.le_iff_toInt_le] at h; omega
theorem i32_nlt0 {x : Int32} (h : 0 ≤ x) : ¬ x < 0 := by rw [Int32.lt_iff_toInt_lt]; rw [Int32.le_iff_toInt_le] at h; omega
section M21
variable {E : xE} {G T : xH} {a : Nat → xC} {c : Nat → Value} {n : Nat}
theorem M_begins {F0 W0 : List Int32}  (hv : kV c n a) (h69 : a 69 = cI 0 F0) (h70 : a 70 = cI 0 W0) (hF0 : F0.length = 120) (hW0 : W0.length = 120) : xMet E yX7_begins cX7_begins 2 none 1 0 0 [.ref 54] (kG a T) (kR (none) T (fun b => b = (au (au a 69 (cI 0 (List.replicate 120 (-1)))) 70 (cI 0 (List.replicate 120 (-1)))))) := by
  obtain ⟨hO, hf0, h1n, hn6, h63, h64⟩ := id hv
  refine xMet.of (lv := [some (.ref 54), none]) rfl rfl (Nat.le_of_ble_eq_true rfl) ?_
  refine xj_ic0 dX7_begins_0 ?_
  refine xj_istn1 dX7_begins_1 rfl ?_
  refine xj_eq rfl rfl (show _ = kG (au (au a 69 (cI 0 F0)) 70 (cI 0 W0)) T by rw [au_id (i := 69) h69, au_id (i := 70) h70]) ?_
  have lp : ∀ (K : Nat) (p : Nat) (F : List Int32) (W : List Int32), 120 - p < K → (p ≤ 120) → (F.length = 120) → (W.length = 120) → (∀ i, i < p → F[i]? = some (-1)) → (∀ i, i < p → W[i]? = some (-1)) → xJ E (yX7_begins, cX7_begins, 2, none, []) (xR 1 0 0) (kR (none) T (fun b => b = (au (au a 69 (cI 0 (List.replicate 120 (-1)))) 70 (cI 0 (List.replicate 120 (-1)))))) 0 0 2 [some (.ref 54), some (.int (nI p))] [] (kG (au (au a 69 (cI 0 F)) 70 (cI 0 W)) T) := by
    intro K
    induction K with
    | zero => intro p F W h; exact absurd h (Nat.not_lt_zero _)
    | succ K ih_lp =>
      intro p F W hK hp hF hW hF1 hW1
      refine xj_iload_n dX7_begins_2 rfl ?_
      refine xj_bipush (v := 120) dX7_begins_3 rfl ?_
      refine xj_icmp_ge (tgt := 28) dX7_begins_5 rfl (fun c5 => ?_) (fun c5 => ?_)
      · exact xj_return dX7_begins_28 rfl (by have hp1 : 120 ≤ p := Nat.le_of_not_lt fun h => absurd c5 (nI_ge (a := p) (b := 120) h (by omega)); have e1 := repl_ext hF (fun i hi => hF1 i (by omega)); have e2 := repl_ext hW (fun i hi => hW1 i (by omega)); exact kR_v (by rw [e1, e2]))
      · have hp1 : p < 120 := Nat.lt_of_not_le fun h => c5 (nI_le (a := 120) h (by omega))
        refine xj_aload_n dX7_begins_8 rfl rfl ?_
        refine xj_get dX7_begins_9 K7 30 (by decide) q1959 (kG_a (by decide) hO) rfl ?_
        refine xj_iload_n dX7_begins_12 rfl ?_
        refine xj_icm1 dX7_begins_13 ?_
        refine xj_iast dX7_begins_14 (kG_a (by decide) rfl) rfl (by omega) (by omega) ?_
        refine xj_eq rfl rfl (kG_set (by decide)) ?_
        rw [au_comm _ _ _ (by decide : 70 ≠ 69), au_au]
        refine xj_aload_n dX7_begins_15 rfl rfl ?_
        refine xj_get dX7_begins_16 K7 31 (by decide) q1960 (kG_a (by decide) hO) rfl ?_
        refine xj_iload_n dX7_begins_19 rfl ?_
        refine xj_icm1 dX7_begins_20 ?_
        refine xj_iast dX7_begins_21 (kG_a (by decide) rfl) rfl (by omega) (by omega) ?_
        refine xj_eq rfl rfl (kG_set (by decide)) ?_
        rw [au_au]
        refine xj_iinc1 (cst := 1) dX7_begins_22 rfl rfl ?_
        rw [nI_1]
        refine xj_goto (tgt := 2) dX7_begins_25 rfl ?_
        exact ih_lp (p + 1) _ _ (by omega) (by omega) (by rw [List.length_set]; exact hF) (by rw [List.length_set]; exact hW) (fun i hi => by
          by_cases e : p = i
          · subst e; exact List.getElem?_set_self (by omega)
          · rw [List.getElem?_set_ne e]; exact hF1 i (by omega)) (fun i hi => by
          by_cases e : p = i
          · subst e; exact List.getElem?_set_self (by omega)
          · rw [List.getElem?_set_ne e]; exact hW1 i (by omega))
  exact lp 121 0 F0 W0 (by omega) (by omega) hF0 hW0 (fun i hi => absurd hi (Nat.not_lt_zero _)) (fun i hi => absurd hi (Nat.not_lt_zero _))
theorem M_apartOf {a0 b0 g : Nat} {v : Int32} {X0 F0 W0 Q0 : List Int32}  (hv : kV c n a) (ha : kA n a) (hf3 : c 3 = .long (lN g)) (hg : g < 2 ^ 57) (h68 : a 68 = cI 0 X0) (h69 : a 69 = cI 0 F0) (h70 : a 70 = cI 0 W0) (h71 : a 71 = cI 0 Q0) (hX0 : X0.length = 6) (hF0 : F0.length = 120) (hW0 : W0.length = 120) (hQ0 : Q0.length = 120) (ha0 : a0 ∈ rws n) (hb0 : b0 ∈ rws n) (hn5 : n < 6) (hap0 : apA n g a0 b0 = some v) : xMet E yX7_apartOf cX7_apartOf 8 (some FieldType.int) 6 0 0 [.ref 54, .int (nI a0), .int (nI b0)] (kG a T) (kR (some (.int v)) T (fun b => kfr [68, 69, 70, 71] a b ∧ ∃ X F W Q : List Int32, b 68 = cI 0 X ∧ b 69 = cI 0 F ∧ b 70 = cI 0 W ∧ b 71 = cI 0 Q ∧ X.length = 6 ∧ F.length = 120 ∧ W.length = 120 ∧ Q.length = 120)) := by
  obtain ⟨hO, hf0, h1n, hn6, h63, h64⟩ := id hv
  have ha31 := R31 (by omega) ha0
  have hb31 := R31 (by omega) hb0
  have hra := f_rk5 n hn5 a0 ha0
  refine xMet.of (lv := [some (.ref 54), some (.int (nI a0)), some (.int (nI b0)), none, none, none, none, none]) rfl rfl (Nat.le_of_ble_eq_true rfl) ?_
  refine xj_aload_n dX7_apartOf_0 rfl rfl ?_
  refine xj_dV dX7_apartOf_1 q2410 kV_X7_begins (M_begins hv h69 h70 hF0 hW0) (kG_a (by decide) hO) rfl rfl rfl rfl (Nat.le_of_ble_eq_true rfl) ⟨(Nat.le_of_ble_eq_true rfl), (Nat.le_of_ble_eq_true rfl)⟩ (Nat.le_of_ble_eq_true rfl) (Nat.le_of_ble_eq_true rfl) ?_
  rintro _ _ ⟨rfl, b, rfl, rfl⟩
  have hv2 : kV c n (au (au a 69 (cI 0 (List.replicate 120 (-1)))) 70 (cI 0 (List.replicate 120 (-1)))) := hv.u hO rfl rfl rfl
  refine xj_aload_n dX7_apartOf_4 rfl rfl ?_
  refine xj_get dX7_apartOf_5 K7 30 (by decide) q1959 (kG_a (by decide) hO) rfl ?_
  refine xj_aload_n dX7_apartOf_8 rfl rfl ?_
  refine xj_iload_n dX7_apartOf_9 rfl ?_
  refine xj_cV dX7_apartOf_10 q2148 kV_X7_rank (M_rank hv2.V ha31) (kG_a (by decide) hO) rfl rfl rfl rfl (Nat.le_of_ble_eq_true rfl) ⟨(Nat.le_of_ble_eq_true rfl), (Nat.le_of_ble_eq_true rfl)⟩ (Nat.le_of_ble_eq_true rfl) (Nat.le_of_ble_eq_true rfl) ?_
  refine xj_ic0 dX7_apartOf_13 ?_
  refine xj_iast dX7_apartOf_14 (kG_a (by decide) rfl) rfl (by omega) (by rw [List.length_replicate]; omega) ?_
  refine xj_eq rfl rfl (kG_set (by decide)) ?_
  refine xj_aload_n dX7_apartOf_15 rfl rfl ?_
  refine xj_get dX7_apartOf_16 K7 32 (by decide) q1961 (kG_a (by decide) hO) rfl ?_
  refine xj_ic0 dX7_apartOf_19 ?_
  refine xj_iload_n dX7_apartOf_20 rfl ?_
  refine xj_iast dX7_apartOf_21 (kG_a (by decide) h71) (show (0 : Int32) = nI 0 from rfl) (by decide) (by rw [hQ0]; decide) ?_
  refine xj_eq rfl rfl (kG_set (by decide)) ?_
  refine xj_ic1 dX7_apartOf_22 ?_
  refine xj_istn3 dX7_apartOf_23 rfl ?_
  refine xj_ic0 dX7_apartOf_24 ?_
  refine xj_ist4 dX7_apartOf_25 rfl ?_
  refine xj_eq rfl rfl (show _ = kG (qG (au a 70 (cI 0 (List.replicate 120 (-1)))) X0 ((List.replicate 120 (-1)).set (rk n a0) 0) (Q0.set 0 (nI a0))) T from congrArg (fun z => kG z T) (by unfold qG; rw [au_id (i := 68) (show au a 70 (cI 0 (List.replicate 120 (-1))) 68 = cI 0 X0 from h68), au_comm a _ _ (by decide : 69 ≠ 70), au_au])) ?_
  have lp : ∀ (K : Nat) (k : Nat) (F : List Int32) (Q : List Nat) (X : List Int32) (Qv : List Int32), (X.length = 6) → (F.length = 120) → (lnq Qv Q n) → (apF n g b0 K k (F, Q) = some v) → xJ E (yX7_apartOf, cX7_apartOf, 8, (some FieldType.int), []) (xR 6 0 0) (kR (some (.int v)) T (fun b => kfr [68, 69, 70, 71] a b ∧ ∃ X F W Q : List Int32, b 68 = cI 0 X ∧ b 69 = cI 0 F ∧ b 70 = cI 0 W ∧ b 71 = cI 0 Q ∧ X.length = 6 ∧ F.length = 120 ∧ W.length = 120 ∧ Q.length = 120)) 0 0 27 [some (.ref 54), some (.int (nI a0)), some (.int (nI b0)), some (.int (nI Q.length)), some (.int (nI k)), none, none, none] [] (kG (qG (au a 70 (cI 0 (List.replicate 120 (-1)))) X F Qv) T) := by
    intro K
    induction K with
    | zero => intro k F Q X Qv _ _ _ hs; cases hs
    | succ K ih_lp =>
      intro k F Q X Qv hX hF hQ hs
      have hv2 : kV c n (qG (au a 70 (cI 0 (List.replicate 120 (-1)))) X F Qv) := hv.u hO rfl rfl rfl
      have hrb := f_rk5 n (by omega) b0 hb0
      have hs : (if 0 ≤ F.getD (rk n b0) 0 then some (F.getD (rk n b0) 0) else match apW n g k (F, Q) with | none => none | some s2 => apF n g b0 K (k + 1) s2) = some v := hs
      refine xj_aload_n dX7_apartOf_27 rfl rfl ?_
      refine xj_get dX7_apartOf_28 K7 30 (by decide) q1959 (kG_a (by decide) hO) rfl ?_
      refine xj_aload_n dX7_apartOf_31 rfl rfl ?_
      refine xj_iload_n dX7_apartOf_32 rfl ?_
      refine xj_cV dX7_apartOf_33 q2148 kV_X7_rank (M_rank hv2.V hb31) (kG_a (by decide) hO) rfl rfl rfl rfl (Nat.le_of_ble_eq_true rfl) ⟨(Nat.le_of_ble_eq_true rfl), (Nat.le_of_ble_eq_true rfl)⟩ (Nat.le_of_ble_eq_true rfl) (Nat.le_of_ble_eq_true rfl) ?_
      refine xj_iald dX7_apartOf_36 (kG_a (by decide) rfl) rfl (by omega) (gD_at (by omega)) ?_
      refine xj_if_ge (tgt := 161) dX7_apartOf_37 rfl (fun c37 => ?_) (fun c37 => ?_)
      · refine xj_aload_n dX7_apartOf_161 rfl rfl ?_
        refine xj_get dX7_apartOf_162 K7 30 (by decide) q1959 (kG_a (by decide) hO) rfl ?_
        refine xj_aload_n dX7_apartOf_165 rfl rfl ?_
        refine xj_iload_n dX7_apartOf_166 rfl ?_
        refine xj_cV dX7_apartOf_167 q2148 kV_X7_rank (M_rank hv2.V hb31) (kG_a (by decide) hO) rfl rfl rfl rfl (Nat.le_of_ble_eq_true rfl) ⟨(Nat.le_of_ble_eq_true rfl), (Nat.le_of_ble_eq_true rfl)⟩ (Nat.le_of_ble_eq_true rfl) (Nat.le_of_ble_eq_true rfl) ?_
        refine xj_iald dX7_apartOf_170 (kG_a (by decide) rfl) rfl (by omega) (gD_at (by omega)) ?_
        exact xj_ireturn dX7_apartOf_171 rfl rfl (kR_i (by rw [if_pos c37] at hs; exact Option.some.inj hs) ⟨fun j hj => by simp only [List.mem_cons, List.not_mem_nil, or_false, not_or] at hj; unfold qG; rw [au_n _ _ hj.2.2.2, au_n _ _ hj.2.1, au_n _ _ hj.1, au_n _ _ hj.2.2.1], X, F, (List.replicate 120 (-1)), Qv, rfl, rfl, rfl, rfl, hX, hF, List.length_replicate, hQ.1⟩)
      · rw [if_neg c37] at hs
        cases hap : apW n g k (F, Q) with
        | none => rw [hap] at hs; cases hs
        | some s2 =>
        rw [hap] at hs
        have hs2 : apF n g b0 K (k + 1) s2 = some v := hs
        unfold apW at hap
        cases hqk : Q[k]? with
        | none => rw [show (F, Q).2[k]? = none from hqk] at hap; cases hap
        | some q =>
        rw [show (F, Q).2[k]? = some q from hqk] at hap
        have hqm := (hQ.2.2 k q hqk).2
        have hap : (match apV n q (rot n g q true) (F, Q) with | none => none | some s1 => apV n q (rot n g q false) s1) = some s2 := hap
        cases hv1 : apV n q (rot n g q true) (F, Q) with
        | none => rw [hv1] at hap; cases hap
        | some s1 =>
        rw [hv1] at hap
        have hap : apV n q (rot n g q false) s1 = some s2 := hap
        obtain ⟨F1, Q1⟩ := s1
        obtain ⟨F2, Q2⟩ := s2
        refine xj_ic0 dX7_apartOf_40 ?_
        refine xj_ist5 dX7_apartOf_41 rfl ?_
        have hend : ∀ (X : List Int32) (Qv : List Int32), X.length = 6 → F2.length = 120 → lnq Qv Q2 n → xJ E (yX7_apartOf, cX7_apartOf, 8, (some FieldType.int), []) (xR 6 0 0) (kR (some (.int v)) T (fun b => kfr [68, 69, 70, 71] a b ∧ ∃ X F W Q : List Int32, b 68 = cI 0 X ∧ b 69 = cI 0 F ∧ b 70 = cI 0 W ∧ b 71 = cI 0 Q ∧ X.length = 6 ∧ F.length = 120 ∧ W.length = 120 ∧ Q.length = 120)) 0 0 43 [some (.ref 54), some (.int (nI a0)), some (.int (nI b0)), some (.int (nI Q2.length)), some (.int (nI k)), some (.int (nI 2)), none, none] [] (kG (qG (au a 70 (cI 0 (List.replicate 120 (-1)))) X F2 Qv) T) := by
          intro X Qv hX hF hQ
          refine xj_iload dX7_apartOf_43 rfl ?_
          refine xj_ic2 dX7_apartOf_45 ?_
          refine xj_icmp_ge (tgt := 155) dX7_apartOf_46 rfl (fun c46 => ?_) (fun c46 => absurd (by decide) c46)
          refine xj_iinc4 (cst := 1) dX7_apartOf_155 rfl rfl ?_
          rw [nI_1]
          refine xj_goto (tgt := 27) dX7_apartOf_158 rfl ?_
          exact xj_fg5 (ih_lp (k + 1) F2 Q2 X Qv hX hF hQ hs2)
        have hw1 : ∀ (X F : List Int32) (Q : List Nat) (Qv : List Int32), X.length = 6 → F.length = 120 → lnq Qv Q n → Q[k]? = some q → apV n q (rot n g q false) (F, Q) = some (F2, Q2) → xJ E (yX7_apartOf, cX7_apartOf, 8, (some FieldType.int), []) (xR 6 0 0) (kR (some (.int v)) T (fun b => kfr [68, 69, 70, 71] a b ∧ ∃ X F W Q : List Int32, b 68 = cI 0 X ∧ b 69 = cI 0 F ∧ b 70 = cI 0 W ∧ b 71 = cI 0 Q ∧ X.length = 6 ∧ F.length = 120 ∧ W.length = 120 ∧ Q.length = 120)) 0 0 43 [some (.ref 54), some (.int (nI a0)), some (.int (nI b0)), some (.int (nI Q.length)), some (.int (nI k)), some (.int (nI 1)), none, none] [] (kG (qG (au a 70 (cI 0 (List.replicate 120 (-1)))) X F Qv) T) := by
          intro X F Q Qv hX hF hQ hqk hsw
          have hqv := (hQ.2.2 k q hqk).1
          have hkQ := (List.getElem?_eq_some_iff.mp hqk).1
          have hQl := hQ.2.1
          have hv2 : kV c n (qG (au a 70 (cI 0 (List.replicate 120 (-1)))) X F Qv) := hv.u hO rfl rfl rfl
          have ht3 := hv2
          refine xj_iload dX7_apartOf_43 rfl ?_
          refine xj_ic2 dX7_apartOf_45 ?_
          refine xj_icmp_ge (tgt := 155) dX7_apartOf_46 rfl (fun c46 => absurd c46 (by decide)) (fun c46 => ?_)
          refine xj_aload_n dX7_apartOf_49 rfl rfl ?_
          refine xj_aload_n dX7_apartOf_50 rfl rfl ?_
          refine xj_get dX7_apartOf_51 K7 32 (by decide) q1961 (kG_a (by decide) hO) rfl ?_
          refine xj_iload dX7_apartOf_54 rfl ?_
          refine xj_iald dX7_apartOf_56 (kG_a (by decide) rfl) rfl (by omega) hqv ?_
          refine xj_iload dX7_apartOf_57 rfl ?_
          refine xj_top (show nI 1 = b1 (!false) from rfl) ?_
          refine xj_dV dX7_apartOf_59 q2394 kV_X7_turnsTo (M_turnsTo (t := false) hv2.V (kA.A (show kA n (qG (au a 70 (cI 0 (List.replicate 120 (-1)))) X F Qv) from ha.u rfl rfl rfl)) hf3 hg hqm (kG_a (by decide) rfl) hX) (kG_a (by decide) hO) rfl rfl rfl rfl (Nat.le_of_ble_eq_true rfl) ⟨(Nat.le_of_ble_eq_true rfl), (Nat.le_of_ble_eq_true rfl)⟩ (Nat.le_of_ble_eq_true rfl) (Nat.le_of_ble_eq_true rfl) ?_
          rintro _ _ ⟨rfl, X, hX, hlk, rfl⟩
          have hrl := rot_le (n := n) (g := g) (r := q) (t := false)
          refine xj_eq rfl rfl ((kG_set (by decide)).trans (congrArg (fun z => kG z T) qG_68)) ?_
          refine xj_ist6 dX7_apartOf_62 rfl ?_
          refine xj_ic0 dX7_apartOf_64 ?_
          refine xj_ist7 dX7_apartOf_65 rfl ?_
          have li : ∀ (K : Nat) (i : Nat) (F : List Int32) (Q : List Nat) (Qv : List Int32), (rot n g q false).length - i < K → (i ≤ (rot n g q false).length) → (F.length = 120) → (lnq Qv Q n) → (Q[k]? = some q) → (apV n q ((rot n g q false).drop i) (F, Q) = some (F2, Q2)) → xJ E (yX7_apartOf, cX7_apartOf, 8, (some FieldType.int), []) (xR 6 0 0) (kR (some (.int v)) T (fun b => kfr [68, 69, 70, 71] a b ∧ ∃ X F W Q : List Int32, b 68 = cI 0 X ∧ b 69 = cI 0 F ∧ b 70 = cI 0 W ∧ b 71 = cI 0 Q ∧ X.length = 6 ∧ F.length = 120 ∧ W.length = 120 ∧ Q.length = 120)) 0 0 67 [some (.ref 54), some (.int (nI a0)), some (.int (nI b0)), some (.int (nI Q.length)), some (.int (nI k)), some (.int (nI 1)), some (.int (nI (rot n g q false).length)), some (.int (nI i))] [] (kG (qG (au a 70 (cI 0 (List.replicate 120 (-1)))) X F Qv) T) := by
            intro K
            induction K with
            | zero => intro i F Q Qv h; exact absurd h (Nat.not_lt_zero _)
            | succ K ih_li =>
              intro i F Q Qv hK hi hF hQ hqk hs
              refine xj_iload dX7_apartOf_67 rfl ?_
              refine xj_iload dX7_apartOf_69 rfl ?_
              refine xj_icmp_ge (tgt := 149) dX7_apartOf_71 rfl (fun c71 => ?_) (fun c71 => ?_)
              · have hil : i = (rot n g q false).length := by have := Nat.le_of_not_lt fun h => absurd c71 (nI_ge h (by omega)); omega
                rw [hil, List.drop_length] at hs
                have hs : some (F, Q) = some (F2, Q2) := hs
                cases hs
                refine xj_iinc5 (cst := 1) dX7_apartOf_149 rfl rfl ?_
                rw [nI_1]
                refine xj_goto (tgt := 43) dX7_apartOf_152 rfl ?_
                exact xj_fg6 (xj_fg7 (hend X Qv hX hF hQ))
              · have hil : i < (rot n g q false).length := Nat.lt_of_not_le fun h => c71 (nI_le h (by omega))
                obtain ⟨v, hvi⟩ : ∃ v, (rot n g q false)[i]? = some v := ⟨_, List.getElem?_eq_getElem hil⟩
                have hvm : v ∈ rws n := rot_mem (by omega) hqm v (List.mem_of_getElem? hvi)
                have hXi := hlk i v hvi
                have hdr : (rot n g q false).drop i = v :: (rot n g q false).drop (i + 1) := by rw [List.drop_eq_getElem_cons hil]; congr 1; exact Option.some.inj ((List.getElem?_eq_getElem hil).symm.trans hvi)
                rw [hdr] at hs
                have hs : (match apS n q v (F, Q) with | none => none | some s' => apV n q ((rot n g q false).drop (i + 1)) s') = some (F2, Q2) := hs
                have hv31 := R31 (by omega) hvm
                have hq31 := R31 (by omega) hqm
                have hrk := f_rk5 n (by omega) v hvm
                have hrq := f_rk5 n (by omega) q hqm
                have hkQ := (List.getElem?_eq_some_iff.mp hqk).1
                have hQl := hQ.2.1
                have hQvl := hQ.1
                have hqv := (hQ.2.2 k q hqk).1
                have hv2 : kV c n (qG (au a 70 (cI 0 (List.replicate 120 (-1)))) X F Qv) := hv.u hO rfl rfl rfl
                refine xj_aload_n dX7_apartOf_74 rfl rfl ?_
                refine xj_get dX7_apartOf_75 K7 30 (by decide) q1959 (kG_a (by decide) hO) rfl ?_
                refine xj_aload_n dX7_apartOf_78 rfl rfl ?_
                refine xj_aload_n dX7_apartOf_79 rfl rfl ?_
                refine xj_get dX7_apartOf_80 K7 29 (by decide) q1958 (kG_a (by decide) hO) rfl ?_
                refine xj_iload dX7_apartOf_83 rfl ?_
                refine xj_iald dX7_apartOf_85 (kG_a (by decide) rfl) rfl (by omega) hXi ?_
                refine xj_cV dX7_apartOf_86 q2148 kV_X7_rank (M_rank hv2.V hv31) (kG_a (by decide) hO) rfl rfl rfl rfl (Nat.le_of_ble_eq_true rfl) ⟨(Nat.le_of_ble_eq_true rfl), (Nat.le_of_ble_eq_true rfl)⟩ (Nat.le_of_ble_eq_true rfl) (Nat.le_of_ble_eq_true rfl) ?_
                refine xj_iald dX7_apartOf_89 (kG_a (by decide) rfl) rfl (by omega) (gD_at (by omega)) ?_
                refine xj_if_ge (tgt := 143) dX7_apartOf_90 rfl (fun c90 => ?_) (fun c90 => ?_)
                · first | rw [nI_1, show nI (Q.length + 1) = nI (Q ++ [v]).length by rw [List.length_append]; rfl] | rw [show apS n q v (F, Q) = some (F, Q) by unfold apS; rw [if_neg (i32_nlt0 c90)]] at hs
                  refine xj_iinc7 (cst := 1) dX7_apartOf_143 rfl rfl ?_
                  rw [nI_1]
                  refine xj_goto (tgt := 67) dX7_apartOf_146 rfl ?_
                  exact ih_li (i + 1) _ _ _ (by omega) (by omega) (by first | exact hF | (rw [List.length_set]; exact hF)) (by first | exact hQ | exact lnq_push hQ hlt hvm) (by first | exact hqk | (rw [List.getElem?_append_left hkQ]; exact hqk)) hs
                · have hneg : F.getD (rk n v) 0 < 0 := i32_lt0 c90
                  have hlt : Q.length < 120 := Classical.byContradiction fun h => by
                    unfold apS at hs
                    rw [if_pos hneg, if_neg h] at hs
                    cases hs
                  rw [show apS n q v (F, Q) = some (F.set (rk n v) (F.getD (rk n q) 0 + 1), Q ++ [v]) by unfold apS; rw [if_pos hneg, if_pos hlt]] at hs
                  refine xj_aload_n dX7_apartOf_93 rfl rfl ?_
                  refine xj_get dX7_apartOf_94 K7 30 (by decide) q1959 (kG_a (by decide) hO) rfl ?_
                  refine xj_aload_n dX7_apartOf_97 rfl rfl ?_
                  refine xj_aload_n dX7_apartOf_98 rfl rfl ?_
                  refine xj_get dX7_apartOf_99 K7 29 (by decide) q1958 (kG_a (by decide) hO) rfl ?_
                  refine xj_iload dX7_apartOf_102 rfl ?_
                  refine xj_iald dX7_apartOf_104 (kG_a (by decide) rfl) rfl (by omega) hXi ?_
                  refine xj_cV dX7_apartOf_105 q2148 kV_X7_rank (M_rank hv2.V hv31) (kG_a (by decide) hO) rfl rfl rfl rfl (Nat.le_of_ble_eq_true rfl) ⟨(Nat.le_of_ble_eq_true rfl), (Nat.le_of_ble_eq_true rfl)⟩ (Nat.le_of_ble_eq_true rfl) (Nat.le_of_ble_eq_true rfl) ?_
                  refine xj_aload_n dX7_apartOf_108 rfl rfl ?_
                  refine xj_get dX7_apartOf_109 K7 30 (by decide) q1959 (kG_a (by decide) hO) rfl ?_
                  refine xj_aload_n dX7_apartOf_112 rfl rfl ?_
                  refine xj_aload_n dX7_apartOf_113 rfl rfl ?_
                  refine xj_get dX7_apartOf_114 K7 32 (by decide) q1961 (kG_a (by decide) hO) rfl ?_
                  refine xj_iload dX7_apartOf_117 rfl ?_
                  refine xj_iald dX7_apartOf_119 (kG_a (by decide) rfl) rfl (by omega) hqv ?_
                  refine xj_cV dX7_apartOf_120 q2148 kV_X7_rank (M_rank hv2.V hq31) (kG_a (by decide) hO) rfl rfl rfl rfl (Nat.le_of_ble_eq_true rfl) ⟨(Nat.le_of_ble_eq_true rfl), (Nat.le_of_ble_eq_true rfl)⟩ (Nat.le_of_ble_eq_true rfl) (Nat.le_of_ble_eq_true rfl) ?_
                  refine xj_iald dX7_apartOf_123 (kG_a (by decide) rfl) rfl (by omega) (gD_at (by omega)) ?_
                  refine xj_ic1 dX7_apartOf_124 ?_
                  refine xj_iadd dX7_apartOf_125 ?_
                  refine xj_iast dX7_apartOf_126 (kG_a (by decide) rfl) rfl (by omega) (by omega) ?_
                  refine xj_eq rfl rfl (kG_set (by decide)) ?_
                  rw [qG_69]
                  refine xj_aload_n dX7_apartOf_127 rfl rfl ?_
                  refine xj_get dX7_apartOf_128 K7 32 (by decide) q1961 (kG_a (by decide) hO) rfl ?_
                  refine xj_iload_n dX7_apartOf_131 rfl ?_
                  refine xj_aload_n dX7_apartOf_132 rfl rfl ?_
                  refine xj_get dX7_apartOf_133 K7 29 (by decide) q1958 (kG_a (by decide) hO) rfl ?_
                  refine xj_iload dX7_apartOf_136 rfl ?_
                  refine xj_iald dX7_apartOf_138 (kG_a (by decide) rfl) rfl (by omega) hXi ?_
                  refine xj_iast dX7_apartOf_139 (kG_a (by decide) rfl) rfl (by omega) (by omega) ?_
                  refine xj_eq rfl rfl (kG_set (by decide)) ?_
                  rw [qG_71]
                  refine xj_iinc3 (cst := 1) dX7_apartOf_140 rfl rfl ?_
                  first | rw [nI_1, show nI (Q.length + 1) = nI (Q ++ [v]).length by rw [List.length_append]; rfl] | rw [show apS n q v (F, Q) = some (F, Q) by unfold apS; rw [if_neg (i32_nlt0 c90)]] at hs
                  refine xj_iinc7 (cst := 1) dX7_apartOf_143 rfl rfl ?_
                  rw [nI_1]
                  refine xj_goto (tgt := 67) dX7_apartOf_146 rfl ?_
                  exact ih_li (i + 1) _ _ _ (by omega) (by omega) (by first | exact hF | (rw [List.length_set]; exact hF)) (by first | exact hQ | exact lnq_push hQ hlt hvm) (by first | exact hqk | (rw [List.getElem?_append_left hkQ]; exact hqk)) hs
          exact li 7 0 F Q Qv (by have := rot_le (n := n) (g := g) (r := q) (t := false); omega) (by omega) hF hQ hqk (by rw [List.drop_zero]; exact hsw)
        have hqv := (hQ.2.2 k q hqk).1
        have hkQ := (List.getElem?_eq_some_iff.mp hqk).1
        have hQl := hQ.2.1
        have hv2 : kV c n (qG (au a 70 (cI 0 (List.replicate 120 (-1)))) X F Qv) := hv.u hO rfl rfl rfl
        have ht3 := hv2
        refine xj_iload dX7_apartOf_43 rfl ?_
        refine xj_ic2 dX7_apartOf_45 ?_
        refine xj_icmp_ge (tgt := 155) dX7_apartOf_46 rfl (fun c46 => absurd c46 (by decide)) (fun c46 => ?_)
        refine xj_aload_n dX7_apartOf_49 rfl rfl ?_
        refine xj_aload_n dX7_apartOf_50 rfl rfl ?_
        refine xj_get dX7_apartOf_51 K7 32 (by decide) q1961 (kG_a (by decide) hO) rfl ?_
        refine xj_iload dX7_apartOf_54 rfl ?_
        refine xj_iald dX7_apartOf_56 (kG_a (by decide) rfl) rfl (by omega) hqv ?_
        refine xj_iload dX7_apartOf_57 rfl ?_
        refine xj_top (show nI 0 = b1 (!true) from rfl) ?_
        refine xj_dV dX7_apartOf_59 q2394 kV_X7_turnsTo (M_turnsTo (t := true) hv2.V (kA.A (show kA n (qG (au a 70 (cI 0 (List.replicate 120 (-1)))) X F Qv) from ha.u rfl rfl rfl)) hf3 hg hqm (kG_a (by decide) rfl) hX) (kG_a (by decide) hO) rfl rfl rfl rfl (Nat.le_of_ble_eq_true rfl) ⟨(Nat.le_of_ble_eq_true rfl), (Nat.le_of_ble_eq_true rfl)⟩ (Nat.le_of_ble_eq_true rfl) (Nat.le_of_ble_eq_true rfl) ?_
        rintro _ _ ⟨rfl, X, hX, hlk, rfl⟩
        have hrl := rot_le (n := n) (g := g) (r := q) (t := true)
        refine xj_eq rfl rfl ((kG_set (by decide)).trans (congrArg (fun z => kG z T) qG_68)) ?_
        refine xj_ist6 dX7_apartOf_62 rfl ?_
        refine xj_ic0 dX7_apartOf_64 ?_
        refine xj_ist7 dX7_apartOf_65 rfl ?_
        have li : ∀ (K : Nat) (i : Nat) (F : List Int32) (Q : List Nat) (Qv : List Int32), (rot n g q true).length - i < K → (i ≤ (rot n g q true).length) → (F.length = 120) → (lnq Qv Q n) → (Q[k]? = some q) → (apV n q ((rot n g q true).drop i) (F, Q) = some (F1, Q1)) → xJ E (yX7_apartOf, cX7_apartOf, 8, (some FieldType.int), []) (xR 6 0 0) (kR (some (.int v)) T (fun b => kfr [68, 69, 70, 71] a b ∧ ∃ X F W Q : List Int32, b 68 = cI 0 X ∧ b 69 = cI 0 F ∧ b 70 = cI 0 W ∧ b 71 = cI 0 Q ∧ X.length = 6 ∧ F.length = 120 ∧ W.length = 120 ∧ Q.length = 120)) 0 0 67 [some (.ref 54), some (.int (nI a0)), some (.int (nI b0)), some (.int (nI Q.length)), some (.int (nI k)), some (.int (nI 0)), some (.int (nI (rot n g q true).length)), some (.int (nI i))] [] (kG (qG (au a 70 (cI 0 (List.replicate 120 (-1)))) X F Qv) T) := by
          intro K
          induction K with
          | zero => intro i F Q Qv h; exact absurd h (Nat.not_lt_zero _)
          | succ K ih_li =>
            intro i F Q Qv hK hi hF hQ hqk hs
            refine xj_iload dX7_apartOf_67 rfl ?_
            refine xj_iload dX7_apartOf_69 rfl ?_
            refine xj_icmp_ge (tgt := 149) dX7_apartOf_71 rfl (fun c71 => ?_) (fun c71 => ?_)
            · have hil : i = (rot n g q true).length := by have := Nat.le_of_not_lt fun h => absurd c71 (nI_ge h (by omega)); omega
              rw [hil, List.drop_length] at hs
              have hs : some (F, Q) = some (F1, Q1) := hs
              cases hs
              refine xj_iinc5 (cst := 1) dX7_apartOf_149 rfl rfl ?_
              rw [nI_1]
              refine xj_goto (tgt := 43) dX7_apartOf_152 rfl ?_
              exact xj_fg6 (xj_fg7 (hw1 X F1 Q1 Qv hX hF hQ hqk hap))
            · have hil : i < (rot n g q true).length := Nat.lt_of_not_le fun h => c71 (nI_le h (by omega))
              obtain ⟨v, hvi⟩ : ∃ v, (rot n g q true)[i]? = some v := ⟨_, List.getElem?_eq_getElem hil⟩
              have hvm : v ∈ rws n := rot_mem (by omega) hqm v (List.mem_of_getElem? hvi)
              have hXi := hlk i v hvi
              have hdr : (rot n g q true).drop i = v :: (rot n g q true).drop (i + 1) := by rw [List.drop_eq_getElem_cons hil]; congr 1; exact Option.some.inj ((List.getElem?_eq_getElem hil).symm.trans hvi)
              rw [hdr] at hs
              have hs : (match apS n q v (F, Q) with | none => none | some s' => apV n q ((rot n g q true).drop (i + 1)) s') = some (F1, Q1) := hs
              have hv31 := R31 (by omega) hvm
              have hq31 := R31 (by omega) hqm
              have hrk := f_rk5 n (by omega) v hvm
              have hrq := f_rk5 n (by omega) q hqm
              have hkQ := (List.getElem?_eq_some_iff.mp hqk).1
              have hQl := hQ.2.1
              have hQvl := hQ.1
              have hqv := (hQ.2.2 k q hqk).1
              have hv2 : kV c n (qG (au a 70 (cI 0 (List.replicate 120 (-1)))) X F Qv) := hv.u hO rfl rfl rfl
              refine xj_aload_n dX7_apartOf_74 rfl rfl ?_
              refine xj_get dX7_apartOf_75 K7 30 (by decide) q1959 (kG_a (by decide) hO) rfl ?_
              refine xj_aload_n dX7_apartOf_78 rfl rfl ?_
              refine xj_aload_n dX7_apartOf_79 rfl rfl ?_
              refine xj_get dX7_apartOf_80 K7 29 (by decide) q1958 (kG_a (by decide) hO) rfl ?_
              refine xj_iload dX7_apartOf_83 rfl ?_
              refine xj_iald dX7_apartOf_85 (kG_a (by decide) rfl) rfl (by omega) hXi ?_
              refine xj_cV dX7_apartOf_86 q2148 kV_X7_rank (M_rank hv2.V hv31) (kG_a (by decide) hO) rfl rfl rfl rfl (Nat.le_of_ble_eq_true rfl) ⟨(Nat.le_of_ble_eq_true rfl), (Nat.le_of_ble_eq_true rfl)⟩ (Nat.le_of_ble_eq_true rfl) (Nat.le_of_ble_eq_true rfl) ?_
              refine xj_iald dX7_apartOf_89 (kG_a (by decide) rfl) rfl (by omega) (gD_at (by omega)) ?_
              refine xj_if_ge (tgt := 143) dX7_apartOf_90 rfl (fun c90 => ?_) (fun c90 => ?_)
              · first | rw [nI_1, show nI (Q.length + 1) = nI (Q ++ [v]).length by rw [List.length_append]; rfl] | rw [show apS n q v (F, Q) = some (F, Q) by unfold apS; rw [if_neg (i32_nlt0 c90)]] at hs
                refine xj_iinc7 (cst := 1) dX7_apartOf_143 rfl rfl ?_
                rw [nI_1]
                refine xj_goto (tgt := 67) dX7_apartOf_146 rfl ?_
                exact ih_li (i + 1) _ _ _ (by omega) (by omega) (by first | exact hF | (rw [List.length_set]; exact hF)) (by first | exact hQ | exact lnq_push hQ hlt hvm) (by first | exact hqk | (rw [List.getElem?_append_left hkQ]; exact hqk)) hs
              · have hneg : F.getD (rk n v) 0 < 0 := i32_lt0 c90
                have hlt : Q.length < 120 := Classical.byContradiction fun h => by
                  unfold apS at hs
                  rw [if_pos hneg, if_neg h] at hs
                  cases hs
                rw [show apS n q v (F, Q) = some (F.set (rk n v) (F.getD (rk n q) 0 + 1), Q ++ [v]) by unfold apS; rw [if_pos hneg, if_pos hlt]] at hs
                refine xj_aload_n dX7_apartOf_93 rfl rfl ?_
                refine xj_get dX7_apartOf_94 K7 30 (by decide) q1959 (kG_a (by decide) hO) rfl ?_
                refine xj_aload_n dX7_apartOf_97 rfl rfl ?_
                refine xj_aload_n dX7_apartOf_98 rfl rfl ?_
                refine xj_get dX7_apartOf_99 K7 29 (by decide) q1958 (kG_a (by decide) hO) rfl ?_
                refine xj_iload dX7_apartOf_102 rfl ?_
                refine xj_iald dX7_apartOf_104 (kG_a (by decide) rfl) rfl (by omega) hXi ?_
                refine xj_cV dX7_apartOf_105 q2148 kV_X7_rank (M_rank hv2.V hv31) (kG_a (by decide) hO) rfl rfl rfl rfl (Nat.le_of_ble_eq_true rfl) ⟨(Nat.le_of_ble_eq_true rfl), (Nat.le_of_ble_eq_true rfl)⟩ (Nat.le_of_ble_eq_true rfl) (Nat.le_of_ble_eq_true rfl) ?_
                refine xj_aload_n dX7_apartOf_108 rfl rfl ?_
                refine xj_get dX7_apartOf_109 K7 30 (by decide) q1959 (kG_a (by decide) hO) rfl ?_
                refine xj_aload_n dX7_apartOf_112 rfl rfl ?_
                refine xj_aload_n dX7_apartOf_113 rfl rfl ?_
                refine xj_get dX7_apartOf_114 K7 32 (by decide) q1961 (kG_a (by decide) hO) rfl ?_
                refine xj_iload dX7_apartOf_117 rfl ?_
                refine xj_iald dX7_apartOf_119 (kG_a (by decide) rfl) rfl (by omega) hqv ?_
                refine xj_cV dX7_apartOf_120 q2148 kV_X7_rank (M_rank hv2.V hq31) (kG_a (by decide) hO) rfl rfl rfl rfl (Nat.le_of_ble_eq_true rfl) ⟨(Nat.le_of_ble_eq_true rfl), (Nat.le_of_ble_eq_true rfl)⟩ (Nat.le_of_ble_eq_true rfl) (Nat.le_of_ble_eq_true rfl) ?_
                refine xj_iald dX7_apartOf_123 (kG_a (by decide) rfl) rfl (by omega) (gD_at (by omega)) ?_
                refine xj_ic1 dX7_apartOf_124 ?_
                refine xj_iadd dX7_apartOf_125 ?_
                refine xj_iast dX7_apartOf_126 (kG_a (by decide) rfl) rfl (by omega) (by omega) ?_
                refine xj_eq rfl rfl (kG_set (by decide)) ?_
                rw [qG_69]
                refine xj_aload_n dX7_apartOf_127 rfl rfl ?_
                refine xj_get dX7_apartOf_128 K7 32 (by decide) q1961 (kG_a (by decide) hO) rfl ?_
                refine xj_iload_n dX7_apartOf_131 rfl ?_
                refine xj_aload_n dX7_apartOf_132 rfl rfl ?_
                refine xj_get dX7_apartOf_133 K7 29 (by decide) q1958 (kG_a (by decide) hO) rfl ?_
                refine xj_iload dX7_apartOf_136 rfl ?_
                refine xj_iald dX7_apartOf_138 (kG_a (by decide) rfl) rfl (by omega) hXi ?_
                refine xj_iast dX7_apartOf_139 (kG_a (by decide) rfl) rfl (by omega) (by omega) ?_
                refine xj_eq rfl rfl (kG_set (by decide)) ?_
                rw [qG_71]
                refine xj_iinc3 (cst := 1) dX7_apartOf_140 rfl rfl ?_
                first | rw [nI_1, show nI (Q.length + 1) = nI (Q ++ [v]).length by rw [List.length_append]; rfl] | rw [show apS n q v (F, Q) = some (F, Q) by unfold apS; rw [if_neg (i32_nlt0 c90)]] at hs
                refine xj_iinc7 (cst := 1) dX7_apartOf_143 rfl rfl ?_
                rw [nI_1]
                refine xj_goto (tgt := 67) dX7_apartOf_146 rfl ?_
                exact ih_li (i + 1) _ _ _ (by omega) (by omega) (by first | exact hF | (rw [List.length_set]; exact hF)) (by first | exact hQ | exact lnq_push hQ hlt hvm) (by first | exact hqk | (rw [List.getElem?_append_left hkQ]; exact hqk)) hs
        exact li 7 0 F Q Qv (by have := rot_le (n := n) (g := g) (r := q) (t := true); omega) (by omega) hF hQ hqk (by rw [List.drop_zero]; exact hv1)
  exact lp 121 0 ((List.replicate 120 (-1)).set (rk n a0) 0) [a0] X0 (Q0.set 0 (nI a0)) hX0 (by rw [List.length_set, List.length_replicate]) ⟨by rw [List.length_set]; exact hQ0, by show 1 ≤ 120; decide, fun i x hx => by
    cases i with
    | zero => cases hx; exact ⟨List.getElem?_set_self (by omega), ha0⟩
    | succ i => cases hx⟩ hap0
end M21
