/-! ===== the reference: the text (2) ===== -/
set_option maxRecDepth 100000
theorem kV_X7_value : xsV yX7_value cX7_value 3 none 0 := ⟨q2319, qs114, q161, q2320, by decide, by decide, by decide +kernel⟩
theorem pVal_b {tp : List Nat} {e : Nat} {q : Int32 × Nat} (h : pVal tp e = .inr q) : q.2 = nxT tp e ∧ nxF tp e < tp.length := by
  unfold pVal at h
  split at h
  · rename_i hc
    cases h
    refine ⟨rfl, ?_⟩
    by_cases he : e ≤ tp.length
    · exact fct_lt he hc
    · exfalso
      have h0 : ∀ k, k < 13 → isW tp e k = false := fun k hk => by
        have h1 : nxF tp e = e := by unfold nxF; rw [show tp.length - e = 0 by omega]; rfl
        have h2 : tok tp e = [] := by unfold tok; rw [h1, List.drop_eq_nil_of_le (by omega), List.take_nil]
        unfold isW
        rw [h2, beq_eq_false_iff_ne]
        intro q
        have := congrArg List.length q
        have h3 := (f_wl k hk).2
        rw [← this] at h3
        exact absurd h3 (by decide)
      unfold fct at hc
      rw [h0 0 (by decide), h0 1 (by decide), h0 2 (by decide), h0 3 (by decide), h0 4 (by decide)] at hc
      exact absurd hc (by decide)
  · split at h
    · rename_i hc
      cases h
      refine ⟨rfl, ?_⟩
      unfold numB at hc
      rw [Bool.and_eq_true, decide_eq_true_eq] at hc
      exact hc.1
    · cases h
theorem sgn_lt {tp : List Nat} {e : Nat} (he : e ≤ tp.length) (h : ¬ sgn tp e = 0) : nxF tp e < tp.length := by
  have key : ∀ k, k < 13 → isW tp e k = true → nxF tp e < tp.length := fun k hk hw => by
    have h1 := isW_len he hw
    have h2 := (f_wl k hk).2
    have := nxT_b he
    omega
  unfold sgn at h
  split at h
  · exact key 10 (by decide) (by assumption)
  · split at h
    · exact key 11 (by decide) (by assumption)
    · split at h
      · exact key 12 (by decide) (by assumption)
      · exact absurd rfl h
section M25
variable {E : xE} {G T : xH} {a : Nat → xC} {c : Nat → Value} {n : Nat}
theorem M_compared {tp : List Nat} {e o : Nat} {cl : List Int32}  (hT : kT tp c a) (he : e ≤ tp.length) (hcl : cl.length ≤ e) (htx0 : tx tp c (nxF tp e) (nxT tp e) cl o false a) : xMet E yX7_compared cX7_compared 2 none 7 0 0 [.ref 54] (kG a T) (kR (none) T (fun b => kfr [54, 66] a b ∧ txP tp c cl o e (pCmp tp e) b)) := by
  obtain ⟨hf23, L65, h65, htL⟩ := id hT
  have hL200 := htL.1
  have htp := htL.2.1
  obtain ⟨c0, Cd0, hO0, hf0, ht0, hk0, ho0, hw0, h66_0, hC0, hl0, hcl0, hcc0⟩ := id htx0
  refine xMet.of (lv := [some (.ref 54), none]) rfl rfl (Nat.le_of_ble_eq_true rfl) ?_
  refine xj_aload_n dX7_compared_0 rfl rfl ?_
  refine xj_dV dX7_compared_1 q2317 kV_X7_value (M_value hT he hcl htx0) (kG_a (by decide) hO0) rfl rfl rfl rfl (Nat.le_of_ble_eq_true rfl) ⟨(Nat.le_of_ble_eq_true rfl), (Nat.le_of_ble_eq_true rfl)⟩ (Nat.le_of_ble_eq_true rfl) (Nat.le_of_ble_eq_true rfl) ?_
  rintro _ _ ⟨rfl, b1_, rfl, hfr1, hvv⟩
  cases hpv : pVal tp e with
  | inl p =>
    rw [hpv] at hvv
    obtain ⟨t1, cl1, o1, htx1, hB1⟩ := hvv
    obtain ⟨c1, Cd1, hO1, hf1, ht1, hk1, ho1, hw1, h66_1, hC1, hl1, hcl1, hcc1⟩ := id htx1
    refine xj_aload_n dX7_compared_4 rfl rfl ?_
    refine xj_get dX7_compared_5 K7 28 (by decide) q1957 (kG_a (by decide) hO1) (congrArg some hw1) ?_
    refine xj_if_eq (tgt := 12) dX7_compared_8 rfl (fun c8 => absurd c8 (by decide)) (fun c8 => ?_)
    exact xj_return dX7_compared_11 rfl (kR_v ⟨hfr1, by rw [show pCmp tp e = .inl p by unfold pCmp; rw [hpv]]; exact ⟨t1, cl1, o1, htx1, by omega⟩⟩)
  | inr q =>
    rw [hpv] at hvv
    have htx1 := hvv
    have hpb := pVal_b hpv
    have hnb0 := nxT_b he
    have hnf0 := nxF_b he
    have hlt0 := nxT_lt hpb.2
    have hnb1 := nxT_b (tp := tp) (e := q.2) (by omega)
    have hnf1 := nxF_b (tp := tp) (e := q.2) (by omega)
    obtain ⟨c1, Cd1, hO1, hf1, ht1, hk1, ho1, hw1, h66_1, hC1, hl1, hcl1, hcc1⟩ := id htx1
    refine xj_aload_n dX7_compared_4 rfl rfl ?_
    refine xj_get dX7_compared_5 K7 28 (by decide) q1957 (kG_a (by decide) hO1) (congrArg some hw1) ?_
    refine xj_if_eq (tgt := 12) dX7_compared_8 rfl (fun c8 => ?_) (fun c8 => absurd rfl c8)
    refine xj_aload_n dX7_compared_12 rfl rfl ?_
    refine xj_ldcSw (u := 10) dX7_compared_13 (List.mem_of_getElem? (i := 18) rfl) ?_
    refine xj_cV dX7_compared_16 q2305 kV_X7_is (M_is (u := 10) (hT.u (c' := c) (b := b1_) rfl (hfr1 65 (by decide))) (by decide) (by omega) htx1) (kG_a (by decide) hO1) rfl rfl rfl rfl (Nat.le_of_ble_eq_true rfl) ⟨(Nat.le_of_ble_eq_true rfl), (Nat.le_of_ble_eq_true rfl)⟩ (Nat.le_of_ble_eq_true rfl) (Nat.le_of_ble_eq_true rfl) ?_
    refine xj_if_eq (tgt := 27) dX7_compared_19 rfl (fun c19 => ?_) (fun c19 => ?_)
    · refine xj_aload_n dX7_compared_27 rfl rfl ?_
      refine xj_ldcSw (u := 11) dX7_compared_28 (List.mem_of_getElem? (i := 19) rfl) ?_
      refine xj_cV dX7_compared_31 q2305 kV_X7_is (M_is (u := 11) (hT.u (c' := c) (b := b1_) rfl (hfr1 65 (by decide))) (by decide) (by omega) htx1) (kG_a (by decide) hO1) rfl rfl rfl rfl (Nat.le_of_ble_eq_true rfl) ⟨(Nat.le_of_ble_eq_true rfl), (Nat.le_of_ble_eq_true rfl)⟩ (Nat.le_of_ble_eq_true rfl) (Nat.le_of_ble_eq_true rfl) ?_
      refine xj_if_eq (tgt := 42) dX7_compared_34 rfl (fun c34 => ?_) (fun c34 => ?_)
      · refine xj_aload_n dX7_compared_42 rfl rfl ?_
        refine xj_ldcSw (u := 12) dX7_compared_43 (List.mem_of_getElem? (i := 20) rfl) ?_
        refine xj_cV dX7_compared_46 q2305 kV_X7_is (M_is (u := 12) (hT.u (c' := c) (b := b1_) rfl (hfr1 65 (by decide))) (by decide) (by omega) htx1) (kG_a (by decide) hO1) rfl rfl rfl rfl (Nat.le_of_ble_eq_true rfl) ⟨(Nat.le_of_ble_eq_true rfl), (Nat.le_of_ble_eq_true rfl)⟩ (Nat.le_of_ble_eq_true rfl) (Nat.le_of_ble_eq_true rfl) ?_
        refine xj_if_eq (tgt := 57) dX7_compared_49 rfl (fun c49 => ?_) (fun c49 => ?_)
        · refine xj_ic0 dX7_compared_57 ?_
          refine xj_top (y := sgn tp q.2) (by unfold sgn; first | (rw [if_pos (show isW tp q.2 10 = true from b1_nz c19)]; done) | (rw [if_neg (show ¬ isW tp q.2 10 = true by rw [show isW tp q.2 10 = false from b1_z c19]; decide), if_pos (show isW tp q.2 11 = true from b1_nz c34)]; done) | (rw [if_neg (show ¬ isW tp q.2 10 = true by rw [show isW tp q.2 10 = false from b1_z c19]; decide), if_neg (show ¬ isW tp q.2 11 = true by rw [show isW tp q.2 11 = false from b1_z c34]; decide), if_pos (show isW tp q.2 12 = true from b1_nz c49)]; done) | (rw [if_neg (show ¬ isW tp q.2 10 = true by rw [show isW tp q.2 10 = false from b1_z c19]; decide), if_neg (show ¬ isW tp q.2 11 = true by rw [show isW tp q.2 11 = false from b1_z c34]; decide), if_neg (show ¬ isW tp q.2 12 = true by rw [show isW tp q.2 12 = false from b1_z c49]; decide)]; done)) ?_
          refine xj_istn1 dX7_compared_58 rfl ?_
          refine xj_aload_n dX7_compared_59 rfl rfl ?_
          refine xj_iload_n dX7_compared_60 rfl ?_
          by_cases hz : sgn tp q.2 = 0
          · refine xj_if_ne (tgt := 68) dX7_compared_61 rfl (fun c61 => absurd hz c61) (fun c61 => ?_)
            refine xj_ic1 dX7_compared_64 ?_
            refine xj_goto (tgt := 69) dX7_compared_65 rfl ?_
            refine xj_put dX7_compared_69 K7 28 (by decide) q1957 rfl rfl (kG_a (by decide) hO1) (Nat.le_of_ble_eq_true rfl) ?_
            refine xj_eq rfl rfl (kG_set (by decide)) ?_
            refine xj_aload_n dX7_compared_72 rfl rfl ?_
            refine xj_get dX7_compared_73 K7 28 (by decide) q1957 (kG_a (by decide) rfl) rfl ?_
            refine xj_if_eq (tgt := 80) dX7_compared_76 rfl (fun c76 => absurd c76 (by decide)) (fun c76 => ?_)
            exact xj_return dX7_compared_79 rfl (kR_v ⟨hfr1.au (by decide), by rw [show pCmp tp e = .inl (nxF tp q.2) by unfold pCmp; rw [hpv]; show (if sgn tp q.2 = 0 then _ else _) = _; rw [if_pos hz]]; exact ⟨nxT tp q.2, cl ++ [q.1], o, ⟨cu c1 28 (.int (b1 true)), Cd1, rfl, hf1, ht1, hk1, ho1, rfl, h66_1, hC1, hl1, hcl1, fun j h1 h2 h3 h4 h5 => by unfold cu; rw [if_neg h5]; exact hcc1 j h1 h2 h3 h4 h5⟩, by rw [List.length_append, List.length_singleton]; omega⟩⟩)
          · refine xj_if_ne (tgt := 68) dX7_compared_61 rfl (fun c61 => ?_) (fun c61 => absurd c61 hz)
            refine xj_ic0 dX7_compared_68 ?_
            refine xj_put dX7_compared_69 K7 28 (by decide) q1957 rfl rfl (kG_a (by decide) hO1) (Nat.le_of_ble_eq_true rfl) ?_
            refine xj_eq rfl rfl (kG_set (by decide)) ?_
            refine xj_aload_n dX7_compared_72 rfl rfl ?_
            refine xj_get dX7_compared_73 K7 28 (by decide) q1957 (kG_a (by decide) rfl) rfl ?_
            refine xj_if_eq (tgt := 80) dX7_compared_76 rfl (fun c76 => ?_) (fun c76 => absurd rfl c76)
            have htx2 : tx tp c (nxF tp q.2) (nxT tp q.2) (cl ++ [q.1]) o false (au b1_ 54 (cO 7 (mFs (cu c1 28 (.int (b1 false)))))) := ⟨cu c1 28 (.int (b1 false)), Cd1, rfl, hf1, ht1, hk1, ho1, rfl, h66_1, hC1, hl1, hcl1, fun j h1 h2 h3 h4 h5 => by unfold cu; rw [if_neg h5]; exact hcc1 j h1 h2 h3 h4 h5⟩
            have hT1 := hT.u (c' := c) (b := b1_) rfl (hfr1 65 (by decide))
            refine xj_aload_n dX7_compared_80 rfl rfl ?_
            refine xj_dV dX7_compared_81 q2282 kV_X7_next (M_next (hT1.u rfl rfl) hnb1.2 htx2) (kG_a (by decide) rfl) rfl rfl rfl rfl (Nat.le_of_ble_eq_true rfl) ⟨(Nat.le_of_ble_eq_true rfl), (Nat.le_of_ble_eq_true rfl)⟩ (Nat.le_of_ble_eq_true rfl) (Nat.le_of_ble_eq_true rfl) ?_
            rintro _ _ ⟨rfl, b3, rfl, hfr3, htx3⟩
            have hO3 : ∃ x, b3 54 = cO 7 (mFs x) := ⟨_, htx3.choose_spec.choose_spec.1⟩
            obtain ⟨x3, hO3⟩ := hO3
            refine xj_aload_n dX7_compared_84 rfl rfl ?_
            refine xj_dV dX7_compared_85 q2317 kV_X7_value (M_value (hT1.u rfl (hfr3 65 (by decide))) (by omega) (by rw [List.length_append, List.length_singleton]; omega) htx3) (kG_a (by decide) hO3) rfl rfl rfl rfl (Nat.le_of_ble_eq_true rfl) ⟨(Nat.le_of_ble_eq_true rfl), (Nat.le_of_ble_eq_true rfl)⟩ (Nat.le_of_ble_eq_true rfl) (Nat.le_of_ble_eq_true rfl) ?_
            rintro _ _ ⟨rfl, b4, rfl, hfr4, hvv2⟩
            have hl2 : (cl ++ [q.1]).length = cl.length + 1 := by simp
            cases hpv2 : pVal tp (nxT tp q.2) with
            | inl p =>
              rw [hpv2] at hvv2
              obtain ⟨t4, cl4, o4, htx4, hB4⟩ := hvv2
              obtain ⟨c4, Cd4, hO4, hf4, ht4, hk4, ho4, hw4, h66_4, hC4, hl4, hcl4, hcc4⟩ := id htx4
              refine xj_aload_n dX7_compared_88 rfl rfl ?_
              refine xj_get dX7_compared_89 K7 28 (by decide) q1957 (kG_a (by decide) hO4) (congrArg some hw4) ?_
              refine xj_if_ne (tgt := 115) dX7_compared_92 rfl (fun c92 => ?_) (fun c92 => absurd c92 (by decide))
              exact xj_return dX7_compared_115 rfl (kR_v ⟨(hfr1.trans ((((kfr.refl _ _).au (by decide) : kfr [54] b1_ _)).trans hfr3 (fun _ h => h)) (by decide)).trans hfr4 (fun _ h => h), by rw [show pCmp tp e = .inl p by unfold pCmp; rw [hpv]; show (if sgn tp q.2 = 0 then _ else _) = _; rw [if_neg hz, hpv2]]; exact ⟨t4, cl4, o4, htx4, by rw [List.length_append, List.length_singleton] at hB4; omega⟩⟩)
            | inr q2 =>
              rw [hpv2] at hvv2
              have htx4 := hvv2
              have hpb2 := pVal_b hpv2
              have hnb3 := nxT_b (tp := tp) (e := nxT tp q.2) (by omega)
              have hlt3 := nxT_lt hpb2.2
              have hnf3 := nxF_b (tp := tp) (e := nxT tp q.2) (by omega)
              have hlt1 := nxT_lt (sgn_lt (tp := tp) (e := q.2) (by omega) hz)
              obtain ⟨c4, Cd4, hO4, hf4, ht4, hk4, ho4, hw4, h66_4, hC4, hl4, hcl4, hcc4⟩ := id htx4
              have hl5 : (cl ++ [q.1] ++ [q2.1]).length = cl.length + 2 := by simp
              refine xj_aload_n dX7_compared_88 rfl rfl ?_
              refine xj_get dX7_compared_89 K7 28 (by decide) q1957 (kG_a (by decide) hO4) (congrArg some hw4) ?_
              refine xj_if_ne (tgt := 115) dX7_compared_92 rfl (fun c92 => absurd rfl c92) (fun c92 => ?_)
              refine xj_aload_n dX7_compared_95 rfl rfl ?_
              refine xj_get dX7_compared_96 K7 21 (by decide) q1950 (kG_a (by decide) hO4) rfl ?_
              refine xj_aload_n dX7_compared_99 rfl rfl ?_
              refine xj_get dX7_compared_100 K7 26 (by decide) q1955 (kG_a (by decide) hO4) (congrArg some hk4) ?_
              refine xj_iload_n dX7_compared_103 rfl ?_
              refine xj_iast dX7_compared_104 (kG_a (by decide) h66_4) rfl (by omega) (by omega) ?_
              refine xj_eq rfl rfl (kG_set (by decide)) ?_
              refine xj_aload_n dX7_compared_105 rfl rfl ?_
              refine xj_dup dX7_compared_106 rfl ?_
              refine xj_get dX7_compared_107 K7 26 (by decide) q1955 (kG_a (by decide) hO4) (congrArg some hk4) ?_
              refine xj_ic1 dX7_compared_110 ?_
              refine xj_iadd dX7_compared_111 ?_
              rw [nI_1]
              refine xj_put dX7_compared_112 K7 26 (by decide) q1955 rfl rfl (kG_a (by decide) hO4) (Nat.le_of_ble_eq_true rfl) ?_
              refine xj_eq rfl rfl (kG_set (by decide)) ?_
              exact xj_return dX7_compared_115 rfl (kR_v ⟨(((hfr1.trans ((((kfr.refl _ _).au (by decide) : kfr [54] b1_ _)).trans hfr3 (fun _ h => h)) (by decide)).trans hfr4 (fun _ h => h)).au (by decide)).au (by decide), by rw [show pCmp tp e = .inr ([q.1, q2.1, sgn tp q.2], q2.2) by unfold pCmp; rw [hpv]; show (if sgn tp q.2 = 0 then _ else _) = _; rw [if_neg hz, hpv2]]; exact ⟨cu c4 26 (.int (nI ((cl ++ [q.1] ++ [q2.1]).length + 1))), _, rfl, hf4, ht4, (show (Value.int (nI ((cl ++ [q.1] ++ [q2.1]).length + 1))) = .int (nI (cl ++ [q.1, q2.1, sgn tp q.2]).length) by simp), ho4, hw4, rfl, by rw [List.length_set]; exact hC4, by rw [List.length_append]; show cl.length + 3 ≤ 200; omega, by have := cd_push (v := sgn tp q.2) hcl4 (by omega); simpa using this, fun j h1 h2 h3 h4 h5 => by unfold cu; rw [if_neg h3]; exact hcc4 j h1 h2 h3 h4 h5⟩⟩)
        · refine xj_bipush (v := -8) dX7_compared_52 rfl ?_
          refine xj_goto (tgt := 58) dX7_compared_54 rfl ?_
          refine xj_top (y := sgn tp q.2) (by unfold sgn; first | (rw [if_pos (show isW tp q.2 10 = true from b1_nz c19)]; done) | (rw [if_neg (show ¬ isW tp q.2 10 = true by rw [show isW tp q.2 10 = false from b1_z c19]; decide), if_pos (show isW tp q.2 11 = true from b1_nz c34)]; done) | (rw [if_neg (show ¬ isW tp q.2 10 = true by rw [show isW tp q.2 10 = false from b1_z c19]; decide), if_neg (show ¬ isW tp q.2 11 = true by rw [show isW tp q.2 11 = false from b1_z c34]; decide), if_pos (show isW tp q.2 12 = true from b1_nz c49)]; done) | (rw [if_neg (show ¬ isW tp q.2 10 = true by rw [show isW tp q.2 10 = false from b1_z c19]; decide), if_neg (show ¬ isW tp q.2 11 = true by rw [show isW tp q.2 11 = false from b1_z c34]; decide), if_neg (show ¬ isW tp q.2 12 = true by rw [show isW tp q.2 12 = false from b1_z c49]; decide)]; done)) ?_
          refine xj_istn1 dX7_compared_58 rfl ?_
          refine xj_aload_n dX7_compared_59 rfl rfl ?_
          refine xj_iload_n dX7_compared_60 rfl ?_
          by_cases hz : sgn tp q.2 = 0
          · refine xj_if_ne (tgt := 68) dX7_compared_61 rfl (fun c61 => absurd hz c61) (fun c61 => ?_)
            refine xj_ic1 dX7_compared_64 ?_
            refine xj_goto (tgt := 69) dX7_compared_65 rfl ?_
            refine xj_put dX7_compared_69 K7 28 (by decide) q1957 rfl rfl (kG_a (by decide) hO1) (Nat.le_of_ble_eq_true rfl) ?_
            refine xj_eq rfl rfl (kG_set (by decide)) ?_
            refine xj_aload_n dX7_compared_72 rfl rfl ?_
            refine xj_get dX7_compared_73 K7 28 (by decide) q1957 (kG_a (by decide) rfl) rfl ?_
            refine xj_if_eq (tgt := 80) dX7_compared_76 rfl (fun c76 => absurd c76 (by decide)) (fun c76 => ?_)
            exact xj_return dX7_compared_79 rfl (kR_v ⟨hfr1.au (by decide), by rw [show pCmp tp e = .inl (nxF tp q.2) by unfold pCmp; rw [hpv]; show (if sgn tp q.2 = 0 then _ else _) = _; rw [if_pos hz]]; exact ⟨nxT tp q.2, cl ++ [q.1], o, ⟨cu c1 28 (.int (b1 true)), Cd1, rfl, hf1, ht1, hk1, ho1, rfl, h66_1, hC1, hl1, hcl1, fun j h1 h2 h3 h4 h5 => by unfold cu; rw [if_neg h5]; exact hcc1 j h1 h2 h3 h4 h5⟩, by rw [List.length_append, List.length_singleton]; omega⟩⟩)
          · refine xj_if_ne (tgt := 68) dX7_compared_61 rfl (fun c61 => ?_) (fun c61 => absurd c61 hz)
            refine xj_ic0 dX7_compared_68 ?_
            refine xj_put dX7_compared_69 K7 28 (by decide) q1957 rfl rfl (kG_a (by decide) hO1) (Nat.le_of_ble_eq_true rfl) ?_
            refine xj_eq rfl rfl (kG_set (by decide)) ?_
            refine xj_aload_n dX7_compared_72 rfl rfl ?_
            refine xj_get dX7_compared_73 K7 28 (by decide) q1957 (kG_a (by decide) rfl) rfl ?_
            refine xj_if_eq (tgt := 80) dX7_compared_76 rfl (fun c76 => ?_) (fun c76 => absurd rfl c76)
            have htx2 : tx tp c (nxF tp q.2) (nxT tp q.2) (cl ++ [q.1]) o false (au b1_ 54 (cO 7 (mFs (cu c1 28 (.int (b1 false)))))) := ⟨cu c1 28 (.int (b1 false)), Cd1, rfl, hf1, ht1, hk1, ho1, rfl, h66_1, hC1, hl1, hcl1, fun j h1 h2 h3 h4 h5 => by unfold cu; rw [if_neg h5]; exact hcc1 j h1 h2 h3 h4 h5⟩
            have hT1 := hT.u (c' := c) (b := b1_) rfl (hfr1 65 (by decide))
            refine xj_aload_n dX7_compared_80 rfl rfl ?_
            refine xj_dV dX7_compared_81 q2282 kV_X7_next (M_next (hT1.u rfl rfl) hnb1.2 htx2) (kG_a (by decide) rfl) rfl rfl rfl rfl (Nat.le_of_ble_eq_true rfl) ⟨(Nat.le_of_ble_eq_true rfl), (Nat.le_of_ble_eq_true rfl)⟩ (Nat.le_of_ble_eq_true rfl) (Nat.le_of_ble_eq_true rfl) ?_
            rintro _ _ ⟨rfl, b3, rfl, hfr3, htx3⟩
            have hO3 : ∃ x, b3 54 = cO 7 (mFs x) := ⟨_, htx3.choose_spec.choose_spec.1⟩
            obtain ⟨x3, hO3⟩ := hO3
            refine xj_aload_n dX7_compared_84 rfl rfl ?_
            refine xj_dV dX7_compared_85 q2317 kV_X7_value (M_value (hT1.u rfl (hfr3 65 (by decide))) (by omega) (by rw [List.length_append, List.length_singleton]; omega) htx3) (kG_a (by decide) hO3) rfl rfl rfl rfl (Nat.le_of_ble_eq_true rfl) ⟨(Nat.le_of_ble_eq_true rfl), (Nat.le_of_ble_eq_true rfl)⟩ (Nat.le_of_ble_eq_true rfl) (Nat.le_of_ble_eq_true rfl) ?_
            rintro _ _ ⟨rfl, b4, rfl, hfr4, hvv2⟩
            have hl2 : (cl ++ [q.1]).length = cl.length + 1 := by simp
            cases hpv2 : pVal tp (nxT tp q.2) with
            | inl p =>
              rw [hpv2] at hvv2
              obtain ⟨t4, cl4, o4, htx4, hB4⟩ := hvv2
              obtain ⟨c4, Cd4, hO4, hf4, ht4, hk4, ho4, hw4, h66_4, hC4, hl4, hcl4, hcc4⟩ := id htx4
              refine xj_aload_n dX7_compared_88 rfl rfl ?_
              refine xj_get dX7_compared_89 K7 28 (by decide) q1957 (kG_a (by decide) hO4) (congrArg some hw4) ?_
              refine xj_if_ne (tgt := 115) dX7_compared_92 rfl (fun c92 => ?_) (fun c92 => absurd c92 (by decide))
              exact xj_return dX7_compared_115 rfl (kR_v ⟨(hfr1.trans ((((kfr.refl _ _).au (by decide) : kfr [54] b1_ _)).trans hfr3 (fun _ h => h)) (by decide)).trans hfr4 (fun _ h => h), by rw [show pCmp tp e = .inl p by unfold pCmp; rw [hpv]; show (if sgn tp q.2 = 0 then _ else _) = _; rw [if_neg hz, hpv2]]; exact ⟨t4, cl4, o4, htx4, by rw [List.length_append, List.length_singleton] at hB4; omega⟩⟩)
            | inr q2 =>
              rw [hpv2] at hvv2
              have htx4 := hvv2
              have hpb2 := pVal_b hpv2
              have hnb3 := nxT_b (tp := tp) (e := nxT tp q.2) (by omega)
              have hlt3 := nxT_lt hpb2.2
              have hnf3 := nxF_b (tp := tp) (e := nxT tp q.2) (by omega)
              have hlt1 := nxT_lt (sgn_lt (tp := tp) (e := q.2) (by omega) hz)
              obtain ⟨c4, Cd4, hO4, hf4, ht4, hk4, ho4, hw4, h66_4, hC4, hl4, hcl4, hcc4⟩ := id htx4
              have hl5 : (cl ++ [q.1] ++ [q2.1]).length = cl.length + 2 := by simp
              refine xj_aload_n dX7_compared_88 rfl rfl ?_
              refine xj_get dX7_compared_89 K7 28 (by decide) q1957 (kG_a (by decide) hO4) (congrArg some hw4) ?_
              refine xj_if_ne (tgt := 115) dX7_compared_92 rfl (fun c92 => absurd rfl c92) (fun c92 => ?_)
              refine xj_aload_n dX7_compared_95 rfl rfl ?_
              refine xj_get dX7_compared_96 K7 21 (by decide) q1950 (kG_a (by decide) hO4) rfl ?_
              refine xj_aload_n dX7_compared_99 rfl rfl ?_
              refine xj_get dX7_compared_100 K7 26 (by decide) q1955 (kG_a (by decide) hO4) (congrArg some hk4) ?_
              refine xj_iload_n dX7_compared_103 rfl ?_
              refine xj_iast dX7_compared_104 (kG_a (by decide) h66_4) rfl (by omega) (by omega) ?_
              refine xj_eq rfl rfl (kG_set (by decide)) ?_
              refine xj_aload_n dX7_compared_105 rfl rfl ?_
              refine xj_dup dX7_compared_106 rfl ?_
              refine xj_get dX7_compared_107 K7 26 (by decide) q1955 (kG_a (by decide) hO4) (congrArg some hk4) ?_
              refine xj_ic1 dX7_compared_110 ?_
              refine xj_iadd dX7_compared_111 ?_
              rw [nI_1]
              refine xj_put dX7_compared_112 K7 26 (by decide) q1955 rfl rfl (kG_a (by decide) hO4) (Nat.le_of_ble_eq_true rfl) ?_
              refine xj_eq rfl rfl (kG_set (by decide)) ?_
              exact xj_return dX7_compared_115 rfl (kR_v ⟨(((hfr1.trans ((((kfr.refl _ _).au (by decide) : kfr [54] b1_ _)).trans hfr3 (fun _ h => h)) (by decide)).trans hfr4 (fun _ h => h)).au (by decide)).au (by decide), by rw [show pCmp tp e = .inr ([q.1, q2.1, sgn tp q.2], q2.2) by unfold pCmp; rw [hpv]; show (if sgn tp q.2 = 0 then _ else _) = _; rw [if_neg hz, hpv2]]; exact ⟨cu c4 26 (.int (nI ((cl ++ [q.1] ++ [q2.1]).length + 1))), _, rfl, hf4, ht4, (show (Value.int (nI ((cl ++ [q.1] ++ [q2.1]).length + 1))) = .int (nI (cl ++ [q.1, q2.1, sgn tp q.2]).length) by simp), ho4, hw4, rfl, by rw [List.length_set]; exact hC4, by rw [List.length_append]; show cl.length + 3 ≤ 200; omega, by have := cd_push (v := sgn tp q.2) hcl4 (by omega); simpa using this, fun j h1 h2 h3 h4 h5 => by unfold cu; rw [if_neg h3]; exact hcc4 j h1 h2 h3 h4 h5⟩⟩)
      · refine xj_bipush (v := -7) dX7_compared_37 rfl ?_
        refine xj_goto (tgt := 58) dX7_compared_39 rfl ?_
        refine xj_top (y := sgn tp q.2) (by unfold sgn; first | (rw [if_pos (show isW tp q.2 10 = true from b1_nz c19)]; done) | (rw [if_neg (show ¬ isW tp q.2 10 = true by rw [show isW tp q.2 10 = false from b1_z c19]; decide), if_pos (show isW tp q.2 11 = true from b1_nz c34)]; done) | (rw [if_neg (show ¬ isW tp q.2 10 = true by rw [show isW tp q.2 10 = false from b1_z c19]; decide), if_neg (show ¬ isW tp q.2 11 = true by rw [show isW tp q.2 11 = false from b1_z c34]; decide), if_pos (show isW tp q.2 12 = true from b1_nz c49)]; done) | (rw [if_neg (show ¬ isW tp q.2 10 = true by rw [show isW tp q.2 10 = false from b1_z c19]; decide), if_neg (show ¬ isW tp q.2 11 = true by rw [show isW tp q.2 11 = false from b1_z c34]; decide), if_neg (show ¬ isW tp q.2 12 = true by rw [show isW tp q.2 12 = false from b1_z c49]; decide)]; done)) ?_
        refine xj_istn1 dX7_compared_58 rfl ?_
        refine xj_aload_n dX7_compared_59 rfl rfl ?_
        refine xj_iload_n dX7_compared_60 rfl ?_
        by_cases hz : sgn tp q.2 = 0
        · refine xj_if_ne (tgt := 68) dX7_compared_61 rfl (fun c61 => absurd hz c61) (fun c61 => ?_)
          refine xj_ic1 dX7_compared_64 ?_
          refine xj_goto (tgt := 69) dX7_compared_65 rfl ?_
          refine xj_put dX7_compared_69 K7 28 (by decide) q1957 rfl rfl (kG_a (by decide) hO1) (Nat.le_of_ble_eq_true rfl) ?_
          refine xj_eq rfl rfl (kG_set (by decide)) ?_
          refine xj_aload_n dX7_compared_72 rfl rfl ?_
          refine xj_get dX7_compared_73 K7 28 (by decide) q1957 (kG_a (by decide) rfl) rfl ?_
          refine xj_if_eq (tgt := 80) dX7_compared_76 rfl (fun c76 => absurd c76 (by decide)) (fun c76 => ?_)
          exact xj_return dX7_compared_79 rfl (kR_v ⟨hfr1.au (by decide), by rw [show pCmp tp e = .inl (nxF tp q.2) by unfold pCmp; rw [hpv]; show (if sgn tp q.2 = 0 then _ else _) = _; rw [if_pos hz]]; exact ⟨nxT tp q.2, cl ++ [q.1], o, ⟨cu c1 28 (.int (b1 true)), Cd1, rfl, hf1, ht1, hk1, ho1, rfl, h66_1, hC1, hl1, hcl1, fun j h1 h2 h3 h4 h5 => by unfold cu; rw [if_neg h5]; exact hcc1 j h1 h2 h3 h4 h5⟩, by rw [List.length_append, List.length_singleton]; omega⟩⟩)
        · refine xj_if_ne (tgt := 68) dX7_compared_61 rfl (fun c61 => ?_) (fun c61 => absurd c61 hz)
          refine xj_ic0 dX7_compared_68 ?_
          refine xj_put dX7_compared_69 K7 28 (by decide) q1957 rfl rfl (kG_a (by decide) hO1) (Nat.le_of_ble_eq_true rfl) ?_
          refine xj_eq rfl rfl (kG_set (by decide)) ?_
          refine xj_aload_n dX7_compared_72 rfl rfl ?_
          refine xj_get dX7_compared_73 K7 28 (by decide) q1957 (kG_a (by decide) rfl) rfl ?_
          refine xj_if_eq (tgt := 80) dX7_compared_76 rfl (fun c76 => ?_) (fun c76 => absurd rfl c76)
          have htx2 : tx tp c (nxF tp q.2) (nxT tp q.2) (cl ++ [q.1]) o false (au b1_ 54 (cO 7 (mFs (cu c1 28 (.int (b1 false)))))) := ⟨cu c1 28 (.int (b1 false)), Cd1, rfl, hf1, ht1, hk1, ho1, rfl, h66_1, hC1, hl1, hcl1, fun j h1 h2 h3 h4 h5 => by unfold cu; rw [if_neg h5]; exact hcc1 j h1 h2 h3 h4 h5⟩
          have hT1 := hT.u (c' := c) (b := b1_) rfl (hfr1 65 (by decide))
          refine xj_aload_n dX7_compared_80 rfl rfl ?_
          refine xj_dV dX7_compared_81 q2282 kV_X7_next (M_next (hT1.u rfl rfl) hnb1.2 htx2) (kG_a (by decide) rfl) rfl rfl rfl rfl (Nat.le_of_ble_eq_true rfl) ⟨(Nat.le_of_ble_eq_true rfl), (Nat.le_of_ble_eq_true rfl)⟩ (Nat.le_of_ble_eq_true rfl) (Nat.le_of_ble_eq_true rfl) ?_
          rintro _ _ ⟨rfl, b3, rfl, hfr3, htx3⟩
          have hO3 : ∃ x, b3 54 = cO 7 (mFs x) := ⟨_, htx3.choose_spec.choose_spec.1⟩
          obtain ⟨x3, hO3⟩ := hO3
          refine xj_aload_n dX7_compared_84 rfl rfl ?_
          refine xj_dV dX7_compared_85 q2317 kV_X7_value (M_value (hT1.u rfl (hfr3 65 (by decide))) (by omega) (by rw [List.length_append, List.length_singleton]; omega) htx3) (kG_a (by decide) hO3) rfl rfl rfl rfl (Nat.le_of_ble_eq_true rfl) ⟨(Nat.le_of_ble_eq_true rfl), (Nat.le_of_ble_eq_true rfl)⟩ (Nat.le_of_ble_eq_true rfl) (Nat.le_of_ble_eq_true rfl) ?_
          rintro _ _ ⟨rfl, b4, rfl, hfr4, hvv2⟩
          have hl2 : (cl ++ [q.1]).length = cl.length + 1 := by simp
          cases hpv2 : pVal tp (nxT tp q.2) with
          | inl p =>
            rw [hpv2] at hvv2
            obtain ⟨t4, cl4, o4, htx4, hB4⟩ := hvv2
            obtain ⟨c4, Cd4, hO4, hf4, ht4, hk4, ho4, hw4, h66_4, hC4, hl4, hcl4, hcc4⟩ := id htx4
            refine xj_aload_n dX7_compared_88 rfl rfl ?_
            refine xj_get dX7_compared_89 K7 28 (by decide) q1957 (kG_a (by decide) hO4) (congrArg some hw4) ?_
            refine xj_if_ne (tgt := 115) dX7_compared_92 rfl (fun c92 => ?_) (fun c92 => absurd c92 (by decide))
            exact xj_return dX7_compared_115 rfl (kR_v ⟨(hfr1.trans ((((kfr.refl _ _).au (by decide) : kfr [54] b1_ _)).trans hfr3 (fun _ h => h)) (by decide)).trans hfr4 (fun _ h => h), by rw [show pCmp tp e = .inl p by unfold pCmp; rw [hpv]; show (if sgn tp q.2 = 0 then _ else _) = _; rw [if_neg hz, hpv2]]; exact ⟨t4, cl4, o4, htx4, by rw [List.length_append, List.length_singleton] at hB4; omega⟩⟩)
          | inr q2 =>
            rw [hpv2] at hvv2
            have htx4 := hvv2
            have hpb2 := pVal_b hpv2
            have hnb3 := nxT_b (tp := tp) (e := nxT tp q.2) (by omega)
            have hlt3 := nxT_lt hpb2.2
            have hnf3 := nxF_b (tp := tp) (e := nxT tp q.2) (by omega)
            have hlt1 := nxT_lt (sgn_lt (tp := tp) (e := q.2) (by omega) hz)
            obtain ⟨c4, Cd4, hO4, hf4, ht4, hk4, ho4, hw4, h66_4, hC4, hl4, hcl4, hcc4⟩ := id htx4
            have hl5 : (cl ++ [q.1] ++ [q2.1]).length = cl.length + 2 := by simp
            refine xj_aload_n dX7_compared_88 rfl rfl ?_
            refine xj_get dX7_compared_89 K7 28 (by decide) q1957 (kG_a (by decide) hO4) (congrArg some hw4) ?_
            refine xj_if_ne (tgt := 115) dX7_compared_92 rfl (fun c92 => absurd rfl c92) (fun c92 => ?_)
            refine xj_aload_n dX7_compared_95 rfl rfl ?_
            refine xj_get dX7_compared_96 K7 21 (by decide) q1950 (kG_a (by decide) hO4) rfl ?_
            refine xj_aload_n dX7_compared_99 rfl rfl ?_
            refine xj_get dX7_compared_100 K7 26 (by decide) q1955 (kG_a (by decide) hO4) (congrArg some hk4) ?_
            refine xj_iload_n dX7_compared_103 rfl ?_
            refine xj_iast dX7_compared_104 (kG_a (by decide) h66_4) rfl (by omega) (by omega) ?_
            refine xj_eq rfl rfl (kG_set (by decide)) ?_
            refine xj_aload_n dX7_compared_105 rfl rfl ?_
            refine xj_dup dX7_compared_106 rfl ?_
            refine xj_get dX7_compared_107 K7 26 (by decide) q1955 (kG_a (by decide) hO4) (congrArg some hk4) ?_
            refine xj_ic1 dX7_compared_110 ?_
            refine xj_iadd dX7_compared_111 ?_
            rw [nI_1]
            refine xj_put dX7_compared_112 K7 26 (by decide) q1955 rfl rfl (kG_a (by decide) hO4) (Nat.le_of_ble_eq_true rfl) ?_
            refine xj_eq rfl rfl (kG_set (by decide)) ?_
            exact xj_return dX7_compared_115 rfl (kR_v ⟨(((hfr1.trans ((((kfr.refl _ _).au (by decide) : kfr [54] b1_ _)).trans hfr3 (fun _ h => h)) (by decide)).trans hfr4 (fun _ h => h)).au (by decide)).au (by decide), by rw [show pCmp tp e = .inr ([q.1, q2.1, sgn tp q.2], q2.2) by unfold pCmp; rw [hpv]; show (if sgn tp q.2 = 0 then _ else _) = _; rw [if_neg hz, hpv2]]; exact ⟨cu c4 26 (.int (nI ((cl ++ [q.1] ++ [q2.1]).length + 1))), _, rfl, hf4, ht4, (show (Value.int (nI ((cl ++ [q.1] ++ [q2.1]).length + 1))) = .int (nI (cl ++ [q.1, q2.1, sgn tp q.2]).length) by simp), ho4, hw4, rfl, by rw [List.length_set]; exact hC4, by rw [List.length_append]; show cl.length + 3 ≤ 200; omega, by have := cd_push (v := sgn tp q.2) hcl4 (by omega); simpa using this, fun j h1 h2 h3 h4 h5 => by unfold cu; rw [if_neg h3]; exact hcc4 j h1 h2 h3 h4 h5⟩⟩)
    · refine xj_bipush (v := -6) dX7_compared_22 rfl ?_
      refine xj_goto (tgt := 58) dX7_compared_24 rfl ?_
      refine xj_top (y := sgn tp q.2) (by unfold sgn; first | (rw [if_pos (show isW tp q.2 10 = true from b1_nz c19)]; done) | (rw [if_neg (show ¬ isW tp q.2 10 = true by rw [show isW tp q.2 10 = false from b1_z c19]; decide), if_pos (show isW tp q.2 11 = true from b1_nz c34)]; done) | (rw [if_neg (show ¬ isW tp q.2 10 = true by rw [show isW tp q.2 10 = false from b1_z c19]; decide), if_neg (show ¬ isW tp q.2 11 = true by rw [show isW tp q.2 11 = false from b1_z c34]; decide), if_pos (show isW tp q.2 12 = true from b1_nz c49)]; done) | (rw [if_neg (show ¬ isW tp q.2 10 = true by rw [show isW tp q.2 10 = false from b1_z c19]; decide), if_neg (show ¬ isW tp q.2 11 = true by rw [show isW tp q.2 11 = false from b1_z c34]; decide), if_neg (show ¬ isW tp q.2 12 = true by rw [show isW tp q.2 12 = false from b1_z c49]; decide)]; done)) ?_
      refine xj_istn1 dX7_compared_58 rfl ?_
      refine xj_aload_n dX7_compared_59 rfl rfl ?_
      refine xj_iload_n dX7_compared_60 rfl ?_
      by_cases hz : sgn tp q.2 = 0
      · refine xj_if_ne (tgt := 68) dX7_compared_61 rfl (fun c61 => absurd hz c61) (fun c61 => ?_)
        refine xj_ic1 dX7_compared_64 ?_
        refine xj_goto (tgt := 69) dX7_compared_65 rfl ?_
        refine xj_put dX7_compared_69 K7 28 (by decide) q1957 rfl rfl (kG_a (by decide) hO1) (Nat.le_of_ble_eq_true rfl) ?_
        refine xj_eq rfl rfl (kG_set (by decide)) ?_
        refine xj_aload_n dX7_compared_72 rfl rfl ?_
        refine xj_get dX7_compared_73 K7 28 (by decide) q1957 (kG_a (by decide) rfl) rfl ?_
        refine xj_if_eq (tgt := 80) dX7_compared_76 rfl (fun c76 => absurd c76 (by decide)) (fun c76 => ?_)
        exact xj_return dX7_compared_79 rfl (kR_v ⟨hfr1.au (by decide), by rw [show pCmp tp e = .inl (nxF tp q.2) by unfold pCmp; rw [hpv]; show (if sgn tp q.2 = 0 then _ else _) = _; rw [if_pos hz]]; exact ⟨nxT tp q.2, cl ++ [q.1], o, ⟨cu c1 28 (.int (b1 true)), Cd1, rfl, hf1, ht1, hk1, ho1, rfl, h66_1, hC1, hl1, hcl1, fun j h1 h2 h3 h4 h5 => by unfold cu; rw [if_neg h5]; exact hcc1 j h1 h2 h3 h4 h5⟩, by rw [List.length_append, List.length_singleton]; omega⟩⟩)
      · refine xj_if_ne (tgt := 68) dX7_compared_61 rfl (fun c61 => ?_) (fun c61 => absurd c61 hz)
        refine xj_ic0 dX7_compared_68 ?_
        refine xj_put dX7_compared_69 K7 28 (by decide) q1957 rfl rfl (kG_a (by decide) hO1) (Nat.le_of_ble_eq_true rfl) ?_
        refine xj_eq rfl rfl (kG_set (by decide)) ?_
        refine xj_aload_n dX7_compared_72 rfl rfl ?_
        refine xj_get dX7_compared_73 K7 28 (by decide) q1957 (kG_a (by decide) rfl) rfl ?_
        refine xj_if_eq (tgt := 80) dX7_compared_76 rfl (fun c76 => ?_) (fun c76 => absurd rfl c76)
        have htx2 : tx tp c (nxF tp q.2) (nxT tp q.2) (cl ++ [q.1]) o false (au b1_ 54 (cO 7 (mFs (cu c1 28 (.int (b1 false)))))) := ⟨cu c1 28 (.int (b1 false)), Cd1, rfl, hf1, ht1, hk1, ho1, rfl, h66_1, hC1, hl1, hcl1, fun j h1 h2 h3 h4 h5 => by unfold cu; rw [if_neg h5]; exact hcc1 j h1 h2 h3 h4 h5⟩
        have hT1 := hT.u (c' := c) (b := b1_) rfl (hfr1 65 (by decide))
        refine xj_aload_n dX7_compared_80 rfl rfl ?_
        refine xj_dV dX7_compared_81 q2282 kV_X7_next (M_next (hT1.u rfl rfl) hnb1.2 htx2) (kG_a (by decide) rfl) rfl rfl rfl rfl (Nat.le_of_ble_eq_true rfl) ⟨(Nat.le_of_ble_eq_true rfl), (Nat.le_of_ble_eq_true rfl)⟩ (Nat.le_of_ble_eq_true rfl) (Nat.le_of_ble_eq_true rfl) ?_
        rintro _ _ ⟨rfl, b3, rfl, hfr3, htx3⟩
        have hO3 : ∃ x, b3 54 = cO 7 (mFs x) := ⟨_, htx3.choose_spec.choose_spec.1⟩
        obtain ⟨x3, hO3⟩ := hO3
        refine xj_aload_n dX7_compared_84 rfl rfl ?_
        refine xj_dV dX7_compared_85 q2317 kV_X7_value (M_value (hT1.u rfl (hfr3 65 (by decide))) (by omega) (by rw [List.length_append, List.length_singleton]; omega) htx3) (kG_a (by decide) hO3) rfl rfl rfl rfl (Nat.le_of_ble_eq_true rfl) ⟨(Nat.le_of_ble_eq_true rfl), (Nat.le_of_ble_eq_true rfl)⟩ (Nat.le_of_ble_eq_true rfl) (Nat.le_of_ble_eq_true rfl) ?_
        rintro _ _ ⟨rfl, b4, rfl, hfr4, hvv2⟩
        have hl2 : (cl ++ [q.1]).length = cl.length + 1 := by simp
        cases hpv2 : pVal tp (nxT tp q.2) with
        | inl p =>
          rw [hpv2] at hvv2
          obtain ⟨t4, cl4, o4, htx4, hB4⟩ := hvv2
          obtain ⟨c4, Cd4, hO4, hf4, ht4, hk4, ho4, hw4, h66_4, hC4, hl4, hcl4, hcc4⟩ := id htx4
          refine xj_aload_n dX7_compared_88 rfl rfl ?_
          refine xj_get dX7_compared_89 K7 28 (by decide) q1957 (kG_a (by decide) hO4) (congrArg some hw4) ?_
          refine xj_if_ne (tgt := 115) dX7_compared_92 rfl (fun c92 => ?_) (fun c92 => absurd c92 (by decide))
          exact xj_return dX7_compared_115 rfl (kR_v ⟨(hfr1.trans ((((kfr.refl _ _).au (by decide) : kfr [54] b1_ _)).trans hfr3 (fun _ h => h)) (by decide)).trans hfr4 (fun _ h => h), by rw [show pCmp tp e = .inl p by unfold pCmp; rw [hpv]; show (if sgn tp q.2 = 0 then _ else _) = _; rw [if_neg hz, hpv2]]; exact ⟨t4, cl4, o4, htx4, by rw [List.length_append, List.length_singleton] at hB4; omega⟩⟩)
        | inr q2 =>
          rw [hpv2] at hvv2
          have htx4 := hvv2
          have hpb2 := pVal_b hpv2
          have hnb3 := nxT_b (tp := tp) (e := nxT tp q.2) (by omega)
          have hlt3 := nxT_lt hpb2.2
          have hnf3 := nxF_b (tp := tp) (e := nxT tp q.2) (by omega)
          have hlt1 := nxT_lt (sgn_lt (tp := tp) (e := q.2) (by omega) hz)
          obtain ⟨c4, Cd4, hO4, hf4, ht4, hk4, ho4, hw4, h66_4, hC4, hl4, hcl4, hcc4⟩ := id htx4
          have hl5 : (cl ++ [q.1] ++ [q2.1]).length = cl.length + 2 := by simp
          refine xj_aload_n dX7_compared_88 rfl rfl ?_
          refine xj_get dX7_compared_89 K7 28 (by decide) q1957 (kG_a (by decide) hO4) (congrArg some hw4) ?_
          refine xj_if_ne (tgt := 115) dX7_compared_92 rfl (fun c92 => absurd rfl c92) (fun c92 => ?_)
          refine xj_aload_n dX7_compared_95 rfl rfl ?_
          refine xj_get dX7_compared_96 K7 21 (by decide) q1950 (kG_a (by decide) hO4) rfl ?_
          refine xj_aload_n dX7_compared_99 rfl rfl ?_
          refine xj_get dX7_compared_100 K7 26 (by decide) q1955 (kG_a (by decide) hO4) (congrArg some hk4) ?_
          refine xj_iload_n dX7_compared_103 rfl ?_
          refine xj_iast dX7_compared_104 (kG_a (by decide) h66_4) rfl (by omega) (by omega) ?_
          refine xj_eq rfl rfl (kG_set (by decide)) ?_
          refine xj_aload_n dX7_compared_105 rfl rfl ?_
          refine xj_dup dX7_compared_106 rfl ?_
          refine xj_get dX7_compared_107 K7 26 (by decide) q1955 (kG_a (by decide) hO4) (congrArg some hk4) ?_
          refine xj_ic1 dX7_compared_110 ?_
          refine xj_iadd dX7_compared_111 ?_
          rw [nI_1]
          refine xj_put dX7_compared_112 K7 26 (by decide) q1955 rfl rfl (kG_a (by decide) hO4) (Nat.le_of_ble_eq_true rfl) ?_
          refine xj_eq rfl rfl (kG_set (by decide)) ?_
          exact xj_return dX7_compared_115 rfl (kR_v ⟨(((hfr1.trans ((((kfr.refl _ _).au (by decide) : kfr [54] b1_ _)).trans hfr3 (fun _ h => h)) (by decide)).trans hfr4 (fun _ h => h)).au (by decide)).au (by decide), by rw [show pCmp tp e = .inr ([q.1, q2.1, sgn tp q.2], q2.2) by unfold pCmp; rw [hpv]; show (if sgn tp q.2 = 0 then _ else _) = _; rw [if_neg hz, hpv2]]; exact ⟨cu c4 26 (.int (nI ((cl ++ [q.1] ++ [q2.1]).length + 1))), _, rfl, hf4, ht4, (show (Value.int (nI ((cl ++ [q.1] ++ [q2.1]).length + 1))) = .int (nI (cl ++ [q.1, q2.1, sgn tp q.2]).length) by simp), ho4, hw4, rfl, by rw [List.length_set]; exact hC4, by rw [List.length_append]; show cl.length + 3 ≤ 200; omega, by have := cd_push (v := sgn tp q.2) hcl4 (by omega); simpa using this, fun j h1 h2 h3 h4 h5 => by unfold cu; rw [if_neg h3]; exact hcc4 j h1 h2 h3 h4 h5⟩⟩)
end M25
