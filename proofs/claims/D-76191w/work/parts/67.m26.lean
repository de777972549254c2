/-! ===== the reference: the text (3) ===== -/
set_option maxRecDepth 100000
theorem kV_X7_all : xsV yX7_all cX7_all 1 none 0 := ⟨q2298, qs110, q161, q2299, by decide, by decide, by decide +kernel⟩
theorem kV_X7_compared : xsV yX7_compared cX7_compared 2 none 0 := ⟨q2315, qs113, q161, q2316, by decide, by decide, by decide +kernel⟩
theorem kV_X7_cond : xsV yX7_cond cX7_cond 1 none 0 := ⟨q2294, qs109, q161, q2295, by decide, by decide, by decide +kernel⟩
theorem kV_X7_one : xsV yX7_one cX7_one 3 none 0 := ⟨q2302, qs111, q161, q2303, by decide, by decide, by decide +kernel⟩
def pOneC (E : xE) (T : xH) (c : Nat → Value) (tp : List Nat) (f : Nat) : Prop := ∀ (o e : Nat) (cl : List Int32) (r : Nat ⊕ (List Int32 × Nat)) (a : Nat → xC), o ≤ 3 → e ≤ tp.length → cl.length ≤ e → prs tp f 0 o [] e = some r → kT tp c a → tx tp c (nxF tp e) (nxT tp e) cl o false a → xMet E yX7_one cX7_one 3 none (8 + 3 * (3 - o)) 0 0 [.ref 54] (kG a T) (kR none T (fun b => kfr [54, 66] a b ∧ txP tp c cl o e r b))
def pAllC (E : xE) (T : xH) (c : Nat → Value) (tp : List Nat) (f : Nat) : Prop := ∀ (o e : Nat) (cl : List Int32) (r : Nat ⊕ (List Int32 × Nat)) (a : Nat → xC), o ≤ 3 → e ≤ tp.length → cl.length ≤ e → prs tp f 1 o [] e = some r → kT tp c a → tx tp c (nxF tp e) (nxT tp e) cl o false a → xMet E yX7_all cX7_all 1 none (9 + 3 * (3 - o)) 0 0 [.ref 54] (kG a T) (kR none T (fun b => kfr [54, 66] a b ∧ txP tp c cl o e r b))
def pCondC (E : xE) (T : xH) (c : Nat → Value) (tp : List Nat) (f : Nat) : Prop := ∀ (o e : Nat) (cl : List Int32) (r : Nat ⊕ (List Int32 × Nat)) (a : Nat → xC), o ≤ 3 → e ≤ tp.length → cl.length ≤ e → prs tp f 3 o [] e = some r → kT tp c a → tx tp c (nxF tp e) (nxT tp e) cl o false a → xMet E yX7_cond cX7_cond 1 none (10 + 3 * (3 - o)) 0 0 [.ref 54] (kG a T) (kR none T (fun b => kfr [54, 66] a b ∧ txP tp c cl o e r b))
theorem ntA_0 (r : Nat ⊕ (List Int32 × Nat)) : ntA 0 r = r := by
  cases r with
  | inl p => rfl
  | inr q => show Sum.inr (q.1 ++ [], q.2) = Sum.inr q; rw [List.append_nil]
section M26
variable {E : xE} {G T : xH} {c : Nat → Value} {tp : List Nat}
theorem one_of {f : Nat} (hcond : ∀ f', f' < f → pCondC E T c tp f') : pOneC E T c tp f := by
  intro o e0 cl r0 a0 ho he0 hcl hp hT htxs
  obtain ⟨hf23, L65, h65, htL⟩ := id hT
  have hL200 := htL.1
  have htp := htL.2.1
  refine xMet.of (lv := [some (.ref 54), none, none]) rfl rfl (Nat.le_of_ble_eq_true rfl) ?_
  refine xj_ic0 dX7_one_0 ?_
  refine xj_istn1 dX7_one_1 rfl ?_
  have lp : ∀ (K : Nat) (g : Nat) (e : Nat) (j : Nat) (r : Nat ⊕ (List Int32 × Nat)) (a : Nat → xC), g < K → (g ≤ f) → (e0 ≤ e) → (e ≤ tp.length) → (cl.length + j ≤ e) → (prs tp g 0 o [] e = some r) → (r0 = ntA j r) → (kfr [54, 66] a0 a) → (tx tp c (nxF tp e) (nxT tp e) cl o false a) → xJ E (yX7_one, cX7_one, 3, none, []) (xR (8 + 3 * (3 - o)) 0 0) (kR (none) T (fun b => kfr [54, 66] a0 b ∧ txP tp c cl o e0 r0 b)) 0 0 2 [some (.ref 54), some (.int (nI j)), none] [] (kG a T) := by
    intro K
    induction K with
    | zero => intro g e j r a h; exact absurd h (Nat.not_lt_zero _)
    | succ K ih_lp =>
      intro g e j r a hK hg hee he hj hs hr hfr htx1
      have hTa : kT tp c a := hT.u (c' := c) rfl (hfr 65 (by decide))
      have hnb := nxT_b he
      have hnf := nxF_b he
      obtain ⟨c1, Cd1, hO1, hf1, ht1, hk1, ho1, hw1, h66_1, hC1, hl1, hcl1, hcc1⟩ := id htx1
      obtain ⟨g, rfl⟩ : ∃ g0, g = g0 + 1 := ⟨g - 1, by
        have : g ≠ 0 := fun h => by subst h; cases hs
        omega⟩
      have hN : ∀ b : Nat → xC, kfr [54, 66] a b → txP tp c cl o e r b → (∀ q, r = .inr q → q.1.length + cl.length + j ≤ q.2 ∧ q.2 ≤ tp.length) → xJ E (yX7_one, cX7_one, 3, none, []) (xR (8 + 3 * (3 - o)) 0 0) (kR (none) T (fun b => kfr [54, 66] a0 b ∧ txP tp c cl o e0 r0 b)) 0 0 130 [some (.ref 54), some (.int (nI j)), none] [] (kG b T) := by
        intro b hfb hPb hq
        cases r with
        | inl p =>
          obtain ⟨t3, cl3, o3, htx3, hB3⟩ := hPb
          obtain ⟨c3, Cd3, hO3, hf3, ht3, hk3, ho3, hw3, h66_3, hC3, hl3, hcl3, hcc3⟩ := id htx3
          refine xj_ic0 dX7_one_130 ?_
          refine xj_istn2 dX7_one_131 rfl ?_
          refine xj_iload_n dX7_one_132 rfl ?_
          refine xj_iload_n dX7_one_133 rfl ?_
          refine xj_icmp_ge (tgt := 171) dX7_one_134 rfl (fun c134 => ?_) (fun c134 => ?_)
          · exact xj_return dX7_one_171 rfl (kR_v ⟨hfr.trans hfb (fun _ h => h), by rw [hr]; exact ⟨t3, cl3, o3, htx3, by omega⟩⟩)
          · refine xj_aload_n dX7_one_137 rfl rfl ?_
            refine xj_get dX7_one_138 K7 28 (by decide) q1957 (kG_a (by decide) hO3) (congrArg some hw3) ?_
            refine xj_if_ne (tgt := 171) dX7_one_141 rfl (fun c141 => ?_) (fun c141 => absurd c141 (by decide))
            exact xj_return dX7_one_171 rfl (kR_v ⟨hfr.trans hfb (fun _ h => h), by rw [hr]; exact ⟨t3, cl3, o3, htx3, by omega⟩⟩)
        | inr q =>
          have hq := hq q rfl
          refine xj_ic0 dX7_one_130 ?_
          refine xj_istn2 dX7_one_131 rfl ?_
          have ln : ∀ (K : Nat) (i : Nat) (b : Nat → xC), j - i < K → (i ≤ j) → (kfr [54, 66] a b) → (tx tp c (nxF tp q.2) (nxT tp q.2) (cl ++ q.1 ++ List.replicate i (-9)) o false b) → xJ E (yX7_one, cX7_one, 3, none, []) (xR (8 + 3 * (3 - o)) 0 0) (kR (none) T (fun b => kfr [54, 66] a0 b ∧ txP tp c cl o e0 r0 b)) 0 0 132 [some (.ref 54), some (.int (nI j)), some (.int (nI i))] [] (kG b T) := by
            intro K
            induction K with
            | zero => intro i b h; exact absurd h (Nat.not_lt_zero _)
            | succ K ih_ln =>
              intro i b hK hi hfb2 htx4
              obtain ⟨c4, Cd4, hO4, hf4, ht4, hk4, ho4, hw4, h66_4, hC4, hl4, hcl4, hcc4⟩ := id htx4
              have hl4 : (cl ++ q.1 ++ List.replicate i (-9 : Int32)).length = cl.length + q.1.length + i := by simp; try omega
              refine xj_iload_n dX7_one_132 rfl ?_
              refine xj_iload_n dX7_one_133 rfl ?_
              refine xj_icmp_ge (tgt := 171) dX7_one_134 rfl (fun c134 => ?_) (fun c134 => ?_)
              · exact xj_return dX7_one_171 rfl (kR_v ⟨hfr.trans hfb2 (fun _ h => h), by rw [hr]; have hij : i = j := (by have := Nat.le_of_not_lt fun h => absurd c134 (nI_ge h (by omega)); omega); rw [hij] at htx4; show tx tp c (nxF tp q.2) (nxT tp q.2) (cl ++ (q.1 ++ List.replicate j (-9))) o false b; rw [← List.append_assoc]; exact htx4⟩)
              · have hij : i < j := Nat.lt_of_not_le fun h => c134 (nI_le h (by omega))
                refine xj_aload_n dX7_one_137 rfl rfl ?_
                refine xj_get dX7_one_138 K7 28 (by decide) q1957 (kG_a (by decide) hO4) (congrArg some hw4) ?_
                refine xj_if_ne (tgt := 171) dX7_one_141 rfl (fun c141 => absurd rfl c141) (fun c141 => ?_)
                refine xj_aload_n dX7_one_144 rfl rfl ?_
                refine xj_get dX7_one_145 K7 21 (by decide) q1950 (kG_a (by decide) hO4) rfl ?_
                refine xj_aload_n dX7_one_148 rfl rfl ?_
                refine xj_get dX7_one_149 K7 26 (by decide) q1955 (kG_a (by decide) hO4) (congrArg some hk4) ?_
                refine xj_bipush (v := -9) dX7_one_152 rfl ?_
                refine xj_iast dX7_one_154 (kG_a (by decide) h66_4) rfl (by omega) (by omega) ?_
                refine xj_eq rfl rfl (kG_set (by decide)) ?_
                refine xj_aload_n dX7_one_155 rfl rfl ?_
                refine xj_dup dX7_one_156 rfl ?_
                refine xj_get dX7_one_157 K7 26 (by decide) q1955 (kG_a (by decide) hO4) (congrArg some hk4) ?_
                refine xj_ic1 dX7_one_160 ?_
                refine xj_iadd dX7_one_161 ?_
                rw [nI_1]
                refine xj_put dX7_one_162 K7 26 (by decide) q1955 rfl rfl (kG_a (by decide) hO4) (Nat.le_of_ble_eq_true rfl) ?_
                refine xj_eq rfl rfl (kG_set (by decide)) ?_
                refine xj_iinc2 (cst := 1) dX7_one_165 rfl rfl ?_
                rw [nI_1]
                refine xj_goto (tgt := 132) dX7_one_168 rfl ?_
                exact ih_ln (i + 1) _ (by omega) (by omega) ((hfb2.au (by decide)).au (by decide)) (by
                  have hpu := cd_push (v := -9) hcl4 (by omega)
                  refine ⟨cu c4 26 (.int (nI ((cl ++ q.1 ++ List.replicate i (-9)).length + 1))), _, rfl, hf4, ht4, ?_, ho4, hw4, rfl, by rw [List.length_set]; exact hC4, ?_, ?_, fun j h1 h2 h3 h4 h5 => by unfold cu; rw [if_neg h3]; exact hcc4 j h1 h2 h3 h4 h5⟩
                  · show Value.int (nI _) = Value.int (nI _)
                    rw [show (cl ++ q.1 ++ List.replicate (i + 1) (-9 : Int32)).length = (cl ++ q.1 ++ List.replicate i (-9)).length + 1 by simp; try omega]
                  · simp at hl4 ⊢; omega
                  · rw [show cl ++ q.1 ++ List.replicate (i + 1) (-9 : Int32) = cl ++ q.1 ++ List.replicate i (-9) ++ [-9] by rw [List.append_assoc (cl ++ q.1), List.replicate_succ']]; exact hpu)
          exact ln (j + 1) 0 b (by omega) (by omega) hfb (by rw [List.replicate_zero, List.append_nil]; exact hPb)
      refine xj_aload_n dX7_one_2 rfl rfl ?_
      refine xj_ldcSw (u := 5) dX7_one_3 (List.mem_of_getElem? (i := 10) rfl) ?_
      refine xj_cV dX7_one_6 q2305 kV_X7_is (M_is (u := 5) hTa (by decide) he htx1) (kG_a (by decide) hO1) rfl rfl rfl rfl (Nat.le_of_ble_eq_true rfl) (xR_ok (by omega) (by decide)) (Nat.le_of_ble_eq_true rfl) (Nat.le_of_ble_eq_true rfl) ?_
      refine xj_if_eq (tgt := 22) dX7_one_9 rfl (fun c9 => ?_) (fun c9 => ?_)
      · refine xj_aload_n dX7_one_22 rfl rfl ?_
        refine xj_ldcSw (u := 6) dX7_one_23 (List.mem_of_getElem? (i := 11) rfl) ?_
        refine xj_cV dX7_one_26 q2305 kV_X7_is (M_is (u := 6) hTa (by decide) he htx1) (kG_a (by decide) hO1) rfl rfl rfl rfl (Nat.le_of_ble_eq_true rfl) (xR_ok (by omega) (by decide)) (Nat.le_of_ble_eq_true rfl) (Nat.le_of_ble_eq_true rfl) ?_
        refine xj_if_eq (tgt := 126) dX7_one_29 rfl (fun c29 => ?_) (fun c29 => ?_)
        · have hrc := prs_cmp hs (b1_z c9) (b1_z c29)
          refine xj_aload_n dX7_one_126 rfl rfl ?_
          refine xj_dV dX7_one_127 q2313 kV_X7_compared (M_compared hTa he (by omega) htx1) (kG_a (by decide) hO1) rfl rfl rfl rfl (Nat.le_of_ble_eq_true rfl) (xR_ok (by omega) (by decide)) (Nat.le_of_ble_eq_true rfl) (Nat.le_of_ble_eq_true rfl) ?_
          rintro _ _ ⟨rfl, b2, rfl, hfr2, hP2⟩
          exact hN b2 hfr2 (by rw [hrc]; exact hP2) (fun q hq => by have := pCmp_b he (hrc.symm.trans hq); omega)
        · rcases prs_par hs (b1_z c9) (b1_nz c29) with ⟨ho3, hr3⟩ | ⟨ho3, r1, hp1, hrr⟩
          · refine xj_aload_n dX7_one_32 rfl rfl ?_
            refine xj_aload_n dX7_one_33 rfl rfl ?_
            refine xj_get dX7_one_34 K7 27 (by decide) q1956 (kG_a (by decide) hO1) (congrArg some ho1) ?_
            refine xj_ic3 dX7_one_37 ?_
            refine xj_icmp_ne (tgt := 45) dX7_one_38 rfl (fun c38 => absurd (by rw [ho3]; rfl) c38) (fun c38 => ?_)
            refine xj_ic1 dX7_one_41 ?_
            refine xj_goto (tgt := 46) dX7_one_42 rfl ?_
            refine xj_put dX7_one_46 K7 28 (by decide) q1957 rfl rfl (kG_a (by decide) hO1) (Nat.le_of_ble_eq_true rfl) ?_
            refine xj_eq rfl rfl (kG_set (by decide)) ?_
            refine xj_aload_n dX7_one_49 rfl rfl ?_
            refine xj_get dX7_one_50 K7 28 (by decide) q1957 (kG_a (by decide) rfl) rfl ?_
            refine xj_if_eq (tgt := 57) dX7_one_53 rfl (fun c53 => absurd c53 (by decide)) (fun c53 => ?_)
            exact xj_return dX7_one_56 rfl (kR_v ⟨hfr.au (by decide), by rw [hr, hr3]; exact ⟨nxT tp e, cl, o, ⟨cu c1 28 (.int (b1 true)), Cd1, rfl, hf1, ht1, hk1, ho1, rfl, h66_1, hC1, hl1, hcl1, fun j h1 h2 h3 h4 h5 => by unfold cu; rw [if_neg h5]; exact hcc1 j h1 h2 h3 h4 h5⟩, by omega⟩⟩)
          · refine xj_aload_n dX7_one_32 rfl rfl ?_
            refine xj_aload_n dX7_one_33 rfl rfl ?_
            refine xj_get dX7_one_34 K7 27 (by decide) q1956 (kG_a (by decide) hO1) (congrArg some ho1) ?_
            refine xj_ic3 dX7_one_37 ?_
            refine xj_icmp_ne (tgt := 45) dX7_one_38 rfl (fun c38 => ?_) (fun c38 => absurd c38 (fun h => ho3 ((nI_eq (by omega) (by decide)).mp (show nI o = nI 3 from h))))
            refine xj_ic0 dX7_one_45 ?_
            refine xj_put dX7_one_46 K7 28 (by decide) q1957 rfl rfl (kG_a (by decide) hO1) (Nat.le_of_ble_eq_true rfl) ?_
            refine xj_eq rfl rfl (kG_set (by decide)) ?_
            refine xj_aload_n dX7_one_49 rfl rfl ?_
            refine xj_get dX7_one_50 K7 28 (by decide) q1957 (kG_a (by decide) rfl) rfl ?_
            refine xj_if_eq (tgt := 57) dX7_one_53 rfl (fun c53 => ?_) (fun c53 => absurd rfl c53)
            refine xj_aload_n dX7_one_57 rfl rfl ?_
            refine xj_dup dX7_one_58 rfl ?_
            refine xj_get dX7_one_59 K7 27 (by decide) q1956 (kG_a (by decide) rfl) (congrArg some ho1) ?_
            refine xj_ic1 dX7_one_62 ?_
            refine xj_iadd dX7_one_63 ?_
            rw [nI_1]
            refine xj_put dX7_one_64 K7 27 (by decide) q1956 rfl rfl (kG_a (by decide) rfl) (Nat.le_of_ble_eq_true rfl) ?_
            refine xj_eq rfl rfl (kG_set (by decide)) ?_
            rw [au_au]
            refine xj_eq rfl rfl (show _ = kG (au a 54 (cO 7 (mFs (cu (cu c1 28 (.int (b1 false))) 27 (.int (nI (o + 1))))))) T from rfl) ?_
            have htx2 : tx tp c (nxF tp e) (nxT tp e) cl (o + 1) false (au a 54 (cO 7 (mFs (cu (cu c1 28 (.int (b1 false))) 27 (.int (nI (o + 1))))))) := ⟨cu (cu c1 28 (.int (b1 false))) 27 (.int (nI (o + 1))), Cd1, rfl, hf1, ht1, hk1, rfl, rfl, h66_1, hC1, hl1, hcl1, fun j h1 h2 h3 h4 h5 => by unfold cu; rw [if_neg h4, if_neg h5]; exact hcc1 j h1 h2 h3 h4 h5⟩
            have hfr2 : kfr [54, 66] a (au a 54 (cO 7 (mFs (cu (cu c1 28 (.int (b1 false))) 27 (.int (nI (o + 1))))))) := (kfr.refl _ _).au (by decide)
            have hw6l := isW_lt he (by decide) (b1_nz c29)
            refine xj_aload_n dX7_one_67 rfl rfl ?_
            refine xj_dV dX7_one_68 q2282 kV_X7_next (M_next (hTa.u rfl rfl) (by omega) htx2) (kG_a (by decide) rfl) rfl rfl rfl rfl (Nat.le_of_ble_eq_true rfl) (xR_ok (by omega) (by decide)) (Nat.le_of_ble_eq_true rfl) (Nat.le_of_ble_eq_true rfl) ?_
            rintro _ _ ⟨rfl, b3, rfl, hfr3, htx3⟩
            have hT3 : kT tp c b3 := hTa.u (c' := c) rfl ((hfr3 65 (by decide)).trans rfl)
            obtain ⟨x3, hO3⟩ : ∃ x, b3 54 = cO 7 (mFs x) := ⟨_, htx3.choose_spec.choose_spec.1⟩
            refine xj_aload_n dX7_one_71 rfl rfl ?_
            refine xj_dV dX7_one_72 q2292 kV_X7_cond (hcond g (by omega) (o + 1) (nxT tp e) cl r1 b3 (by omega) (by omega) (by omega) hp1 hT3 htx3) (kG_a (by decide) hO3) rfl rfl rfl rfl (Nat.le_of_ble_eq_true rfl) (xR_ok (by omega) (by decide)) (Nat.le_of_ble_eq_true rfl) (Nat.le_of_ble_eq_true rfl) ?_
            rintro _ _ ⟨rfl, b5, rfl, hfr5, hP5⟩
            rcases hrr with ⟨p, rfl, hr6⟩ | ⟨q, rfl, hr6⟩
            · obtain ⟨t5, cl5, o5, htx5, hB5⟩ := hP5
              obtain ⟨c5, Cd5, hO5, hf5, ht5, hk5, ho5, hw5, h66_5, hC5, hl5, hcl5, hcc5⟩ := id htx5
              refine xj_aload_n dX7_one_75 rfl rfl ?_
              refine xj_aload_n dX7_one_76 rfl rfl ?_
              refine xj_get dX7_one_77 K7 28 (by decide) q1957 (kG_a (by decide) hO5) (congrArg some hw5) ?_
              refine xj_if_ne (tgt := 93) dX7_one_80 rfl (fun c80 => ?_) (fun c80 => absurd c80 (by decide))
              refine xj_ic1 dX7_one_93 ?_
              refine xj_goto (tgt := 98) dX7_one_94 rfl ?_
              refine xj_put dX7_one_98 K7 28 (by decide) q1957 rfl rfl (kG_a (by decide) hO5) (Nat.le_of_ble_eq_true rfl) ?_
              refine xj_eq rfl rfl (kG_set (by decide)) ?_
              refine xj_aload_n dX7_one_101 rfl rfl ?_
              refine xj_get dX7_one_102 K7 28 (by decide) q1957 (kG_a (by decide) rfl) rfl ?_
              refine xj_if_eq (tgt := 109) dX7_one_105 rfl (fun c105 => absurd c105 (by decide)) (fun c105 => ?_)
              exact xj_return dX7_one_108 rfl (kR_v ⟨(((hfr.trans hfr2 (fun _ h => h)).trans hfr3 (by decide)).trans hfr5 (fun _ h => h)).au (by decide), by rw [hr, hr6]; exact ⟨t5, cl5, o5, ⟨cu c5 28 (.int (b1 true)), Cd5, rfl, hf5, ht5, hk5, ho5, rfl, h66_5, hC5, hl5, hcl5, fun j h1 h2 h3 h4 h5 => by unfold cu; rw [if_neg h5]; exact hcc5 j h1 h2 h3 h4 h5⟩, by omega⟩⟩)
            · have htx5 := hP5
              obtain ⟨c5, Cd5, hO5, hf5, ht5, hk5, ho5, hw5, h66_5, hC5, hl5, hcl5, hcc5⟩ := id htx5
              have hT5 : kT tp c b5 := hT3.u (c' := c) rfl (hfr5 65 (by decide))
              have hqb := prs_b _ _ _ _ _ q (by omega) hp1 (Or.inr (Or.inr (Or.inr rfl)))
              simp only [List.length_nil] at hqb
              have hnb5 := nxT_b (tp := tp) (e := q.2) (by omega)
              have hnf5 := nxF_b (tp := tp) (e := q.2) (by omega)
              by_cases hw7 : isW tp q.2 7 = true
              · have hw7b : ¬ b1 (isW tp q.2 7) = 0 := by rw [hw7]; decide
                have hw7l := isW_lt (tp := tp) (e := q.2) (by omega) (by decide) hw7
                refine xj_aload_n dX7_one_75 rfl rfl ?_
                refine xj_aload_n dX7_one_76 rfl rfl ?_
                refine xj_get dX7_one_77 K7 28 (by decide) q1957 (kG_a (by decide) hO5) (congrArg some hw5) ?_
                refine xj_if_ne (tgt := 93) dX7_one_80 rfl (fun c80 => absurd rfl c80) (fun c80 => ?_)
                refine xj_aload_n dX7_one_83 rfl rfl ?_
                refine xj_ldcSw (u := 7) dX7_one_84 (List.mem_of_getElem? (i := 12) rfl) ?_
                refine xj_cV dX7_one_87 q2305 kV_X7_is (M_is (u := 7) hT5 (by decide) (by omega) htx5) (kG_a (by decide) hO5) rfl rfl rfl rfl (Nat.le_of_ble_eq_true rfl) (xR_ok (by omega) (by decide)) (Nat.le_of_ble_eq_true rfl) (Nat.le_of_ble_eq_true rfl) ?_
                refine xj_if_ne (tgt := 97) dX7_one_90 rfl (fun c90 => ?_) (fun c90 => absurd c90 hw7b)
                refine xj_ic0 dX7_one_97 ?_
                refine xj_put dX7_one_98 K7 28 (by decide) q1957 rfl rfl (kG_a (by decide) hO5) (Nat.le_of_ble_eq_true rfl) ?_
                refine xj_eq rfl rfl (kG_set (by decide)) ?_
                refine xj_aload_n dX7_one_101 rfl rfl ?_
                refine xj_get dX7_one_102 K7 28 (by decide) q1957 (kG_a (by decide) rfl) rfl ?_
                refine xj_if_eq (tgt := 109) dX7_one_105 rfl (fun c105 => ?_) (fun c105 => absurd rfl c105)
                refine xj_aload_n dX7_one_109 rfl rfl ?_
                refine xj_dup dX7_one_110 rfl ?_
                refine xj_get dX7_one_111 K7 27 (by decide) q1956 (kG_a (by decide) rfl) (congrArg some ho5) ?_
                refine xj_ic1 dX7_one_114 ?_
                refine xj_isub dX7_one_115 ?_
                refine xj_top (nI_sub1 (by omega)) ?_
                refine xj_put dX7_one_116 K7 27 (by decide) q1956 rfl rfl (kG_a (by decide) rfl) (Nat.le_of_ble_eq_true rfl) ?_
                refine xj_eq rfl rfl (kG_set (by decide)) ?_
                rw [au_au]
                refine xj_eq rfl rfl (show _ = kG (au b5 54 (cO 7 (mFs (cu (cu c5 28 (.int (b1 false))) 27 (.int (nI o)))))) T from rfl) ?_
                have htx6 : tx tp c (nxF tp q.2) (nxT tp q.2) (cl ++ q.1) o false (au b5 54 (cO 7 (mFs (cu (cu c5 28 (.int (b1 false))) 27 (.int (nI o)))))) := ⟨cu (cu c5 28 (.int (b1 false))) 27 (.int (nI (o))), Cd5, rfl, hf5, ht5, hk5, rfl, rfl, h66_5, hC5, hl5, hcl5, fun j h1 h2 h3 h4 h5 => by unfold cu; rw [if_neg h4, if_neg h5]; exact hcc5 j h1 h2 h3 h4 h5⟩
                refine xj_aload_n dX7_one_119 rfl rfl ?_
                refine xj_dV dX7_one_120 q2282 kV_X7_next (M_next (hT5.u rfl rfl) (by omega) htx6) (kG_a (by decide) rfl) rfl rfl rfl rfl (Nat.le_of_ble_eq_true rfl) (xR_ok (by omega) (by decide)) (Nat.le_of_ble_eq_true rfl) (Nat.le_of_ble_eq_true rfl) ?_
                rintro _ _ ⟨rfl, b7, rfl, hfr7, htx7⟩
                refine xj_goto (tgt := 130) dX7_one_123 rfl ?_
                exact hN b7 ((((hfr2.trans hfr3 (by decide)).trans hfr5 (fun _ h => h)).au (by decide)).trans hfr7 (by decide)) (by rw [hr6, if_pos hw7]; exact htx7) (fun q9 hq9 => by rw [hr6, if_pos hw7] at hq9; cases hq9; exact ⟨by show q.1.length + cl.length + j ≤ nxT tp q.2; omega, by show nxT tp q.2 ≤ _; omega⟩)
              · have hw7 : isW tp q.2 7 = false := by simpa using hw7
                have hw7b : b1 (isW tp q.2 7) = 0 := by rw [hw7]; rfl
                refine xj_aload_n dX7_one_75 rfl rfl ?_
                refine xj_aload_n dX7_one_76 rfl rfl ?_
                refine xj_get dX7_one_77 K7 28 (by decide) q1957 (kG_a (by decide) hO5) (congrArg some hw5) ?_
                refine xj_if_ne (tgt := 93) dX7_one_80 rfl (fun c80 => absurd rfl c80) (fun c80 => ?_)
                refine xj_aload_n dX7_one_83 rfl rfl ?_
                refine xj_ldcSw (u := 7) dX7_one_84 (List.mem_of_getElem? (i := 12) rfl) ?_
                refine xj_cV dX7_one_87 q2305 kV_X7_is (M_is (u := 7) hT5 (by decide) (by omega) htx5) (kG_a (by decide) hO5) rfl rfl rfl rfl (Nat.le_of_ble_eq_true rfl) (xR_ok (by omega) (by decide)) (Nat.le_of_ble_eq_true rfl) (Nat.le_of_ble_eq_true rfl) ?_
                refine xj_if_ne (tgt := 97) dX7_one_90 rfl (fun c90 => absurd hw7b c90) (fun c90 => ?_)
                refine xj_ic1 dX7_one_93 ?_
                refine xj_goto (tgt := 98) dX7_one_94 rfl ?_
                refine xj_put dX7_one_98 K7 28 (by decide) q1957 rfl rfl (kG_a (by decide) hO5) (Nat.le_of_ble_eq_true rfl) ?_
                refine xj_eq rfl rfl (kG_set (by decide)) ?_
                refine xj_aload_n dX7_one_101 rfl rfl ?_
                refine xj_get dX7_one_102 K7 28 (by decide) q1957 (kG_a (by decide) rfl) rfl ?_
                refine xj_if_eq (tgt := 109) dX7_one_105 rfl (fun c105 => absurd c105 (by decide)) (fun c105 => ?_)
                exact xj_return dX7_one_108 rfl (kR_v ⟨(((hfr.trans hfr2 (fun _ h => h)).trans hfr3 (by decide)).trans hfr5 (fun _ h => h)).au (by decide), by rw [hr, hr6, if_neg (by rw [hw7]; decide)]; exact ⟨nxT tp q.2, cl ++ q.1, o + 1, ⟨cu c5 28 (.int (b1 true)), Cd5, rfl, hf5, ht5, hk5, ho5, rfl, h66_5, hC5, hl5, hcl5, fun j h1 h2 h3 h4 h5 => by unfold cu; rw [if_neg h5]; exact hcc5 j h1 h2 h3 h4 h5⟩, by rw [List.length_append]; omega⟩⟩)
      · have hw5 := b1_nz c9
        have hw5l := isW_lt he (by decide) hw5
        obtain ⟨r1, hp1, hn1⟩ := prs_not hs hw5 j
        refine xj_iinc1 (cst := 1) dX7_one_12 rfl rfl ?_
        rw [nI_1]
        refine xj_aload_n dX7_one_15 rfl rfl ?_
        refine xj_dV dX7_one_16 q2282 kV_X7_next (M_next hTa (by omega) htx1) (kG_a (by decide) hO1) rfl rfl rfl rfl (Nat.le_of_ble_eq_true rfl) (xR_ok (by omega) (by decide)) (Nat.le_of_ble_eq_true rfl) (Nat.le_of_ble_eq_true rfl) ?_
        rintro _ _ ⟨rfl, b2, rfl, hfr2, htx2⟩
        refine xj_goto (tgt := 2) dX7_one_19 rfl ?_
        exact ih_lp g (nxT tp e) (j + 1) r1 b2 (by omega) (by omega) (by omega) (by omega) (by omega) hp1 (hr.trans hn1) (hfr.trans hfr2 (by decide)) htx2
  exact lp (f + 1) f e0 0 r0 a0 (by omega) (Nat.le_refl _) (Nat.le_refl _) he0 (by omega) hp (ntA_0 r0).symm (kfr.refl _ _) htxs
theorem all_of {f : Nat} (hcl0 : ∀ f', f' < f → pOneC E T c tp f') : pAllC E T c tp f := by
  intro o e0 cl r0 a0 ho he0 hcl hp hT htxs
  obtain ⟨hf23, L65, h65, htL⟩ := id hT
  have hL200 := htL.1
  have htp := htL.2.1
  have htx0 := htxs
  obtain ⟨c0, Cd0, hO0, hf0, ht0, hk0, ho0, hw0, h66_0, hC0, hl0, hcl0, hcc0⟩ := id htx0
  obtain ⟨f, rfl⟩ : ∃ f0, f = f0 + 1 := ⟨f - 1, by
    have : f ≠ 0 := fun h => by subst h; cases hp
    omega⟩
  have hc : ∀ g, g < f + 1 → pOneC E T c tp g := hcl0
  refine xMet.of (lv := [some (.ref 54)]) rfl rfl (Nat.le_of_ble_eq_true rfl) ?_
  have lp : ∀ (K : Nat) (g : Nat) (e : Nat) (acc : List Int32) (a : Nat → xC), g < K → (g ≤ f + 1) → (e0 ≤ e) → (e ≤ tp.length) → (cl.length + acc.length ≤ e) → (acc.length + e0 ≤ e) → (prs tp g 2 o acc e = some r0) → (kfr [54, 66] a0 a) → (tx tp c (nxF tp e) (nxT tp e) (cl ++ acc) o false a) → xJ E (yX7_all, cX7_all, 1, none, []) (xR (9 + 3 * (3 - o)) 0 0) (kR (none) T (fun b => kfr [54, 66] a0 b ∧ txP tp c cl o e0 r0 b)) 0 0 4 [some (.ref 54)] [] (kG a T) := by
    intro K
    induction K with
    | zero => intro g e acc a h; exact absurd h (Nat.not_lt_zero _)
    | succ K ih_lp =>
      intro g e acc a hK hg hee he hj hj2 hs hfr htx1
      have hTa : kT tp c a := hT.u (c' := c) rfl (hfr 65 (by decide))
      have hnb := nxT_b he
      have hnf := nxF_b he
      obtain ⟨c1, Cd1, hO1, hf1, ht1, hk1, ho1, hw1, h66_1, hC1, hl1, hcl1, hcc1⟩ := id htx1
      obtain ⟨g, rfl⟩ : ∃ g0, g = g0 + 1 := ⟨g - 1, by
        have : g ≠ 0 := fun h => by subst h; cases hs
        omega⟩
      refine xj_aload_n dX7_all_4 rfl rfl ?_
      refine xj_get dX7_all_5 K7 28 (by decide) q1957 (kG_a (by decide) hO1) (congrArg some hw1) ?_
      refine xj_if_ne (tgt := 64) dX7_all_8 rfl (fun c8 => absurd rfl c8) (fun c8 => ?_)
      refine xj_aload_n dX7_all_11 rfl rfl ?_
      refine xj_ldcSw (u := 8) dX7_all_12 (List.mem_of_getElem? (i := 21) rfl) ?_
      refine xj_cV dX7_all_15 q2305 kV_X7_is (M_is (u := 8) hTa (by decide) he htx1) (kG_a (by decide) hO1) rfl rfl rfl rfl (Nat.le_of_ble_eq_true rfl) (xR_ok (by omega) (by decide)) (Nat.le_of_ble_eq_true rfl) (Nat.le_of_ble_eq_true rfl) ?_
      refine xj_if_eq (tgt := 64) dX7_all_18 rfl (fun c18 => ?_) (fun c18 => ?_)
      · exact xj_return dX7_all_64 rfl (kR_v ⟨hfr, by rw [prs_2f hs (b1_z c18)]; exact htx1⟩)
      · have hwl := isW_lt he (by decide) (b1_nz c18)
        have hww : 2 ≤ (wrd 8).length := by decide
        have hla : (cl ++ acc).length = cl.length + acc.length := List.length_append
        refine xj_aload_n dX7_all_21 rfl rfl ?_
        refine xj_dV dX7_all_22 q2282 kV_X7_next (M_next hTa (by omega) htx1) (kG_a (by decide) hO1) rfl rfl rfl rfl (Nat.le_of_ble_eq_true rfl) (xR_ok (by omega) (by decide)) (Nat.le_of_ble_eq_true rfl) (Nat.le_of_ble_eq_true rfl) ?_
        rintro _ _ ⟨rfl, b2, rfl, hfr2, htx2⟩
        have hT2 : kT tp c b2 := hTa.u (c' := c) rfl (hfr2 65 (by decide))
        obtain ⟨x2, hO2⟩ : ∃ x, b2 54 = cO 7 (mFs x) := ⟨_, htx2.choose_spec.choose_spec.1⟩
        rcases prs_2t hs (b1_nz c18) with ⟨p, hp1, hr9⟩ | ⟨q, hp1, hp2⟩
        · refine xj_aload_n dX7_all_25 rfl rfl ?_
          refine xj_dV dX7_all_26 q2300 kV_X7_one (hc g (by omega) o (nxT tp e) (cl ++ acc) (.inl p) b2 ho (by omega) (by omega) hp1 hT2 htx2) (kG_a (by decide) hO2) rfl rfl rfl rfl (Nat.le_of_ble_eq_true rfl) (xR_ok (by omega) (by decide)) (Nat.le_of_ble_eq_true rfl) (Nat.le_of_ble_eq_true rfl) ?_
          rintro _ _ ⟨rfl, b3, rfl, hfr3, hP3⟩
          obtain ⟨t3, cl3, o3, htx3, hB3⟩ := hP3
          obtain ⟨c3, Cd3, hO3, hf3, ht3, hk3, ho3, hw3, h66_3, hC3, hl3, hcl3, hcc3⟩ := id htx3
          refine xj_aload_n dX7_all_29 rfl rfl ?_
          refine xj_get dX7_all_30 K7 21 (by decide) q1950 (kG_a (by decide) hO3) rfl ?_
          refine xj_aload_n dX7_all_33 rfl rfl ?_
          refine xj_get dX7_all_34 K7 26 (by decide) q1955 (kG_a (by decide) hO3) (congrArg some hk3) ?_
          refine xj_bipush (v := -10) dX7_all_37 rfl ?_
          refine xj_iast dX7_all_39 (kG_a (by decide) h66_3) rfl (by omega) (by omega) ?_
          refine xj_eq rfl rfl (kG_set (by decide)) ?_
          refine xj_aload_n dX7_all_40 rfl rfl ?_
          refine xj_dup dX7_all_41 rfl ?_
          refine xj_get dX7_all_42 K7 26 (by decide) q1955 (kG_a (by decide) hO3) (congrArg some hk3) ?_
          refine xj_aload_n dX7_all_45 rfl rfl ?_
          refine xj_get dX7_all_46 K7 28 (by decide) q1957 (kG_a (by decide) hO3) (congrArg some hw3) ?_
          refine xj_if_eq (tgt := 56) dX7_all_49 rfl (fun c49 => absurd c49 (by decide)) (fun c49 => ?_)
          refine xj_ic0 dX7_all_52 ?_
          refine xj_goto (tgt := 57) dX7_all_53 rfl ?_
          refine xj_iadd dX7_all_57 ?_
          refine xj_top (show nI cl3.length + 0 = nI cl3.length from Int32.add_zero _) ?_
          refine xj_put dX7_all_58 K7 26 (by decide) q1955 rfl rfl (kG_a (by decide) hO3) (Nat.le_of_ble_eq_true rfl) ?_
          refine xj_eq rfl rfl (kG_set (by decide)) ?_
          refine xj_goto (tgt := 4) dX7_all_61 rfl ?_
          refine xj_aload_n dX7_all_4 rfl rfl ?_
          refine xj_get dX7_all_5 K7 28 (by decide) q1957 (kG_a (by decide) rfl) (congrArg some hw3) ?_
          refine xj_if_ne (tgt := 64) dX7_all_8 rfl (fun c8 => ?_) (fun c8 => absurd c8 (by decide))
          exact xj_return dX7_all_64 rfl (kR_v ⟨(((hfr.trans hfr2 (by decide)).trans hfr3 (fun _ h => h)).au (by decide)).au (by decide), by rw [hr9]; exact ⟨t3, cl3, o3, ⟨cu c3 26 (.int (nI cl3.length)), _, rfl, hf3, ht3, rfl, ho3, hw3, rfl, by rw [List.length_set]; exact hC3, hl3, cd_keep hcl3, fun j h1 h2 h3 h4 h5 => by unfold cu; rw [if_neg h3]; exact hcc3 j h1 h2 h3 h4 h5⟩, by omega⟩⟩)
        · refine xj_aload_n dX7_all_25 rfl rfl ?_
          refine xj_dV dX7_all_26 q2300 kV_X7_one (hc g (by omega) o (nxT tp e) (cl ++ acc) (.inr q) b2 ho (by omega) (by omega) hp1 hT2 htx2) (kG_a (by decide) hO2) rfl rfl rfl rfl (Nat.le_of_ble_eq_true rfl) (xR_ok (by omega) (by decide)) (Nat.le_of_ble_eq_true rfl) (Nat.le_of_ble_eq_true rfl) ?_
          rintro _ _ ⟨rfl, b3, rfl, hfr3, hP3⟩
          have htx3 : tx tp c (nxF tp q.2) (nxT tp q.2) (cl ++ acc ++ q.1) o false b3 := hP3
          obtain ⟨c3, Cd3, hO3, hf3, ht3, hk3, ho3, hw3, h66_3, hC3, hl3, hcl3, hcc3⟩ := id htx3
          have hqb := prs_b _ _ _ _ _ q (by omega) hp1 (Or.inr (Or.inr (Or.inr rfl)))
          simp only [List.length_nil] at hqb
          have hl4 : (cl ++ acc ++ q.1).length = cl.length + acc.length + q.1.length := by simp; try omega
          refine xj_aload_n dX7_all_29 rfl rfl ?_
          refine xj_get dX7_all_30 K7 21 (by decide) q1950 (kG_a (by decide) hO3) rfl ?_
          refine xj_aload_n dX7_all_33 rfl rfl ?_
          refine xj_get dX7_all_34 K7 26 (by decide) q1955 (kG_a (by decide) hO3) (congrArg some hk3) ?_
          refine xj_bipush (v := -10) dX7_all_37 rfl ?_
          refine xj_iast dX7_all_39 (kG_a (by decide) h66_3) rfl (by omega) (by omega) ?_
          refine xj_eq rfl rfl (kG_set (by decide)) ?_
          refine xj_aload_n dX7_all_40 rfl rfl ?_
          refine xj_dup dX7_all_41 rfl ?_
          refine xj_get dX7_all_42 K7 26 (by decide) q1955 (kG_a (by decide) hO3) (congrArg some hk3) ?_
          refine xj_aload_n dX7_all_45 rfl rfl ?_
          refine xj_get dX7_all_46 K7 28 (by decide) q1957 (kG_a (by decide) hO3) (congrArg some hw3) ?_
          refine xj_if_eq (tgt := 56) dX7_all_49 rfl (fun c49 => ?_) (fun c49 => absurd rfl c49)
          refine xj_ic1 dX7_all_56 ?_
          refine xj_iadd dX7_all_57 ?_
          rw [nI_1]
          refine xj_put dX7_all_58 K7 26 (by decide) q1955 rfl rfl (kG_a (by decide) hO3) (Nat.le_of_ble_eq_true rfl) ?_
          refine xj_eq rfl rfl (kG_set (by decide)) ?_
          refine xj_goto (tgt := 4) dX7_all_61 rfl ?_
          exact ih_lp g q.2 (acc ++ q.1 ++ [-10]) _ (by omega) (by omega) (by omega) (by omega) (by rw [List.length_append, List.length_append, List.length_singleton]; omega) (by rw [List.length_append, List.length_append, List.length_singleton]; omega) hp2 ((((hfr.trans hfr2 (by decide)).trans hfr3 (fun _ h => h)).au (by decide)).au (by decide)) (by
            have hpu := cd_push (v := -10) hcl3 (by omega)
            refine ⟨cu c3 26 (.int (nI ((cl ++ acc ++ q.1).length + 1))), _, rfl, hf3, ht3, ?_, ho3, hw3, rfl, by rw [List.length_set]; exact hC3, ?_, ?_, fun j h1 h2 h3 h4 h5 => by unfold cu; rw [if_neg h3]; exact hcc3 j h1 h2 h3 h4 h5⟩
            · show Value.int (nI _) = Value.int (nI _)
              have hlx : (cl ++ (acc ++ q.1 ++ [(-10 : Int32)])).length = (cl ++ acc ++ q.1).length + 1 := by simp; try omega
              rw [hlx]
            · simp at hl4 ⊢; omega
            · rw [show cl ++ (acc ++ q.1 ++ [-10]) = cl ++ acc ++ q.1 ++ [-10] by simp]; exact hpu)
  rcases prs_1 hp with ⟨p, hp1, hr9⟩ | ⟨q, hp1, hp2⟩
  · refine xj_aload_n dX7_all_0 rfl rfl ?_
    refine xj_dV dX7_all_1 q2300 kV_X7_one (hc f (by omega) o e0 cl (.inl p) a0 ho he0 hcl hp1 hT htxs) (kG_a (by decide) hO0) rfl rfl rfl rfl (Nat.le_of_ble_eq_true rfl) (xR_ok (by omega) (by decide)) (Nat.le_of_ble_eq_true rfl) (Nat.le_of_ble_eq_true rfl) ?_
    rintro _ _ ⟨rfl, b3, rfl, hfr3, hP3⟩
    obtain ⟨t3, cl3, o3, htx3, hB3⟩ := hP3
    obtain ⟨c3, Cd3, hO3, hf3, ht3, hk3, ho3, hw3, h66_3, hC3, hl3, hcl3, hcc3⟩ := id htx3
    refine xj_aload_n dX7_all_4 rfl rfl ?_
    refine xj_get dX7_all_5 K7 28 (by decide) q1957 (kG_a (by decide) hO3) (congrArg some hw3) ?_
    refine xj_if_ne (tgt := 64) dX7_all_8 rfl (fun c8 => ?_) (fun c8 => absurd c8 (by decide))
    exact xj_return dX7_all_64 rfl (kR_v ⟨hfr3, by rw [hr9]; exact ⟨t3, cl3, o3, htx3, hB3⟩⟩)
  · refine xj_aload_n dX7_all_0 rfl rfl ?_
    refine xj_dV dX7_all_1 q2300 kV_X7_one (hc f (by omega) o e0 cl (.inr q) a0 ho he0 hcl hp1 hT htxs) (kG_a (by decide) hO0) rfl rfl rfl rfl (Nat.le_of_ble_eq_true rfl) (xR_ok (by omega) (by decide)) (Nat.le_of_ble_eq_true rfl) (Nat.le_of_ble_eq_true rfl) ?_
    rintro _ _ ⟨rfl, b3, rfl, hfr3, hP3⟩
    have hqb := prs_b _ _ _ _ _ q he0 hp1 (Or.inr (Or.inr (Or.inr rfl)))
    simp only [List.length_nil] at hqb
    exact lp (f + 1) f q.2 q.1 b3 (by omega) (by omega) (by omega) (by omega) (by omega) (by omega) hp2 hfr3 hP3
theorem cond_of {f : Nat} (hcl0 : ∀ f', f' < f → pAllC E T c tp f') : pCondC E T c tp f := by
  intro o e0 cl r0 a0 ho he0 hcl hp hT htxs
  obtain ⟨hf23, L65, h65, htL⟩ := id hT
  have hL200 := htL.1
  have htp := htL.2.1
  have htx0 := htxs
  obtain ⟨c0, Cd0, hO0, hf0, ht0, hk0, ho0, hw0, h66_0, hC0, hl0, hcl0, hcc0⟩ := id htx0
  obtain ⟨f, rfl⟩ : ∃ f0, f = f0 + 1 := ⟨f - 1, by
    have : f ≠ 0 := fun h => by subst h; cases hp
    omega⟩
  have hc : ∀ g, g < f + 1 → pAllC E T c tp g := hcl0
  refine xMet.of (lv := [some (.ref 54)]) rfl rfl (Nat.le_of_ble_eq_true rfl) ?_
  have lp : ∀ (K : Nat) (g : Nat) (e : Nat) (acc : List Int32) (a : Nat → xC), g < K → (g ≤ f + 1) → (e0 ≤ e) → (e ≤ tp.length) → (cl.length + acc.length ≤ e) → (acc.length + e0 ≤ e) → (prs tp g 4 o acc e = some r0) → (kfr [54, 66] a0 a) → (tx tp c (nxF tp e) (nxT tp e) (cl ++ acc) o false a) → xJ E (yX7_cond, cX7_cond, 1, none, []) (xR (10 + 3 * (3 - o)) 0 0) (kR (none) T (fun b => kfr [54, 66] a0 b ∧ txP tp c cl o e0 r0 b)) 0 0 4 [some (.ref 54)] [] (kG a T) := by
    intro K
    induction K with
    | zero => intro g e acc a h; exact absurd h (Nat.not_lt_zero _)
    | succ K ih_lp =>
      intro g e acc a hK hg hee he hj hj2 hs hfr htx1
      have hTa : kT tp c a := hT.u (c' := c) rfl (hfr 65 (by decide))
      have hnb := nxT_b he
      have hnf := nxF_b he
      obtain ⟨c1, Cd1, hO1, hf1, ht1, hk1, ho1, hw1, h66_1, hC1, hl1, hcl1, hcc1⟩ := id htx1
      obtain ⟨g, rfl⟩ : ∃ g0, g = g0 + 1 := ⟨g - 1, by
        have : g ≠ 0 := fun h => by subst h; cases hs
        omega⟩
      refine xj_aload_n dX7_cond_4 rfl rfl ?_
      refine xj_get dX7_cond_5 K7 28 (by decide) q1957 (kG_a (by decide) hO1) (congrArg some hw1) ?_
      refine xj_if_ne (tgt := 64) dX7_cond_8 rfl (fun c8 => absurd rfl c8) (fun c8 => ?_)
      refine xj_aload_n dX7_cond_11 rfl rfl ?_
      refine xj_ldcSw (u := 9) dX7_cond_12 (List.mem_of_getElem? (i := 22) rfl) ?_
      refine xj_cV dX7_cond_15 q2305 kV_X7_is (M_is (u := 9) hTa (by decide) he htx1) (kG_a (by decide) hO1) rfl rfl rfl rfl (Nat.le_of_ble_eq_true rfl) (xR_ok (by omega) (by decide)) (Nat.le_of_ble_eq_true rfl) (Nat.le_of_ble_eq_true rfl) ?_
      refine xj_if_eq (tgt := 64) dX7_cond_18 rfl (fun c18 => ?_) (fun c18 => ?_)
      · exact xj_return dX7_cond_64 rfl (kR_v ⟨hfr, by rw [prs_4f hs (b1_z c18)]; exact htx1⟩)
      · have hwl := isW_lt he (by decide) (b1_nz c18)
        have hww : 2 ≤ (wrd 9).length := by decide
        have hla : (cl ++ acc).length = cl.length + acc.length := List.length_append
        refine xj_aload_n dX7_cond_21 rfl rfl ?_
        refine xj_dV dX7_cond_22 q2282 kV_X7_next (M_next hTa (by omega) htx1) (kG_a (by decide) hO1) rfl rfl rfl rfl (Nat.le_of_ble_eq_true rfl) (xR_ok (by omega) (by decide)) (Nat.le_of_ble_eq_true rfl) (Nat.le_of_ble_eq_true rfl) ?_
        rintro _ _ ⟨rfl, b2, rfl, hfr2, htx2⟩
        have hT2 : kT tp c b2 := hTa.u (c' := c) rfl (hfr2 65 (by decide))
        obtain ⟨x2, hO2⟩ : ∃ x, b2 54 = cO 7 (mFs x) := ⟨_, htx2.choose_spec.choose_spec.1⟩
        rcases prs_4t hs (b1_nz c18) with ⟨p, hp1, hr9⟩ | ⟨q, hp1, hp2⟩
        · refine xj_aload_n dX7_cond_25 rfl rfl ?_
          refine xj_dV dX7_cond_26 q2296 kV_X7_all (hc g (by omega) o (nxT tp e) (cl ++ acc) (.inl p) b2 ho (by omega) (by omega) hp1 hT2 htx2) (kG_a (by decide) hO2) rfl rfl rfl rfl (Nat.le_of_ble_eq_true rfl) (xR_ok (by omega) (by decide)) (Nat.le_of_ble_eq_true rfl) (Nat.le_of_ble_eq_true rfl) ?_
          rintro _ _ ⟨rfl, b3, rfl, hfr3, hP3⟩
          obtain ⟨t3, cl3, o3, htx3, hB3⟩ := hP3
          obtain ⟨c3, Cd3, hO3, hf3, ht3, hk3, ho3, hw3, h66_3, hC3, hl3, hcl3, hcc3⟩ := id htx3
          refine xj_aload_n dX7_cond_29 rfl rfl ?_
          refine xj_get dX7_cond_30 K7 21 (by decide) q1950 (kG_a (by decide) hO3) rfl ?_
          refine xj_aload_n dX7_cond_33 rfl rfl ?_
          refine xj_get dX7_cond_34 K7 26 (by decide) q1955 (kG_a (by decide) hO3) (congrArg some hk3) ?_
          refine xj_bipush (v := -11) dX7_cond_37 rfl ?_
          refine xj_iast dX7_cond_39 (kG_a (by decide) h66_3) rfl (by omega) (by omega) ?_
          refine xj_eq rfl rfl (kG_set (by decide)) ?_
          refine xj_aload_n dX7_cond_40 rfl rfl ?_
          refine xj_dup dX7_cond_41 rfl ?_
          refine xj_get dX7_cond_42 K7 26 (by decide) q1955 (kG_a (by decide) hO3) (congrArg some hk3) ?_
          refine xj_aload_n dX7_cond_45 rfl rfl ?_
          refine xj_get dX7_cond_46 K7 28 (by decide) q1957 (kG_a (by decide) hO3) (congrArg some hw3) ?_
          refine xj_if_eq (tgt := 56) dX7_cond_49 rfl (fun c49 => absurd c49 (by decide)) (fun c49 => ?_)
          refine xj_ic0 dX7_cond_52 ?_
          refine xj_goto (tgt := 57) dX7_cond_53 rfl ?_
          refine xj_iadd dX7_cond_57 ?_
          refine xj_top (show nI cl3.length + 0 = nI cl3.length from Int32.add_zero _) ?_
          refine xj_put dX7_cond_58 K7 26 (by decide) q1955 rfl rfl (kG_a (by decide) hO3) (Nat.le_of_ble_eq_true rfl) ?_
          refine xj_eq rfl rfl (kG_set (by decide)) ?_
          refine xj_goto (tgt := 4) dX7_cond_61 rfl ?_
          refine xj_aload_n dX7_cond_4 rfl rfl ?_
          refine xj_get dX7_cond_5 K7 28 (by decide) q1957 (kG_a (by decide) rfl) (congrArg some hw3) ?_
          refine xj_if_ne (tgt := 64) dX7_cond_8 rfl (fun c8 => ?_) (fun c8 => absurd c8 (by decide))
          exact xj_return dX7_cond_64 rfl (kR_v ⟨(((hfr.trans hfr2 (by decide)).trans hfr3 (fun _ h => h)).au (by decide)).au (by decide), by rw [hr9]; exact ⟨t3, cl3, o3, ⟨cu c3 26 (.int (nI cl3.length)), _, rfl, hf3, ht3, rfl, ho3, hw3, rfl, by rw [List.length_set]; exact hC3, hl3, cd_keep hcl3, fun j h1 h2 h3 h4 h5 => by unfold cu; rw [if_neg h3]; exact hcc3 j h1 h2 h3 h4 h5⟩, by omega⟩⟩)
        · refine xj_aload_n dX7_cond_25 rfl rfl ?_
          refine xj_dV dX7_cond_26 q2296 kV_X7_all (hc g (by omega) o (nxT tp e) (cl ++ acc) (.inr q) b2 ho (by omega) (by omega) hp1 hT2 htx2) (kG_a (by decide) hO2) rfl rfl rfl rfl (Nat.le_of_ble_eq_true rfl) (xR_ok (by omega) (by decide)) (Nat.le_of_ble_eq_true rfl) (Nat.le_of_ble_eq_true rfl) ?_
          rintro _ _ ⟨rfl, b3, rfl, hfr3, hP3⟩
          have htx3 : tx tp c (nxF tp q.2) (nxT tp q.2) (cl ++ acc ++ q.1) o false b3 := hP3
          obtain ⟨c3, Cd3, hO3, hf3, ht3, hk3, ho3, hw3, h66_3, hC3, hl3, hcl3, hcc3⟩ := id htx3
          have hqb := prs_b _ _ _ _ _ q (by omega) hp1 (Or.inr (Or.inr (Or.inr rfl)))
          simp only [List.length_nil] at hqb
          have hl4 : (cl ++ acc ++ q.1).length = cl.length + acc.length + q.1.length := by simp; try omega
          refine xj_aload_n dX7_cond_29 rfl rfl ?_
          refine xj_get dX7_cond_30 K7 21 (by decide) q1950 (kG_a (by decide) hO3) rfl ?_
          refine xj_aload_n dX7_cond_33 rfl rfl ?_
          refine xj_get dX7_cond_34 K7 26 (by decide) q1955 (kG_a (by decide) hO3) (congrArg some hk3) ?_
          refine xj_bipush (v := -11) dX7_cond_37 rfl ?_
          refine xj_iast dX7_cond_39 (kG_a (by decide) h66_3) rfl (by omega) (by omega) ?_
          refine xj_eq rfl rfl (kG_set (by decide)) ?_
          refine xj_aload_n dX7_cond_40 rfl rfl ?_
          refine xj_dup dX7_cond_41 rfl ?_
          refine xj_get dX7_cond_42 K7 26 (by decide) q1955 (kG_a (by decide) hO3) (congrArg some hk3) ?_
          refine xj_aload_n dX7_cond_45 rfl rfl ?_
          refine xj_get dX7_cond_46 K7 28 (by decide) q1957 (kG_a (by decide) hO3) (congrArg some hw3) ?_
          refine xj_if_eq (tgt := 56) dX7_cond_49 rfl (fun c49 => ?_) (fun c49 => absurd rfl c49)
          refine xj_ic1 dX7_cond_56 ?_
          refine xj_iadd dX7_cond_57 ?_
          rw [nI_1]
          refine xj_put dX7_cond_58 K7 26 (by decide) q1955 rfl rfl (kG_a (by decide) hO3) (Nat.le_of_ble_eq_true rfl) ?_
          refine xj_eq rfl rfl (kG_set (by decide)) ?_
          refine xj_goto (tgt := 4) dX7_cond_61 rfl ?_
          exact ih_lp g q.2 (acc ++ q.1 ++ [-11]) _ (by omega) (by omega) (by omega) (by omega) (by rw [List.length_append, List.length_append, List.length_singleton]; omega) (by rw [List.length_append, List.length_append, List.length_singleton]; omega) hp2 ((((hfr.trans hfr2 (by decide)).trans hfr3 (fun _ h => h)).au (by decide)).au (by decide)) (by
            have hpu := cd_push (v := -11) hcl3 (by omega)
            refine ⟨cu c3 26 (.int (nI ((cl ++ acc ++ q.1).length + 1))), _, rfl, hf3, ht3, ?_, ho3, hw3, rfl, by rw [List.length_set]; exact hC3, ?_, ?_, fun j h1 h2 h3 h4 h5 => by unfold cu; rw [if_neg h3]; exact hcc3 j h1 h2 h3 h4 h5⟩
            · show Value.int (nI _) = Value.int (nI _)
              have hlx : (cl ++ (acc ++ q.1 ++ [(-11 : Int32)])).length = (cl ++ acc ++ q.1).length + 1 := by simp; try omega
              rw [hlx]
            · simp at hl4 ⊢; omega
            · rw [show cl ++ (acc ++ q.1 ++ [-11]) = cl ++ acc ++ q.1 ++ [-11] by simp]; exact hpu)
  rcases prs_3 hp with ⟨p, hp1, hr9⟩ | ⟨q, hp1, hp2⟩
  · refine xj_aload_n dX7_cond_0 rfl rfl ?_
    refine xj_dV dX7_cond_1 q2296 kV_X7_all (hc f (by omega) o e0 cl (.inl p) a0 ho he0 hcl hp1 hT htxs) (kG_a (by decide) hO0) rfl rfl rfl rfl (Nat.le_of_ble_eq_true rfl) (xR_ok (by omega) (by decide)) (Nat.le_of_ble_eq_true rfl) (Nat.le_of_ble_eq_true rfl) ?_
    rintro _ _ ⟨rfl, b3, rfl, hfr3, hP3⟩
    obtain ⟨t3, cl3, o3, htx3, hB3⟩ := hP3
    obtain ⟨c3, Cd3, hO3, hf3, ht3, hk3, ho3, hw3, h66_3, hC3, hl3, hcl3, hcc3⟩ := id htx3
    refine xj_aload_n dX7_cond_4 rfl rfl ?_
    refine xj_get dX7_cond_5 K7 28 (by decide) q1957 (kG_a (by decide) hO3) (congrArg some hw3) ?_
    refine xj_if_ne (tgt := 64) dX7_cond_8 rfl (fun c8 => ?_) (fun c8 => absurd c8 (by decide))
    exact xj_return dX7_cond_64 rfl (kR_v ⟨hfr3, by rw [hr9]; exact ⟨t3, cl3, o3, htx3, hB3⟩⟩)
  · refine xj_aload_n dX7_cond_0 rfl rfl ?_
    refine xj_dV dX7_cond_1 q2296 kV_X7_all (hc f (by omega) o e0 cl (.inr q) a0 ho he0 hcl hp1 hT htxs) (kG_a (by decide) hO0) rfl rfl rfl rfl (Nat.le_of_ble_eq_true rfl) (xR_ok (by omega) (by decide)) (Nat.le_of_ble_eq_true rfl) (Nat.le_of_ble_eq_true rfl) ?_
    rintro _ _ ⟨rfl, b3, rfl, hfr3, hP3⟩
    have hqb := prs_b _ _ _ _ _ q he0 hp1 (Or.inr (Or.inr (Or.inr rfl)))
    simp only [List.length_nil] at hqb
    exact lp (f + 1) f q.2 q.1 b3 (by omega) (by omega) (by omega) (by omega) (by omega) (by omega) hp2 hfr3 hP3
theorem prs_all (f : Nat) : pOneC E T c tp f ∧ pAllC E T c tp f ∧ pCondC E T c tp f := by
  induction f using Nat.strongRecOn with
  | _ f ih => exact ⟨one_of (fun g hg => (ih g hg).2.2), all_of (fun g hg => (ih g hg).1), cond_of (fun g hg => (ih g hg).2.1)⟩
end M26
