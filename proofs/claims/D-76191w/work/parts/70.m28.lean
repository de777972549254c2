/-! ===== the reference: the text (5) ===== -/
set_option maxRecDepth 100000
theorem kV_X7_holds : xsV yX7_holds cX7_holds 4 (some FieldType.boolean) 1 := ⟨q2341, qs117, q161, q2342, by decide, by decide, by decide +kernel⟩
def kX (c : Nat → Value) (a : Nat → xC) : Prop := (∃ f : Nat, c 24 = .int (nI f)) ∧ ∃ Cd S : List Int32, a 66 = cI 0 Cd ∧ Cd.length = 200 ∧ a 67 = cI 0 S ∧ S.length = 200
theorem kX.u {c c' : Nat → Value} {a b : Nat → xC} (h : kX c a) (h0 : c' 24 = c 24) (h1 : b 66 = a 66) (h2 : b 67 = a 67) : kX c' b := by
  obtain ⟨⟨f, p0⟩, Cd, S, p1, p2, p3, p4⟩ := h
  exact ⟨⟨f, h0.trans p0⟩, Cd, S, h1.trans p1, p2, h2.trans p3, p4⟩
section M28
variable {E : xE} {G T : xH} {a : Nat → xC} {c : Nat → Value} {n : Nat}
theorem M_text {tp : List Nat} {w : Int32} {g : Nat} {r : Nat ⊕ (List Int32 × Nat)}  (hv : kV c n a) (ha : kA n a) (hf : kF c n a) (hf3 : c 3 = .long (lN g)) (hg : g < 2 ^ 57) (hT : kT tp c a) (hX : kX c a) (hr : prs tp 1000 3 0 [] 0 = some r) : xMet E yX7_text cX7_text 5 (some FieldType.int) 20 0 0 [.ref 54, .int w] (kG a T) (kR (some (.int (o_text n g tp w))) T (fun b => kfr [54, 66, 67] a b ∧ ∃ c' : Nat → Value, b 54 = cO 7 (mFs c') ∧ c' 3 = .long (lN (s_textG n g tp w)) ∧ kT (s_textT tp w) c' b ∧ kX c' b ∧ ∀ j, j ≠ 3 → j ≠ 23 → j ≠ 24 → j ≠ 25 → j ≠ 26 → j ≠ 27 → j ≠ 28 → c' j = c j)) := by
  obtain ⟨hO, hf0, h1n, hn6, h63, h64⟩ := id hv
  obtain ⟨hf23, L65, h65, htL⟩ := id hT
  have hL200 := htL.1
  have htp := htL.2.1
  obtain ⟨⟨f0, hf24⟩, Cd0, S0, h66, hCd0, h67, hS0⟩ := id hX
  have hna := na_lt n (by omega)
  refine xMet.of (lv := [some (.ref 54), some (.int w), none, none, none]) rfl rfl (Nat.le_of_ble_eq_true rfl) ?_
  refine xj_iload_n dX7_text_0 rfl ?_
  refine xj_i2l dX7_text_1 ?_
  refine xj_lc0 dX7_text_2 ?_
  refine xj_ldc2 dX7_text_3 q2247 ?_
  refine xj_cS dX7_text_6 q2085 kS_X7_in M_in rfl rfl (Nat.le_of_ble_eq_true rfl) ⟨(Nat.le_of_ble_eq_true rfl), (Nat.le_of_ble_eq_true rfl)⟩ (Nat.le_of_ble_eq_true rfl) (Nat.le_of_ble_eq_true rfl) ?_
  rw [inB_c2]
  refine xj_if_ne (tgt := 14) dX7_text_9 rfl (fun c9 => ?_) (fun c9 => ?_)
  · have hb1 := b1_nz c9
    refine xj_aload_n dX7_text_14 rfl rfl ?_
    refine xj_ic0 dX7_text_15 ?_
    refine xj_put dX7_text_16 K7 25 (by decide) q1954 rfl rfl (kG_a (by decide) hO) (Nat.le_of_ble_eq_true rfl) ?_
    refine xj_eq rfl rfl (kG_set (by decide)) ?_
    refine xj_aload_n dX7_text_19 rfl rfl ?_
    refine xj_ic0 dX7_text_20 ?_
    refine xj_put dX7_text_21 K7 26 (by decide) q1955 rfl rfl (kG_a (by decide) rfl) (Nat.le_of_ble_eq_true rfl) ?_
    refine xj_eq rfl rfl (kG_set (by decide)) ?_
    refine xj_aload_n dX7_text_24 rfl rfl ?_
    refine xj_ic0 dX7_text_25 ?_
    refine xj_put dX7_text_26 K7 27 (by decide) q1956 rfl rfl (kG_a (by decide) rfl) (Nat.le_of_ble_eq_true rfl) ?_
    refine xj_eq rfl rfl (kG_set (by decide)) ?_
    refine xj_aload_n dX7_text_29 rfl rfl ?_
    refine xj_ic0 dX7_text_30 ?_
    refine xj_put dX7_text_31 K7 28 (by decide) q1957 rfl rfl (kG_a (by decide) rfl) (Nat.le_of_ble_eq_true rfl) ?_
    refine xj_eq rfl rfl (kG_set (by decide)) ?_
    rw [au_au, au_au, au_au]
    refine xj_eq rfl rfl (show _ = kG (au a 54 (cO 7 (mFs (cu (cu (cu (cu c 25 (.int (nI 0))) 26 (.int (nI 0))) 27 (.int (nI 0))) 28 (.int (b1 false)))))) T from rfl) ?_
    have htx1 : tx tp c f0 0 [] 0 false (au a 54 (cO 7 (mFs (cu (cu (cu (cu c 25 (.int (nI 0))) 26 (.int (nI 0))) 27 (.int (nI 0))) 28 (.int (b1 false)))))) := ⟨(cu (cu (cu (cu c 25 (.int (nI 0))) 26 (.int (nI 0))) 27 (.int (nI 0))) 28 (.int (b1 false))), Cd0, rfl, hf24, rfl, rfl, rfl, rfl, h66, hCd0, by decide, (fun i v h => by cases h), fun j h1 h2 h3 h4 h5 => by unfold cu; rw [if_neg h5, if_neg h4, if_neg h3, if_neg h2]⟩
    refine xj_aload_n dX7_text_34 rfl rfl ?_
    refine xj_dV dX7_text_35 q2282 kV_X7_next (M_next (hT.u rfl rfl) (Nat.zero_le _) htx1) (kG_a (by decide) rfl) rfl rfl rfl rfl (Nat.le_of_ble_eq_true rfl) ⟨(Nat.le_of_ble_eq_true rfl), (Nat.le_of_ble_eq_true rfl)⟩ (Nat.le_of_ble_eq_true rfl) (Nat.le_of_ble_eq_true rfl) ?_
    rintro _ _ ⟨rfl, b3, rfl, hfr3, htx3⟩
    have hT3 : kT tp c b3 := hT.u (c' := c) rfl ((hfr3 65 (by decide)).trans rfl)
    obtain ⟨x3, hO3⟩ : ∃ x, b3 54 = cO 7 (mFs x) := ⟨_, htx3.choose_spec.choose_spec.1⟩
    refine xj_aload_n dX7_text_38 rfl rfl ?_
    refine xj_dV dX7_text_39 q2292 kV_X7_cond ((prs_all 1000).2.2 0 0 [] r b3 (by decide) (Nat.zero_le _) (Nat.le_refl _) hr hT3 htx3) (kG_a (by decide) hO3) rfl rfl rfl rfl (Nat.le_of_ble_eq_true rfl) ⟨(Nat.le_of_ble_eq_true rfl), (Nat.le_of_ble_eq_true rfl)⟩ (Nat.le_of_ble_eq_true rfl) (Nat.le_of_ble_eq_true rfl) ?_
    rintro _ _ ⟨rfl, b5, rfl, hfr5, hP5⟩
    have hfrB : kfr [54, 66] a b5 := (((kfr.refl _ _).au (by decide)).trans hfr3 (by decide)).trans hfr5 (by decide)
    have hfrA : kfr [54, 66, 67] a b5 := hfrB.mono (by decide)
    cases r with
    | inl p =>
      obtain ⟨t5, cl5, o5, htx5, hB5⟩ := hP5
      obtain ⟨c5, Cd5, hO5, hf5, ht5, hk5, ho5, hw5, h66_5, hC5, hl5, hcl5, hcc5⟩ := id htx5
      have hpA : pAll tp = some (.inl p) := by unfold pAll; rw [hr]; rfl
      refine xj_aload_n dX7_text_42 rfl rfl ?_
      refine xj_aload_n dX7_text_43 rfl rfl ?_
      refine xj_get dX7_text_44 K7 28 (by decide) q1957 (kG_a (by decide) hO5) (congrArg some hw5) ?_
      refine xj_if_ne (tgt := 61) dX7_text_47 rfl (fun c47 => ?_) (fun c47 => absurd c47 (by decide))
      refine xj_ic1 dX7_text_61 ?_
      refine xj_goto (tgt := 66) dX7_text_62 rfl ?_
      refine xj_put dX7_text_66 K7 28 (by decide) q1957 rfl rfl (kG_a (by decide) hO5) (Nat.le_of_ble_eq_true rfl) ?_
      refine xj_eq rfl rfl (kG_set (by decide)) ?_
      refine xj_aload_n dX7_text_69 rfl rfl ?_
      refine xj_ic0 dX7_text_70 ?_
      refine xj_put dX7_text_71 K7 23 (by decide) q1952 rfl rfl (kG_a (by decide) rfl) (Nat.le_of_ble_eq_true rfl) ?_
      refine xj_eq rfl rfl (kG_set (by decide)) ?_
      refine xj_aload_n dX7_text_74 rfl rfl ?_
      refine xj_get dX7_text_75 K7 28 (by decide) q1957 (kG_a (by decide) rfl) rfl ?_
      refine xj_if_eq (tgt := 89) dX7_text_78 rfl (fun c78 => absurd c78 (by decide)) (fun c78 => ?_)
      refine xj_bipush (v := -100) dX7_text_81 rfl ?_
      refine xj_aload_n dX7_text_83 rfl rfl ?_
      refine xj_get dX7_text_84 K7 24 (by decide) q1953 (kG_a (by decide) rfl) (congrArg some hf5) ?_
      refine xj_isub dX7_text_87 ?_
      exact xj_ireturn dX7_text_88 rfl rfl (kR_i (by unfold o_text; rw [if_pos hb1, hpA]) ⟨(hfrA.au (by decide)).au (by decide), cu (cu c5 28 (.int 1)) 23 (.int 0), by rw [au_au]; rfl, by unfold s_textG; rw [if_pos hb1, hpA]; exact (hcc5 3 (by decide) (by decide) (by decide) (by decide) (by decide)).trans hf3, by unfold s_textT; rw [if_pos hb1]; exact ⟨rfl, L65, (hfrA 65 (by decide)).trans h65, htL.1, Nat.zero_le _, fun i v h => by cases h⟩, ⟨⟨_, hf5⟩, Cd5, S0, h66_5, hC5, (hfrB 67 (by decide)).trans h67, hS0⟩, fun j j3 j23 j24 j25 j26 j27 j28 => by unfold cu; rw [if_neg j23, if_neg j28]; exact hcc5 j j24 j25 j26 j27 j28⟩)
    | inr q =>
      have htx5 : tx tp c (nxF tp q.2) (nxT tp q.2) q.1 0 false b5 := hP5
      obtain ⟨c5, Cd5, hO5, hf5, ht5, hk5, ho5, hw5, h66_5, hC5, hl5, hcl5, hcc5⟩ := id htx5
      have hqb := prs_b _ _ _ _ _ q (Nat.zero_le _) hr (Or.inr (Or.inr (Or.inr rfl)))
      have hnf5 := nxF_b (tp := tp) (e := q.2) (by omega)
      by_cases hlt5 : nxF tp q.2 < tp.length
      · have hpA : pAll tp = some (.inl (nxF tp q.2)) := by unfold pAll; rw [hr]; exact if_pos hlt5
        refine xj_aload_n dX7_text_42 rfl rfl ?_
        refine xj_aload_n dX7_text_43 rfl rfl ?_
        refine xj_get dX7_text_44 K7 28 (by decide) q1957 (kG_a (by decide) hO5) (congrArg some hw5) ?_
        refine xj_if_ne (tgt := 61) dX7_text_47 rfl (fun c47 => absurd rfl c47) (fun c47 => ?_)
        refine xj_aload_n dX7_text_50 rfl rfl ?_
        refine xj_get dX7_text_51 K7 24 (by decide) q1953 (kG_a (by decide) hO5) (congrArg some hf5) ?_
        refine xj_aload_n dX7_text_54 rfl rfl ?_
        refine xj_get dX7_text_55 K7 23 (by decide) q1952 (kG_a (by decide) hO5) (congrArg some ((hcc5 23 (by decide) (by decide) (by decide) (by decide) (by decide)).trans hf23)) ?_
        refine xj_icmp_ge (tgt := 65) dX7_text_58 rfl (fun c58 => absurd c58 (nI_ge hlt5 (by omega))) (fun c58 => ?_)
        refine xj_ic1 dX7_text_61 ?_
        refine xj_goto (tgt := 66) dX7_text_62 rfl ?_
        refine xj_put dX7_text_66 K7 28 (by decide) q1957 rfl rfl (kG_a (by decide) hO5) (Nat.le_of_ble_eq_true rfl) ?_
        refine xj_eq rfl rfl (kG_set (by decide)) ?_
        refine xj_aload_n dX7_text_69 rfl rfl ?_
        refine xj_ic0 dX7_text_70 ?_
        refine xj_put dX7_text_71 K7 23 (by decide) q1952 rfl rfl (kG_a (by decide) rfl) (Nat.le_of_ble_eq_true rfl) ?_
        refine xj_eq rfl rfl (kG_set (by decide)) ?_
        refine xj_aload_n dX7_text_74 rfl rfl ?_
        refine xj_get dX7_text_75 K7 28 (by decide) q1957 (kG_a (by decide) rfl) rfl ?_
        refine xj_if_eq (tgt := 89) dX7_text_78 rfl (fun c78 => absurd c78 (by decide)) (fun c78 => ?_)
        refine xj_bipush (v := -100) dX7_text_81 rfl ?_
        refine xj_aload_n dX7_text_83 rfl rfl ?_
        refine xj_get dX7_text_84 K7 24 (by decide) q1953 (kG_a (by decide) rfl) (congrArg some hf5) ?_
        refine xj_isub dX7_text_87 ?_
        exact xj_ireturn dX7_text_88 rfl rfl (kR_i (by unfold o_text; rw [if_pos hb1, hpA]) ⟨(hfrA.au (by decide)).au (by decide), cu (cu c5 28 (.int 1)) 23 (.int 0), by rw [au_au]; rfl, by unfold s_textG; rw [if_pos hb1, hpA]; exact (hcc5 3 (by decide) (by decide) (by decide) (by decide) (by decide)).trans hf3, by unfold s_textT; rw [if_pos hb1]; exact ⟨rfl, L65, (hfrA 65 (by decide)).trans h65, htL.1, Nat.zero_le _, fun i v h => by cases h⟩, ⟨⟨_, hf5⟩, Cd5, S0, h66_5, hC5, (hfrB 67 (by decide)).trans h67, hS0⟩, fun j j3 j23 j24 j25 j26 j27 j28 => by unfold cu; rw [if_neg j23, if_neg j28]; exact hcc5 j j24 j25 j26 j27 j28⟩)
      · have hpA : pAll tp = some (.inr q) := by unfold pAll; rw [hr]; exact if_neg hlt5
        refine xj_aload_n dX7_text_42 rfl rfl ?_
        refine xj_aload_n dX7_text_43 rfl rfl ?_
        refine xj_get dX7_text_44 K7 28 (by decide) q1957 (kG_a (by decide) hO5) (congrArg some hw5) ?_
        refine xj_if_ne (tgt := 61) dX7_text_47 rfl (fun c47 => absurd rfl c47) (fun c47 => ?_)
        refine xj_aload_n dX7_text_50 rfl rfl ?_
        refine xj_get dX7_text_51 K7 24 (by decide) q1953 (kG_a (by decide) hO5) (congrArg some hf5) ?_
        refine xj_aload_n dX7_text_54 rfl rfl ?_
        refine xj_get dX7_text_55 K7 23 (by decide) q1952 (kG_a (by decide) hO5) (congrArg some ((hcc5 23 (by decide) (by decide) (by decide) (by decide) (by decide)).trans hf23)) ?_
        refine xj_icmp_ge (tgt := 65) dX7_text_58 rfl (fun c58 => ?_) (fun c58 => absurd (nI_le (by omega) (by omega)) c58)
        refine xj_ic0 dX7_text_65 ?_
        refine xj_put dX7_text_66 K7 28 (by decide) q1957 rfl rfl (kG_a (by decide) hO5) (Nat.le_of_ble_eq_true rfl) ?_
        refine xj_eq rfl rfl (kG_set (by decide)) ?_
        refine xj_aload_n dX7_text_69 rfl rfl ?_
        refine xj_ic0 dX7_text_70 ?_
        refine xj_put dX7_text_71 K7 23 (by decide) q1952 rfl rfl (kG_a (by decide) rfl) (Nat.le_of_ble_eq_true rfl) ?_
        refine xj_eq rfl rfl (kG_set (by decide)) ?_
        refine xj_aload_n dX7_text_74 rfl rfl ?_
        refine xj_get dX7_text_75 K7 28 (by decide) q1957 (kG_a (by decide) rfl) rfl ?_
        refine xj_if_eq (tgt := 89) dX7_text_78 rfl (fun c78 => ?_) (fun c78 => absurd rfl c78)
        rw [au_au]
        have hv6 : kV (cu (cu c5 28 (.int 0)) 23 (.int 0)) n (au b5 54 (cO 7 (mFs (cu (cu c5 28 (.int 0)) 23 (.int 0))))) := hv.u rfl (hcc5 0 (by decide) (by decide) (by decide) (by decide) (by decide)) ((hfrA 63 (by decide))) ((hfrA 64 (by decide)))
        have ha6 : kA n (au b5 54 (cO 7 (mFs (cu (cu c5 28 (.int 0)) 23 (.int 0))))) := ha.u (hfrA 59 (by decide)) (hfrA 60 (by decide)) (hfrA 61 (by decide))
        have hf6 : kF (cu (cu c5 28 (.int 0)) 23 (.int 0)) n (au b5 54 (cO 7 (mFs (cu (cu c5 28 (.int 0)) 23 (.int 0))))) := hf.u (hcc5 17 (by decide) (by decide) (by decide) (by decide) (by decide)) (hfrA 62 (by decide))
        have h17 : c5 17 = .int (nI (na n)) := (hcc5 17 (by decide) (by decide) (by decide) (by decide) (by decide)).trans hf.1
        have h3 : c5 3 = .long (lN g) := (hcc5 3 (by decide) (by decide) (by decide) (by decide) (by decide)).trans hf3
        have hdq := prs_dpk _ _ _ _ _ q hr (Or.inr (Or.inr (Or.inl rfl)))
        refine xj_eq rfl rfl (show _ = kG (au b5 54 (cO 7 (mFs (cu (cu c5 28 (.int 0)) 23 (.int 0))))) T from rfl) ?_
        refine xj_lc0 dX7_text_89 ?_
        refine xj_lstn2 dX7_text_90 rfl ?_
        refine xj_ic0 dX7_text_91 ?_
        refine xj_ist4 dX7_text_92 rfl ?_
        refine xj_eq rfl rfl (show _ = kG (au (au b5 54 (cO 7 (mFs (cu (cu c5 28 (.int 0)) 23 (.int 0))))) 67 (cI 0 S0)) T by rw [au_id (i := 67) (show (au b5 54 (cO 7 (mFs (cu (cu c5 28 (.int 0)) 23 (.int 0))))) 67 = cI 0 S0 from (hfrB 67 (by decide)).trans h67)]) ?_
        have lp : ∀ (K : Nat) (x : Nat) (s : Nat) (S : List Int32), na n - x < K → (x ≤ na n) → (s < 2 ^ 57) → (S.length = 200) → (lpN (fun x s => s ||| (if hldB n x q.1 then 2 ^ x else 0)) x (na n - x) s = txS n q.1) → xJ E (yX7_text, cX7_text, 5, (some FieldType.int), []) (xR 20 0 0) (kR (some (.int (o_text n g tp w))) T (fun b => kfr [54, 66, 67] a b ∧ ∃ c' : Nat → Value, b 54 = cO 7 (mFs c') ∧ c' 3 = .long (lN (s_textG n g tp w)) ∧ kT (s_textT tp w) c' b ∧ kX c' b ∧ ∀ j, j ≠ 3 → j ≠ 23 → j ≠ 24 → j ≠ 25 → j ≠ 26 → j ≠ 27 → j ≠ 28 → c' j = c j)) 0 0 94 [some (.ref 54), some (.int w), some (.long (lN s)), none, some (.int (nI x))] [] (kG (au (au b5 54 (cO 7 (mFs (cu (cu c5 28 (.int 0)) 23 (.int 0))))) 67 (cI 0 S)) T) := by
          intro K
          induction K with
          | zero => intro x s S h; exact absurd h (Nat.not_lt_zero _)
          | succ K ih_lp =>
            intro x s S hK hx hs57 hS hs
            have hv7 : kV (cu (cu c5 28 (.int 0)) 23 (.int 0)) n (au (au b5 54 (cO 7 (mFs (cu (cu c5 28 (.int 0)) 23 (.int 0))))) 67 (cI 0 S)) := hv6.u rfl rfl rfl rfl
            have ha7 : kA n (au (au b5 54 (cO 7 (mFs (cu (cu c5 28 (.int 0)) 23 (.int 0))))) 67 (cI 0 S)) := ha6.u rfl rfl rfl
            have hf7 : kF (cu (cu c5 28 (.int 0)) 23 (.int 0)) n (au (au b5 54 (cO 7 (mFs (cu (cu c5 28 (.int 0)) 23 (.int 0))))) 67 (cI 0 S)) := hf6.u rfl rfl
            refine xj_iload dX7_text_94 rfl ?_
            refine xj_aload_n dX7_text_96 rfl rfl ?_
            refine xj_get dX7_text_97 K7 17 (by decide) q1946 (kG_a (by decide) rfl) (congrArg some h17) ?_
            refine xj_icmp_ge (tgt := 129) dX7_text_100 rfl (fun c100 => ?_) (fun c100 => ?_)
            · rw [lp_end _ (Nat.le_of_not_lt fun h => absurd c100 (nI_ge h (by omega)))] at hs
              subst hs
              refine xj_aload_n dX7_text_129 rfl rfl ?_
              refine xj_lload_n dX7_text_130 rfl ?_
              refine xj_iload_n dX7_text_131 rfl ?_
              refine xj_cV dX7_text_132 q2264 kV_X7_comes (M_comes (w := w) hv7.V hf7.F h3 hg (txS_lt (by omega))) (kG_a (by decide) rfl) rfl rfl rfl rfl (Nat.le_of_ble_eq_true rfl) ⟨(Nat.le_of_ble_eq_true rfl), (Nat.le_of_ble_eq_true rfl)⟩ (Nat.le_of_ble_eq_true rfl) (Nat.le_of_ble_eq_true rfl) ?_
              exact xj_ireturn dX7_text_135 rfl rfl (by have hgg : sG (kG (au (au b5 54 (cO 7 (mFs (cu (cu c5 28 (.int 0)) 23 (.int 0))))) 67 (cI 0 S)) T) (cu (cu c5 28 (.int 0)) 23 (.int 0)) (s_comes n g (txS n q.1) w) = kG (au (au (au b5 54 (cO 7 (mFs (cu (cu c5 28 (.int 0)) 23 (.int 0))))) 67 (cI 0 S)) 54 (cO 7 (mFs (cu (cu (cu c5 28 (.int 0)) 23 (.int 0)) 3 (.long (lN (s_comes n g (txS n q.1) w))))))) T := kG_set (by decide); rw [hgg]; exact kR_i (by unfold o_text; rw [if_pos hb1, hpA]) ⟨((hfrA.au (by decide)).au (by decide)).au (by decide), _, rfl, by unfold s_textG; rw [if_pos hb1, hpA]; rfl, by unfold s_textT; rw [if_pos hb1]; exact ⟨rfl, L65, (hfrA 65 (by decide)).trans h65, htL.1, Nat.zero_le _, fun i v h => by cases h⟩, ⟨⟨_, hf5⟩, Cd5, S, h66_5, hC5, rfl, hS⟩, fun j j3 j23 j24 j25 j26 j27 j28 => by unfold cu; rw [if_neg j3, if_neg j23, if_neg j28]; exact hcc5 j j24 j25 j26 j27 j28⟩)
            · have hxn : x < na n := Nat.lt_of_not_le fun h => c100 (nI_le h (by omega))
              refine xj_lload_n dX7_text_103 rfl ?_
              refine xj_aload_n dX7_text_104 rfl rfl ?_
              refine xj_iload dX7_text_105 rfl ?_
              refine xj_dV dX7_text_107 q2339 kV_X7_holds (M_holds (a := au (au b5 54 (cO 7 (mFs (cu (cu c5 28 (.int 0)) 23 (.int 0))))) 67 (cI 0 S)) (cl := q.1) (Cd := Cd5) (S0 := S) hv7 ha7 hxn hk5 h66_5 hC5 hl5 hcl5 rfl hS (hdq 0)) (kG_a (by decide) rfl) rfl rfl rfl rfl (Nat.le_of_ble_eq_true rfl) ⟨(Nat.le_of_ble_eq_true rfl), (Nat.le_of_ble_eq_true rfl)⟩ (Nat.le_of_ble_eq_true rfl) (Nat.le_of_ble_eq_true rfl) ?_
              rintro _ _ ⟨rfl, b9, rfl, S2, hS2, rfl⟩
              rw [au_au]
              refine xj_sL_if_eq (tgt := 120) (M := 121) dX7_text_110 rfl (fun c110 k => by
                  refine xj_lc0 dX7_text_120 ?_
                  exact k) (fun c110 k => by
                  refine xj_lc1 dX7_text_113 ?_
                  refine xj_iload dX7_text_114 rfl ?_
                  refine xj_lshl dX7_text_116 ?_
                  refine xj_goto (tgt := 121) dX7_text_117 rfl ?_
                  exact k) ?_
              rw [l_one_shl (by omega)]
              refine xj_topl c_selL ?_
              refine xj_lor dX7_text_121 ?_
              rw [wb_or (Nat.lt_trans hs57 (by decide)) (Nat.lt_trans (if_lt_pow (k := 57) (by omega)) (by decide))]
              refine xj_lstn2 dX7_text_122 rfl ?_
              refine xj_iinc4 (cst := 1) dX7_text_123 rfl rfl ?_
              rw [nI_1]
              refine xj_goto (tgt := 94) dX7_text_126 rfl ?_
              exact ih_lp (x + 1) _ S2 (by omega) (by omega) (Nat.or_lt_two_pow hs57 (if_lt_pow (by omega))) hS2 (by rw [← hs, lp_step _ hxn])
        exact lp (na n + 1) 0 0 S0 (by omega) (by omega) (by decide) hS0 rfl
  · refine xj_icm1 dX7_text_12 ?_
    exact xj_ireturn dX7_text_13 rfl rfl (kR_i (by unfold o_text; rw [b1_z c9]; rfl) ⟨kfr.refl _ _, c, hO, by unfold s_textG; rw [b1_z c9]; exact hf3, by unfold s_textT; rw [b1_z c9]; exact hT, hX, fun _ _ _ _ _ _ _ _ => rfl⟩)
end M28
