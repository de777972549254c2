/-! ===== the class: stems, rows out of arcs ===== -/
set_option maxRecDepth 100000
theorem kV_X0_allArcs : xsV yX0_allArcs cX0_allArcs 1 (some FieldType.long) 0 := ⟨q798, qs31, q151, q799, by decide, by decide, by decide +kernel⟩
theorem kV_X0_stemOf : xsV yX0_stemOf cX0_stemOf 5 none 2 := ⟨q770, qs28, q151, q771, by decide, by decide, by decide +kernel⟩
theorem kV_X0_toldStem : xsV yX0_toldStem cX0_toldStem 2 (some FieldType.int) 1 := ⟨q766, qs27, q151, q767, by decide, by decide, by decide +kernel⟩
theorem lc_mono {n k : Nat} : ∀ (j c : Nat), aL n k < c → lc n k c ≤ lc n k (c + j) ∧ lc n k (c + j) ≤ lc n k c + j := by
  intro j
  induction j with
  | zero => intro c _; exact ⟨Nat.le_refl _, Nat.le_refl _⟩
  | succ j ih =>
    intro c hc
    have := ih c hc
    rw [show c + (j + 1) = (c + j) + 1 by omega, lc_s (by omega)]
    split <;> omega
theorem ro_z {n S : Nat} (hS : S < 2 ^ 64) : andn S (2 ^ na n - 1) = 0 ↔ S / 2 ^ na n = 0 := by
  rw [andn0 hS]
  constructor
  · intro h
    rw [Nat.div_eq_zero_iff]
    right
    apply Nat.lt_of_not_le
    intro hc
    obtain ⟨i, hi, hb⟩ := Nat.exists_ge_and_testBit_of_ge_two_pow hc
    have := h i hb
    rw [Nat.testBit_two_pow_sub_one] at this
    have := of_decide_eq_true this
    omega
  · intro h i hi
    rw [Nat.testBit_two_pow_sub_one]
    rw [Nat.div_eq_zero_iff] at h
    rcases h with h | h
    · exact absurd h (Nat.ne_of_gt (Nat.two_pow_pos _))
    · exact decide_eq_true (bit_lt h hi)
theorem lN_inj64 {a b : Nat} (ha : a < 2 ^ 64) (hb : b < 2 ^ 64) (h : lN a = lN b) : a = b := by
  have := congrArg (fun x : Int64 => x.toBitVec.toNat) h
  simp only [wb_tn ha, wb_tn hb] at this
  exact this
theorem cPo.r2 {d : Nat → Value} {G H : xH} {M N : List Int32} (h : cPo d G G) (hf : gfr [11, 12] G H) (hM : M.length = 6) (hN : N.length = 6) (h11 : H[11]? = some (cI 1 M)) (h12 : H[12]? = some (cI 1 N)) : cPo d G H := h.rows hf.gfa hM hN h11 h12
section A30
variable {E : xE} {G : xH} {d e : Nat → Value} {n : Nat}
theorem A_stemOf {a r k : Nat} {w : Nat → Value} {L : List Int32}  (hv : cV d e n G) (h6 : G[a]? = some (cO 6 (aFs n k w))) (hk : k < na n) (hL : G[r]? = some (cI 1 L)) (hr0 : r ≠ 0) (hr4 : r ≠ 4) (hra : r ≠ a) (hln : n ≤ L.length) (hl31 : L.length < 2147483648) : xMet E yX0_stemOf cX0_stemOf 5 none 1 0 0 [.ref 0, .ref a, .ref r] G (xre (fun v_ G' => v_ = none ∧ ∃ M : List Int32, M.length = L.length ∧ rwL n (stm n k) M ∧ G' = G.set r (cI 1 M))) := by
  obtain ⟨hO, hN, hn0, h1n, hn6⟩ := id hv
  have hac := f_ac n (by omega) k hk
  obtain ⟨s1, s2, s3, s4, s5, s6, s7⟩ := st_ok (n := n) (by omega) hk
  have hfw := f_lf n (by omega) k hk
  have hfw2 : bw n k = aH n k - aL n k - 1 := rfl
  refine xMet.of (lv := [some (.ref 0), some (.ref a), some (.ref r), none, none]) rfl rfl (Nat.le_of_ble_eq_true rfl) ?_
  refine xj_aload_n dX0_stemOf_0 rfl rfl ?_
  refine xj_aload_n dX0_stemOf_1 rfl rfl ?_
  refine xj_dV dX0_stemOf_2 q772 kV_X0_first (A_first hv hL hr0 hr4 hln) hO rfl rfl rfl rfl (Nat.le_of_ble_eq_true rfl) ⟨(Nat.le_of_ble_eq_true rfl), (Nat.le_of_ble_eq_true rfl)⟩ (Nat.le_of_ble_eq_true rfl) (Nat.le_of_ble_eq_true rfl) ?_
  rintro _ _ ⟨rfl, M0, hM0, hM0R, rfl⟩
  have h60 : (G.set r (cI 1 M0))[a]? = some (cO 6 (aFs n k w)) := by rw [gset hra]; exact h6
  refine xj_aload_n dX0_stemOf_5 rfl rfl ?_
  refine xj_getN dX0_stemOf_6 K6 1 (by decide) q406 h60 rfl ?_
  refine xj_ic1 dX0_stemOf_9 ?_
  refine xj_isub dX0_stemOf_10 ?_
  rw [nI_sub1 (by omega)]
  refine xj_istn3 dX0_stemOf_11 rfl ?_
  refine xj_aload_n dX0_stemOf_12 rfl rfl ?_
  refine xj_getN dX0_stemOf_13 K6 1 (by decide) q406 h60 rfl ?_
  refine xj_ic1 dX0_stemOf_16 ?_
  refine xj_iadd dX0_stemOf_17 ?_
  rw [nI_1]
  refine xj_ist4 dX0_stemOf_18 rfl ?_
  refine xj_eq (lv' := [some (.ref 0), some (.ref a), some (.ref r), some (.int (nI (aL n k - 1 + lc n k (aL n k + 1)))), some (.int (nI (aL n k + 1)))]) (by rw [lcz]; rfl) rfl rfl ?_
  have lp : ∀ (K : Nat) (c : Nat) (M : List Int32), aH n k - c < K → (aL n k < c ∧ c ≤ aH n k) → (M.length = L.length) → (∀ q, q < (aL n k - 1 + lc n k c) → M[q]? = some (nI (dgt n (stm n k) q))) → (∀ q, q < n → aH n k ≤ q → M[q]? = some (nI (q + 1))) → xJ E (yX0_stemOf, cX0_stemOf, 5, none, []) (xR 1 0 0) (xre (fun v_ G' => v_ = none ∧ ∃ M : List Int32, M.length = L.length ∧ rwL n (stm n k) M ∧ G' = G.set r (cI 1 M))) 0 0 20 [some (.ref 0), some (.ref a), some (.ref r), some (.int (nI (aL n k - 1 + lc n k c))), some (.int (nI c))] [] (G.set r (cI 1 M)) := by
    intro K
    induction K with
    | zero => intro c M h; exact absurd h (Nat.not_lt_zero _)
    | succ K ih_lp =>
      intro c M hK hc hM hdn htl
      have h6m : (G.set r (cI 1 M))[a]? = some (cO 6 (aFs n k w)) := by rw [gset hra]; exact h6
      have hLm : (G.set r (cI 1 M))[r]? = some (cI 1 M) := gset_self hL
      have hlc := lc_le (n := n) (k := k) c hc.1
      refine xj_iload dX0_stemOf_20 rfl ?_
      refine xj_aload_n dX0_stemOf_22 rfl rfl ?_
      refine xj_getN dX0_stemOf_23 K6 2 (by decide) q410 h6m rfl ?_
      refine xj_icmp_ge (tgt := 56) dX0_stemOf_26 rfl (fun c26 => ?_) (fun c26 => ?_)
      · have hcH : c = aH n k := by have := Nat.le_of_not_lt fun h => absurd c26 (nI_ge h (by omega)); omega
        subst hcH
        rw [s6] at hdn ⊢
        refine xj_aload_n dX0_stemOf_56 rfl rfl ?_
        refine xj_iload_n dX0_stemOf_57 rfl ?_
        refine xj_aload_n dX0_stemOf_58 rfl rfl ?_
        refine xj_getN dX0_stemOf_59 K6 2 (by decide) q410 h6m rfl ?_
        refine xj_i2b dX0_stemOf_62 ?_
        refine xj_top (c_b8 (aH n k) (by omega)) ?_
        refine xj_bast dX0_stemOf_63 hLm rfl (by omega) (by omega) (c_b8 (aH n k) (by omega)) ?_
        rw [gset_set]
        have h6n : (G.set r (cI 1 (M.set (aL n k - 1 + lf n k) (nI (aH n k)))))[a]? = some (cO 6 (aFs n k w)) := by rw [gset hra]; exact h6
        refine xj_aload_n dX0_stemOf_64 rfl rfl ?_
        refine xj_iload_n dX0_stemOf_65 rfl ?_
        refine xj_ic1 dX0_stemOf_66 ?_
        refine xj_iadd dX0_stemOf_67 ?_
        rw [nI_1, show aL n k - 1 + lf n k + 1 = aL n k + lf n k by omega]
        refine xj_aload_n dX0_stemOf_68 rfl rfl ?_
        refine xj_getN dX0_stemOf_69 K6 1 (by decide) q406 h6n rfl ?_
        refine xj_i2b dX0_stemOf_72 ?_
        refine xj_top (c_b8 (aL n k) (by omega)) ?_
        refine xj_bast dX0_stemOf_73 (gset_self hL) rfl (by omega) (by rw [List.length_set]; omega) (c_b8 (aL n k) (by omega)) ?_
        rw [gset_set]
        have h6o : (G.set r (cI 1 ((M.set (aL n k - 1 + lf n k) (nI (aH n k))).set (aL n k + lf n k) (nI (aL n k)))))[a]? = some (cO 6 (aFs n k w)) := by rw [gset hra]; exact h6
        refine xj_iinc3 (cst := 2) dX0_stemOf_74 rfl rfl ?_
        rw [show (nI (aL n k - 1 + lf n k) + 2 : Int32) = nI (aL n k - 1 + lf n k + 2) from nI_add _ 2]
        refine xj_aload_n dX0_stemOf_77 rfl rfl ?_
        refine xj_getN dX0_stemOf_78 K6 1 (by decide) q406 h6o rfl ?_
        refine xj_ic1 dX0_stemOf_81 ?_
        refine xj_iadd dX0_stemOf_82 ?_
        rw [nI_1]
        refine xj_ist4 dX0_stemOf_83 rfl ?_
        obtain ⟨M2, eM2⟩ : ∃ x, x = ((M.set (aL n k - 1 + lf n k) (nI (aH n k))).set (aL n k + lf n k) (nI (aL n k))) := ⟨_, rfl⟩
        rw [← eM2]
        have hM2 : M2.length = L.length := by rw [eM2, List.length_set, List.length_set]; exact hM
        have hd2 : ∀ q, q < aL n k - 1 + lf n k + 2 + (aL n k + 1 - (aL n k + 1) - lc n k (aL n k + 1)) → M2[q]? = some (nI (dgt n (stm n k) q)) := by
          rw [lcz]
          intro q hq
          rw [eM2]
          by_cases e1 : aL n k + lf n k = q
          · subst e1; rw [List.getElem?_set_self (by rw [List.length_set]; omega), s5]
          · rw [List.getElem?_set_ne e1]
            by_cases e2 : aL n k - 1 + lf n k = q
            · subst e2; rw [List.getElem?_set_self (by omega), s4]
            · rw [List.getElem?_set_ne e2]; exact hdn q (by omega)
        have ht2 : ∀ q, q < n → aH n k ≤ q → M2[q]? = some (nI (q + 1)) := fun q q1 q2 => by rw [eM2, List.getElem?_set_ne (by omega), List.getElem?_set_ne (by omega)]; exact htl q q1 q2
        refine xj_eq (lv' := [some (.ref 0), some (.ref a), some (.ref r), some (.int (nI (aL n k - 1 + lf n k + 2 + (aL n k + 1 - (aL n k + 1) - lc n k (aL n k + 1))))), some (.int (nI (aL n k + 1)))]) (by rw [lcz, Nat.sub_self]) rfl rfl ?_
        have lq : ∀ (K : Nat) (c : Nat) (M : List Int32), aH n k - c < K → (aL n k < c ∧ c ≤ aH n k) → (M.length = L.length) → (∀ q, q < (aL n k - 1 + lf n k + 2 + (c - (aL n k + 1) - lc n k c)) → M[q]? = some (nI (dgt n (stm n k) q))) → (∀ q, q < n → aH n k ≤ q → M[q]? = some (nI (q + 1))) → xJ E (yX0_stemOf, cX0_stemOf, 5, none, []) (xR 1 0 0) (xre (fun v_ G' => v_ = none ∧ ∃ M : List Int32, M.length = L.length ∧ rwL n (stm n k) M ∧ G' = G.set r (cI 1 M))) 0 0 85 [some (.ref 0), some (.ref a), some (.ref r), some (.int (nI (aL n k - 1 + lf n k + 2 + (c - (aL n k + 1) - lc n k c)))), some (.int (nI c))] [] (G.set r (cI 1 M)) := by
          intro K
          induction K with
          | zero => intro c M h; exact absurd h (Nat.not_lt_zero _)
          | succ K ih_lq =>
            intro c M hK hc hM hdn htl
            have h6m : (G.set r (cI 1 M))[a]? = some (cO 6 (aFs n k w)) := by rw [gset hra]; exact h6
            have hLm : (G.set r (cI 1 M))[r]? = some (cI 1 M) := gset_self hL
            have hlc := lc_le (n := n) (k := k) c hc.1
            refine xj_iload dX0_stemOf_85 rfl ?_
            refine xj_aload_n dX0_stemOf_87 rfl rfl ?_
            refine xj_getN dX0_stemOf_88 K6 2 (by decide) q410 h6m rfl ?_
            refine xj_icmp_ge (tgt := 121) dX0_stemOf_91 rfl (fun c91 => ?_) (fun c91 => ?_)
            · exact xj_return dX0_stemOf_121 rfl (by have hcH : c = aH n k := (by have := Nat.le_of_not_lt fun h => absurd c91 (nI_ge h (by omega)); omega); subst hcH; exact ⟨rfl, M, hM, fun q hq => (by by_cases e : q < aH n k; (exact hdn q (by rw [s6]; omega)); (rw [htl q hq (by omega), s1 q hq (Or.inr (by omega))])), rfl⟩)
            · have hcH : c < aH n k := Nat.lt_of_not_le fun h => c91 (nI_le h (by omega))
              have hls := lc_s (n := n) (k := k) (c := c) hc.1
              have hlh := lc_le (n := n) (k := k) (aH n k) (by omega)
              have hlm := lc_mono (n := n) (k := k) (aH n k - c) c hc.1
              rw [show c + (aH n k - c) = aH n k by omega] at hlm
              refine xj_aload_n dX0_stemOf_94 rfl rfl ?_
              refine xj_iload dX0_stemOf_95 rfl ?_
              refine xj_cV dX0_stemOf_97 q776 kV_X6_isLeft (A_isLeftA h6m (by omega) hk (by omega) (by omega)) h6m rfl rfl rfl rfl (Nat.le_of_ble_eq_true rfl) ⟨(Nat.le_of_ble_eq_true rfl), (Nat.le_of_ble_eq_true rfl)⟩ (Nat.le_of_ble_eq_true rfl) (Nat.le_of_ble_eq_true rfl) ?_
              refine xj_if_eq (tgt := 106) dX0_stemOf_100 rfl (fun c100 => ?_) (fun c100 => ?_)
              · have hlf := b1_z c100
                rw [hlf, if_neg (by decide)] at hls
                have hlm2 := lc_mono (n := n) (k := k) (aH n k - (c + 1)) (c + 1) (by omega)
                rw [show c + 1 + (aH n k - (c + 1)) = aH n k by omega, s6] at hlm2
                refine xj_aload_n dX0_stemOf_106 rfl rfl ?_
                refine xj_iload_n dX0_stemOf_107 rfl ?_
                refine xj_iload dX0_stemOf_108 rfl ?_
                refine xj_i2b dX0_stemOf_110 ?_
                refine xj_top (c_b8 c (by omega)) ?_
                refine xj_bast dX0_stemOf_111 hLm rfl (by omega) (by omega) (c_b8 c (by omega)) ?_
                rw [gset_set]
                refine xj_iinc3 (cst := 1) dX0_stemOf_112 rfl rfl ?_
                try rw [nI_1, show (aL n k - 1 + lf n k + 2 + (c - (aL n k + 1) - lc n k c)) + 1 = aL n k - 1 + lf n k + 2 + (c + 1 - (aL n k + 1) - lc n k (c + 1)) by omega]
                refine xj_iinc4 (cst := 1) dX0_stemOf_115 rfl rfl ?_
                rw [nI_1]
                refine xj_goto (tgt := 85) dX0_stemOf_118 rfl ?_
                first | exact ih_lq (c + 1) _ (by omega) (by omega) (by rw [List.length_set]; exact hM) (by rw [show aL n k - 1 + lf n k + 2 + (c + 1 - (aL n k + 1) - lc n k (c + 1)) = (aL n k - 1 + lf n k + 2 + (c - (aL n k + 1) - lc n k c)) + 1 by omega]; intro q hq; by_cases e : (aL n k - 1 + lf n k + 2 + (c - (aL n k + 1) - lc n k c)) = q; (subst e; rw [List.getElem?_set_self (by omega), s3 c hc.1 hcH hlf]); (rw [List.getElem?_set_ne e]; exact hdn q (by omega))) (fun q q1 q2 => by rw [List.getElem?_set_ne (by omega)]; exact htl q q1 q2) | (rw [show (aL n k - 1 + lf n k + 2 + (c - (aL n k + 1) - lc n k c)) = aL n k - 1 + lf n k + 2 + (c + 1 - (aL n k + 1) - lc n k (c + 1)) by omega]; exact ih_lq (c + 1) M (by omega) (by omega) hM (by rw [show aL n k - 1 + lf n k + 2 + (c + 1 - (aL n k + 1) - lc n k (c + 1)) = (aL n k - 1 + lf n k + 2 + (c - (aL n k + 1) - lc n k c)) by omega]; exact hdn) htl)
              · have hlf := b1_nz c100
                rw [hlf, if_pos rfl] at hls
                refine xj_goto (tgt := 115) dX0_stemOf_103 rfl ?_
                try rw [nI_1, show (aL n k - 1 + lf n k + 2 + (c - (aL n k + 1) - lc n k c)) + 1 = aL n k - 1 + lf n k + 2 + (c + 1 - (aL n k + 1) - lc n k (c + 1)) by omega]
                refine xj_iinc4 (cst := 1) dX0_stemOf_115 rfl rfl ?_
                rw [nI_1]
                refine xj_goto (tgt := 85) dX0_stemOf_118 rfl ?_
                first | exact ih_lq (c + 1) _ (by omega) (by omega) (by rw [List.length_set]; exact hM) (by rw [show aL n k - 1 + lf n k + 2 + (c + 1 - (aL n k + 1) - lc n k (c + 1)) = (aL n k - 1 + lf n k + 2 + (c - (aL n k + 1) - lc n k c)) + 1 by omega]; intro q hq; by_cases e : (aL n k - 1 + lf n k + 2 + (c - (aL n k + 1) - lc n k c)) = q; (subst e; rw [List.getElem?_set_self (by omega), s3 c hc.1 hcH hlf]); (rw [List.getElem?_set_ne e]; exact hdn q (by omega))) (fun q q1 q2 => by rw [List.getElem?_set_ne (by omega)]; exact htl q q1 q2) | (rw [show (aL n k - 1 + lf n k + 2 + (c - (aL n k + 1) - lc n k c)) = aL n k - 1 + lf n k + 2 + (c + 1 - (aL n k + 1) - lc n k (c + 1)) by omega]; exact ih_lq (c + 1) M (by omega) (by omega) hM (by rw [show aL n k - 1 + lf n k + 2 + (c + 1 - (aL n k + 1) - lc n k (c + 1)) = (aL n k - 1 + lf n k + 2 + (c - (aL n k + 1) - lc n k c)) by omega]; exact hdn) htl)
        exact lq 9 (aL n k + 1) M2 (by omega) (by omega) hM2 hd2 ht2
      · have hcH : c < aH n k := Nat.lt_of_not_le fun h => c26 (nI_le h (by omega))
        have hls := lc_s (n := n) (k := k) (c := c) hc.1
        refine xj_aload_n dX0_stemOf_29 rfl rfl ?_
        refine xj_iload dX0_stemOf_30 rfl ?_
        refine xj_cV dX0_stemOf_32 q776 kV_X6_isLeft (A_isLeftA h6m (by omega) hk (by omega) (by omega)) h6m rfl rfl rfl rfl (Nat.le_of_ble_eq_true rfl) ⟨(Nat.le_of_ble_eq_true rfl), (Nat.le_of_ble_eq_true rfl)⟩ (Nat.le_of_ble_eq_true rfl) (Nat.le_of_ble_eq_true rfl) ?_
        refine xj_if_ne (tgt := 41) dX0_stemOf_35 rfl (fun c35 => ?_) (fun c35 => ?_)
        · have hlf := b1_nz c35
          rw [hlf, if_pos rfl] at hls
          refine xj_aload_n dX0_stemOf_41 rfl rfl ?_
          refine xj_iload_n dX0_stemOf_42 rfl ?_
          refine xj_iload dX0_stemOf_43 rfl ?_
          refine xj_i2b dX0_stemOf_45 ?_
          refine xj_top (c_b8 c (by omega)) ?_
          refine xj_bast dX0_stemOf_46 hLm rfl (by omega) (by omega) (c_b8 c (by omega)) ?_
          rw [gset_set]
          refine xj_iinc3 (cst := 1) dX0_stemOf_47 rfl rfl ?_
          try rw [nI_1, show (aL n k - 1 + lc n k c) + 1 = aL n k - 1 + lc n k (c + 1) by omega]
          refine xj_iinc4 (cst := 1) dX0_stemOf_50 rfl rfl ?_
          rw [nI_1]
          refine xj_goto (tgt := 20) dX0_stemOf_53 rfl ?_
          first | exact ih_lp (c + 1) _ (by omega) (by omega) (by rw [List.length_set]; exact hM) (by rw [show aL n k - 1 + lc n k (c + 1) = (aL n k - 1 + lc n k c) + 1 by omega]; intro q hq; by_cases e : (aL n k - 1 + lc n k c) = q; (subst e; rw [List.getElem?_set_self (by omega), s2 c hc.1 hcH hlf]); (rw [List.getElem?_set_ne e]; exact hdn q (by omega))) (fun q q1 q2 => by rw [List.getElem?_set_ne (by omega)]; exact htl q q1 q2) | (rw [show (aL n k - 1 + lc n k c) = aL n k - 1 + lc n k (c + 1) by omega]; exact ih_lp (c + 1) M (by omega) (by omega) hM (by rw [show aL n k - 1 + lc n k (c + 1) = (aL n k - 1 + lc n k c) by omega]; exact hdn) htl)
        · have hlf := b1_z c35
          rw [hlf, if_neg (by decide)] at hls
          refine xj_goto (tgt := 50) dX0_stemOf_38 rfl ?_
          try rw [nI_1, show (aL n k - 1 + lc n k c) + 1 = aL n k - 1 + lc n k (c + 1) by omega]
          refine xj_iinc4 (cst := 1) dX0_stemOf_50 rfl rfl ?_
          rw [nI_1]
          refine xj_goto (tgt := 20) dX0_stemOf_53 rfl ?_
          first | exact ih_lp (c + 1) _ (by omega) (by omega) (by rw [List.length_set]; exact hM) (by rw [show aL n k - 1 + lc n k (c + 1) = (aL n k - 1 + lc n k c) + 1 by omega]; intro q hq; by_cases e : (aL n k - 1 + lc n k c) = q; (subst e; rw [List.getElem?_set_self (by omega), s2 c hc.1 hcH hlf]); (rw [List.getElem?_set_ne e]; exact hdn q (by omega))) (fun q q1 q2 => by rw [List.getElem?_set_ne (by omega)]; exact htl q q1 q2) | (rw [show (aL n k - 1 + lc n k c) = aL n k - 1 + lc n k (c + 1) by omega]; exact ih_lp (c + 1) M (by omega) (by omega) hM (by rw [show aL n k - 1 + lc n k (c + 1) = (aL n k - 1 + lc n k c) by omega]; exact hdn) htl)
  exact lp 9 (aL n k + 1) M0 (by omega) (by omega) hM0 (fun q hq => by rw [lcz] at hq; rw [hM0R q (by omega), f_id1 n (by omega) h1n q (by omega), s1 q (by omega) (Or.inl (by omega))]) (fun q q1 q2 => by rw [hM0R q q1, f_id1 n (by omega) h1n q q1])
theorem A_toldStem {a k : Nat} {w : Nat → Value} {L : List Int32}  (hv : cV d e n G) (h6 : G[a]? = some (cO 6 (aFs n k w))) (hk : k < na n) (hL : G[11]? = some (cI 1 L)) (hra : 11 ≠ a) (hln : n ≤ L.length) (hl31 : L.length < 2147483648) : xMet E yX0_toldStem cX0_toldStem 2 (some FieldType.int) 2 0 0 [.ref 0, .ref a] G (xre (fun v_ G' => v_ = some (.int (nI (stm n k))) ∧ ∃ M : List Int32, M.length = L.length ∧ G' = G.set 11 (cI 1 M))) := by
  obtain ⟨hO, hN, hn0, h1n, hn6⟩ := id hv
  refine xMet.of (lv := [some (.ref 0), some (.ref a)]) rfl rfl (Nat.le_of_ble_eq_true rfl) ?_
  refine xj_aload_n dX0_toldStem_0 rfl rfl ?_
  refine xj_aload_n dX0_toldStem_1 rfl rfl ?_
  refine xj_aload_n dX0_toldStem_2 rfl rfl ?_
  refine xj_get dX0_toldStem_3 K0 8 (by decide) q477 hO rfl ?_
  refine xj_dV dX0_toldStem_6 q768 kV_X0_stemOf (A_stemOf hv h6 hk hL (by decide) (by decide) hra hln hl31) hO rfl rfl rfl rfl (Nat.le_of_ble_eq_true rfl) ⟨(Nat.le_of_ble_eq_true rfl), (Nat.le_of_ble_eq_true rfl)⟩ (Nat.le_of_ble_eq_true rfl) (Nat.le_of_ble_eq_true rfl) ?_
  rintro _ _ ⟨rfl, M, hM, hMR, rfl⟩
  have hv2 : cV d e n (G.set 11 (cI 1 M)) := hv.set (by decide) (by decide)
  obtain ⟨hO2, hN2, -⟩ := id hv2
  refine xj_aload_n dX0_toldStem_9 rfl rfl ?_
  refine xj_aload_n dX0_toldStem_10 rfl rfl ?_
  refine xj_get dX0_toldStem_11 K0 8 (by decide) q477 hO2 rfl ?_
  refine xj_cV dX0_toldStem_14 q632 kV_X0_told (A_told hv2 (gset_self hL) hMR (f_tl n (by omega) _ (stm_mem (by omega) hk))) hO2 rfl rfl rfl rfl (Nat.le_of_ble_eq_true rfl) ⟨(Nat.le_of_ble_eq_true rfl), (Nat.le_of_ble_eq_true rfl)⟩ (Nat.le_of_ble_eq_true rfl) (Nat.le_of_ble_eq_true rfl) ?_
  exact xj_ireturn dX0_toldStem_17 rfl rfl ⟨rfl, M, hM, rfl⟩
theorem A_arcIs {x w : Int32} {g : Nat}  (hv : cV d e n G) (hn3 : e 3 = .long (lN g)) (hg : g < 2 ^ 57) (hs : sIn d) (hc : scr G) (hA : cA d n G) : xMet E yX0_arcIs cX0_arcIs 3 (some FieldType.int) 3 0 0 [.ref 0, .int x, .int w] G (xre (fun v_ G' => v_ = some (.int (o_arcIs n g x w)) ∧ cPo d G G')) := by
  obtain ⟨hO, hN, hn0, h1n, hn6⟩ := id hv
  have hP := cPo.refl hv hs hc
  obtain ⟨L1, hl1, h11⟩ := hc.at (r := 11) (by decide) (by decide)
  obtain ⟨L2, hl2, h12⟩ := hc.at (r := 12) (by decide) (by decide)
  obtain ⟨L3, hl3, h13⟩ := hc.at (r := 13) (by decide) (by decide)
  obtain ⟨ar, hd3, hdy, LA, hAr, hLA, hAk⟩ := id hA
  have hna := na_lt n (by omega)
  refine xMet.of (lv := [some (.ref 0), some (.int x), some (.int w)]) rfl rfl (Nat.le_of_ble_eq_true rfl) ?_
  refine xj_aload_n dX0_arcIs_0 rfl rfl ?_
  refine xj_iload_n dX0_arcIs_1 rfl ?_
  refine xj_cV dX0_arcIs_2 q756 kV_X0_isArc (A_isArc hv hA) hO rfl rfl rfl rfl (Nat.le_of_ble_eq_true rfl) ⟨(Nat.le_of_ble_eq_true rfl), (Nat.le_of_ble_eq_true rfl)⟩ (Nat.le_of_ble_eq_true rfl) (Nat.le_of_ble_eq_true rfl) ?_
  refine xj_if_ne (tgt := 10) dX0_arcIs_5 rfl (fun c5 => ?_) (fun c5 => ?_)
  · have hb := b1_nz c5
    obtain ⟨i, hi, hi31, rfl⟩ := inI_t hb
    have ti : tn (nI i) = i := nI_clamp hi31
    obtain ⟨a, u, hda, hLi, hGa⟩ := hAk i hi
    refine xj_iload_n dX0_arcIs_10 rfl ?_
    refine xj_tabs (tg := [52, 62, 72, 82, 96, 109, 122]) (tgt := 133) dX0_arcIs_11 rfl rfl rfl ⟨fun c11 => ?_, fun c11 => ?_, fun c11 => ?_, fun c11 => ?_, fun c11 => ?_, fun c11 => ?_, fun c11 => ?_, trivial⟩ (fun c11 => ?_)
    · refine xj_aload_n dX0_arcIs_52 rfl rfl ?_
      refine xj_get dX0_arcIs_53 K0 3 (by decide) q471 hO (congrArg some hd3) ?_
      refine xj_iload_n dX0_arcIs_56 rfl ?_
      refine xj_aald dX0_arcIs_57 hAr rfl rfl rfl (by omega) hLi ?_
      refine xj_getN dX0_arcIs_58 K6 1 (by decide) q406 hGa rfl ?_
      exact xj_ireturn dX0_arcIs_61 rfl rfl ⟨by subst c11; unfold o_arcIs; rw [hb, ti]; rfl, hP⟩
    · refine xj_aload_n dX0_arcIs_62 rfl rfl ?_
      refine xj_get dX0_arcIs_63 K0 3 (by decide) q471 hO (congrArg some hd3) ?_
      refine xj_iload_n dX0_arcIs_66 rfl ?_
      refine xj_aald dX0_arcIs_67 hAr rfl rfl rfl (by omega) hLi ?_
      refine xj_getN dX0_arcIs_68 K6 2 (by decide) q410 hGa rfl ?_
      exact xj_ireturn dX0_arcIs_71 rfl rfl ⟨by subst c11; unfold o_arcIs; rw [hb, ti]; rfl, hP⟩
    · refine xj_aload_n dX0_arcIs_72 rfl rfl ?_
      refine xj_get dX0_arcIs_73 K0 3 (by decide) q471 hO (congrArg some hd3) ?_
      refine xj_iload_n dX0_arcIs_76 rfl ?_
      refine xj_aald dX0_arcIs_77 hAr rfl rfl rfl (by omega) hLi ?_
      refine xj_getN dX0_arcIs_78 K6 3 (by decide) q412 hGa rfl ?_
      exact xj_ireturn dX0_arcIs_81 rfl rfl ⟨by subst c11; unfold o_arcIs; rw [hb, ti]; rfl, hP⟩
    · refine xj_aload_n dX0_arcIs_82 rfl rfl ?_
      refine xj_iload_n dX0_arcIs_83 rfl ?_
      refine xj_cV dX0_arcIs_84 q760 kV_X0_isGone (A_isGone hv hn3 (Nat.lt_trans hg (by decide)) (by omega)) hO rfl rfl rfl rfl (Nat.le_of_ble_eq_true rfl) ⟨(Nat.le_of_ble_eq_true rfl), (Nat.le_of_ble_eq_true rfl)⟩ (Nat.le_of_ble_eq_true rfl) (Nat.le_of_ble_eq_true rfl) ?_
      refine xj_sI_if_eq (tgt := 94) (M := 95) dX0_arcIs_87 rfl (fun c87 k => by
          refine xj_ic0 dX0_arcIs_94 ?_
          exact k) (fun c87 k => by
          refine xj_ic1 dX0_arcIs_90 ?_
          refine xj_goto (tgt := 95) dX0_arcIs_91 rfl ?_
          exact k) ?_
      exact xj_ireturn dX0_arcIs_95 rfl rfl ⟨by subst c11; unfold o_arcIs; rw [hb, ti]; cases g.testBit i <;> rfl, hP⟩
    · refine xj_aload_n dX0_arcIs_96 rfl rfl ?_
      refine xj_get dX0_arcIs_97 K0 3 (by decide) q471 hO (congrArg some hd3) ?_
      refine xj_iload_n dX0_arcIs_100 rfl ?_
      refine xj_aald dX0_arcIs_101 hAr rfl rfl rfl (by omega) hLi ?_
      refine xj_getN dX0_arcIs_102 K6 10 (by decide) q425 hGa rfl ?_
      refine xj_cS dX0_arcIs_105 q648 kS_X0_ones (A_ones (Nat.lt_trans (fo_lt (by omega) i) (by decide))) rfl rfl (Nat.le_of_ble_eq_true rfl) ⟨(Nat.le_of_ble_eq_true rfl), (Nat.le_of_ble_eq_true rfl)⟩ (Nat.le_of_ble_eq_true rfl) (Nat.le_of_ble_eq_true rfl) ?_
      exact xj_ireturn dX0_arcIs_108 rfl rfl ⟨by subst c11; unfold o_arcIs; rw [hb, ti]; rfl, hP⟩
    · refine xj_aload_n dX0_arcIs_109 rfl rfl ?_
      refine xj_get dX0_arcIs_110 K0 3 (by decide) q471 hO (congrArg some hd3) ?_
      refine xj_iload_n dX0_arcIs_113 rfl ?_
      refine xj_aald dX0_arcIs_114 hAr rfl rfl rfl (by omega) hLi ?_
      refine xj_getN dX0_arcIs_115 K6 11 (by decide) q426 hGa rfl ?_
      refine xj_cS dX0_arcIs_118 q648 kS_X0_ones (A_ones (Nat.lt_trans (fcr_lt (by omega) i) (by decide))) rfl rfl (Nat.le_of_ble_eq_true rfl) ⟨(Nat.le_of_ble_eq_true rfl), (Nat.le_of_ble_eq_true rfl)⟩ (Nat.le_of_ble_eq_true rfl) (Nat.le_of_ble_eq_true rfl) ?_
      exact xj_ireturn dX0_arcIs_121 rfl rfl ⟨by subst c11; unfold o_arcIs; rw [hb, ti]; rfl, hP⟩
    · refine xj_aload_n dX0_arcIs_122 rfl rfl ?_
      refine xj_aload_n dX0_arcIs_123 rfl rfl ?_
      refine xj_get dX0_arcIs_124 K0 3 (by decide) q471 hO (congrArg some hd3) ?_
      refine xj_iload_n dX0_arcIs_127 rfl ?_
      refine xj_aald dX0_arcIs_128 hAr rfl rfl rfl (by omega) hLi ?_
      refine xj_dV dX0_arcIs_129 q764 kV_X0_toldStem (A_toldStem hv hGa hi h11 (by have := hda.1; omega) (by omega) (by omega)) hO rfl rfl rfl rfl (Nat.le_of_ble_eq_true rfl) ⟨(Nat.le_of_ble_eq_true rfl), (Nat.le_of_ble_eq_true rfl)⟩ (Nat.le_of_ble_eq_true rfl) (Nat.le_of_ble_eq_true rfl) ?_
      rintro _ _ ⟨rfl, M, hM, rfl⟩
      exact xj_ireturn dX0_arcIs_132 rfl rfl ⟨by subst c11; unfold o_arcIs; rw [hb, ti, lwS_stm (by omega) h1n hi]; rfl, hP.row (by decide) (by decide) (by omega)⟩
    · refine xj_icm1 dX0_arcIs_133 ?_
      exact xj_ireturn dX0_arcIs_134 rfl rfl ⟨by unfold o_arcIs; rw [if_pos hb]; repeat rw [if_neg (fun q => by rw [q] at c11; revert c11; decide)], hP⟩
  · refine xj_icm1 dX0_arcIs_8 ?_
    exact xj_ireturn dX0_arcIs_9 rfl rfl ⟨by unfold o_arcIs; rw [b1_z c5]; rfl, hP⟩
theorem A_rowOf {S : Nat}  (hv : cV d e n G) (hs : sIn d) (hc : scr G) (hA : cA d n G) (hS : S < 2 ^ 64) : xMet E yX0_rowOf cX0_rowOf 5 (some FieldType.int) 3 0 0 [.ref 0, .long (lN S)] G (xre (fun v_ G' => v_ = some (.int (o_rowOf n S)) ∧ cPo d G G')) := by
  obtain ⟨hO, hN, hn0, h1n, hn6⟩ := id hv
  have hP := cPo.refl hv hs hc
  obtain ⟨L1, hl1, h11⟩ := hc.at (r := 11) (by decide) (by decide)
  obtain ⟨L2, hl2, h12⟩ := hc.at (r := 12) (by decide) (by decide)
  obtain ⟨L3, hl3, h13⟩ := hc.at (r := 13) (by decide) (by decide)
  obtain ⟨ar, hd3, hdy, hT0⟩ := id hA
  have hna := na_lt n (by omega)
  refine xMet.of (lv := [some (.ref 0), some (.long (lN S)), none, none, none]) rfl rfl (Nat.le_of_ble_eq_true rfl) ?_
  refine xj_lload_n dX0_rowOf_0 rfl ?_
  refine xj_aload_n dX0_rowOf_1 rfl rfl ?_
  refine xj_cV dX0_rowOf_2 q796 kV_X0_allArcs (A_allArcs hv hA) hO rfl rfl rfl rfl (Nat.le_of_ble_eq_true rfl) ⟨(Nat.le_of_ble_eq_true rfl), (Nat.le_of_ble_eq_true rfl)⟩ (Nat.le_of_ble_eq_true rfl) (Nat.le_of_ble_eq_true rfl) ?_
  refine xj_ldc2 dX0_rowOf_5 q611 ?_
  refine xj_lxor dX0_rowOf_8 ?_
  refine xj_land dX0_rowOf_9 ?_
  rw [wb_andn hS (Nat.lt_of_lt_of_le (Nat.sub_lt (Nat.two_pow_pos _) (by decide)) (Nat.pow_le_pow_right (by decide) (by omega)))]
  refine xj_lc0 dX0_rowOf_10 ?_
  refine xj_lcmp dX0_rowOf_11 ?_
  refine xj_if_eq (tgt := 17) dX0_rowOf_12 rfl (fun c12 => ?_) (fun c12 => ?_)
  · have hS0 : S / 2 ^ na n = 0 := (ro_z hS).mp (lc_z (andn_lt hS) c12)
    have hSn : S < 2 ^ na n := by rw [Nat.div_eq_zero_iff] at hS0; rcases hS0 with h | h; exact absurd h (Nat.ne_of_gt (Nat.two_pow_pos _)); exact h
    refine xj_aload_n dX0_rowOf_17 rfl rfl ?_
    refine xj_aload_n dX0_rowOf_18 rfl rfl ?_
    refine xj_get dX0_rowOf_19 K0 8 (by decide) q477 hO rfl ?_
    refine xj_dV dX0_rowOf_22 q772 kV_X0_first (A_first hv h11 (by decide) (by decide) (by omega)) hO rfl rfl rfl rfl (Nat.le_of_ble_eq_true rfl) ⟨(Nat.le_of_ble_eq_true rfl), (Nat.le_of_ble_eq_true rfl)⟩ (Nat.le_of_ble_eq_true rfl) (Nat.le_of_ble_eq_true rfl) ?_
    rintro _ _ ⟨rfl, M0, hM0, hM0R, rfl⟩
    refine xj_lload_n dX0_rowOf_25 rfl ?_
    refine xj_lstn3 dX0_rowOf_26 rfl ?_
    have lp : ∀ (K : Nat) (f : Nat) (x : Nat) (J : Nat) (M : List Int32) (N : List Int32) (H : xH), x < K → (x < 2 ^ na n) → (pc64 x ≤ f) → (J ∈ rws n) → (jF n f x J = jfin n S) → (M.length = 6) → (rwL n J M) → (N.length = 6) → (gfr [11, 12] G H) → (H[11]? = some (cI 1 M)) → (H[12]? = some (cI 1 N)) → xJ E (yX0_rowOf, cX0_rowOf, 5, (some FieldType.int), []) (xR 3 0 0) (xre (fun v_ G' => v_ = some (.int (o_rowOf n S)) ∧ cPo d G G')) 0 0 27 [some (.ref 0), some (.long (lN S)), none, some (.long (lN x)), none] [] H := by
      intro K
      induction K with
      | zero => intro f x J M N H h; exact absurd h (Nat.not_lt_zero _)
      | succ K ih_lp =>
        intro f x J M N H hK hx hf hJ hs hM hMR hN_ hfr k11 k12
        have k0 : H[0]? = some (cO 0 (cFs d)) := (hfr.2 0 (by decide)).trans hO
        have k4 : H[4]? = some (cO 3 (oFs e)) := (hfr.2 4 (by decide)).trans hN
        have hvH : cV d e n H := ⟨k0, k4, hn0, h1n, hn6⟩
        have hx64 : x < 2 ^ 64 := Nat.lt_of_lt_of_le hx (Nat.pow_le_pow_right (by decide) (by omega))
        refine xj_lload_n dX0_rowOf_27 rfl ?_
        refine xj_lc0 dX0_rowOf_28 ?_
        refine xj_lcmp dX0_rowOf_29 ?_
        refine xj_if_eq (tgt := 75) dX0_rowOf_30 rfl (fun c30 => ?_) (fun c30 => ?_)
        · have hx0 : x = 0 := (lN_0 hx64).mp ((lg_cmp_eq _ _).mp c30)
          subst hx0
          have hs : J = jfin n S := by rw [← hs]; cases f <;> rfl
          refine xj_aload_n dX0_rowOf_75 rfl rfl ?_
          refine xj_aload_n dX0_rowOf_76 rfl rfl ?_
          refine xj_get dX0_rowOf_77 K0 8 (by decide) q477 k0 rfl ?_
          refine xj_cV dX0_rowOf_80 q788 kV_X0_diagramOf (A_diagramOf hvH k11 hMR hJ) k0 rfl rfl rfl rfl (Nat.le_of_ble_eq_true rfl) ⟨(Nat.le_of_ble_eq_true rfl), (Nat.le_of_ble_eq_true rfl)⟩ (Nat.le_of_ble_eq_true rfl) (Nat.le_of_ble_eq_true rfl) ?_
          refine xj_lload_n dX0_rowOf_83 rfl ?_
          refine xj_lcmp dX0_rowOf_84 ?_
          refine xj_if_ne (tgt := 99) dX0_rowOf_85 rfl (fun c85 => ?_) (fun c85 => ?_)
          · refine xj_bipush (v := -3) dX0_rowOf_99 rfl ?_
            exact xj_ireturn dX0_rowOf_101 rfl rfl (by refine ⟨?_, cPo.r2 hP hfr hM hN_ k11 k12⟩; unfold o_rowOf; rw [if_pos hS0, ← rowOf_law (by omega) h1n hSn, ← hs]; first | (rw [if_neg (fun q => c85 ((lg_cmp_eq _ _).mpr (by rw [q])))]) | (rw [if_pos (lN_inj64 (Nat.lt_trans (dgm_lt (by omega) hJ) (by decide)) hS ((lg_cmp_eq _ _).mp c85))]))
          · refine xj_aload_n dX0_rowOf_88 rfl rfl ?_
            refine xj_aload_n dX0_rowOf_89 rfl rfl ?_
            refine xj_get dX0_rowOf_90 K0 8 (by decide) q477 k0 rfl ?_
            refine xj_cV dX0_rowOf_93 q632 kV_X0_told (A_told hvH k11 hMR (f_tl n (by omega) J hJ)) k0 rfl rfl rfl rfl (Nat.le_of_ble_eq_true rfl) ⟨(Nat.le_of_ble_eq_true rfl), (Nat.le_of_ble_eq_true rfl)⟩ (Nat.le_of_ble_eq_true rfl) (Nat.le_of_ble_eq_true rfl) ?_
            refine xj_goto (tgt := 101) dX0_rowOf_96 rfl ?_
            exact xj_ireturn dX0_rowOf_101 rfl rfl (by refine ⟨?_, cPo.r2 hP hfr hM hN_ k11 k12⟩; unfold o_rowOf; rw [if_pos hS0, ← rowOf_law (by omega) h1n hSn, ← hs]; first | (rw [if_neg (fun q => c85 ((lg_cmp_eq _ _).mpr (by rw [q])))]) | (rw [if_pos (lN_inj64 (Nat.lt_trans (dgm_lt (by omega) hJ) (by decide)) hS ((lg_cmp_eq _ _).mp c85))]))
        · have hx0 : 0 < x := Nat.pos_of_ne_zero fun h => c30 ((lg_cmp_eq _ _).mpr (by rw [h]; rfl))
          have hlt := and_pred_lt hx0
          obtain ⟨l1, l2, l3⟩ := lwb_ok hx0 hx64
          have hln : lwb x < na n := bit_lt hx l2
          obtain ⟨LB, hBr, hLB, hBk⟩ := hT0.mv hdy (hfr.gfa.kpt (by decide))
          obtain ⟨a, u, hda, hLi, hGa⟩ := hBk (lwb x) hln
          have hda1 := hda.1
          have hpp := pc64_pred x x (Nat.le_refl _) hx0 hx64
          obtain ⟨f, rfl⟩ : ∃ f0, f = f0 + 1 := ⟨f - 1, by omega⟩
          rw [show jF n (f + 1) x J = jF n f (x &&& (x - 1)) (jnS n (inv n J ||| inv n (stm n (lwb x)))) from by show (if x = 0 then J else _) = _; rw [if_neg (by omega)]] at hs
          have hsm := stm_mem (n := n) (by omega) hln
          have hJ2 := jn2_mem (by omega) h1n hJ hsm
          refine xj_aload_n dX0_rowOf_33 rfl rfl ?_
          refine xj_aload_n dX0_rowOf_34 rfl rfl ?_
          refine xj_get dX0_rowOf_35 K0 3 (by decide) q471 k0 (congrArg some hd3) ?_
          refine xj_lload_n dX0_rowOf_38 rfl ?_
          refine xj_cS dX0_rowOf_39 q800 kS_X0_lowestOf (A_lowestOf hx0 hx64) rfl rfl (Nat.le_of_ble_eq_true rfl) ⟨(Nat.le_of_ble_eq_true rfl), (Nat.le_of_ble_eq_true rfl)⟩ (Nat.le_of_ble_eq_true rfl) (Nat.le_of_ble_eq_true rfl) ?_
          refine xj_aald dX0_rowOf_42 hBr rfl rfl rfl (by omega) hLi ?_
          refine xj_aload_n dX0_rowOf_43 rfl rfl ?_
          refine xj_get dX0_rowOf_44 K0 9 (by decide) q478 k0 rfl ?_
          refine xj_dV dX0_rowOf_47 q768 kV_X0_stemOf (A_stemOf hvH hGa hln k12 (by decide) (by decide) (by omega) (by omega) (by omega)) k0 rfl rfl rfl rfl (Nat.le_of_ble_eq_true rfl) ⟨(Nat.le_of_ble_eq_true rfl), (Nat.le_of_ble_eq_true rfl)⟩ (Nat.le_of_ble_eq_true rfl) (Nat.le_of_ble_eq_true rfl) ?_
          rintro _ _ ⟨rfl, N1, hN1, hN1R, rfl⟩
          have hv1 : cV d e n (H.set 12 (cI 1 N1)) := hvH.set (by decide) (by decide)
          obtain ⟨j0, j4, -⟩ := id hv1
          have j11 : (H.set 12 (cI 1 N1))[11]? = some (cI 1 M) := by rw [gset (by decide)]; exact k11
          refine xj_aload_n dX0_rowOf_50 rfl rfl ?_
          refine xj_aload_n dX0_rowOf_51 rfl rfl ?_
          refine xj_get dX0_rowOf_52 K0 8 (by decide) q477 j0 rfl ?_
          refine xj_aload_n dX0_rowOf_55 rfl rfl ?_
          refine xj_get dX0_rowOf_56 K0 9 (by decide) q478 j0 rfl ?_
          refine xj_aload_n dX0_rowOf_59 rfl rfl ?_
          refine xj_get dX0_rowOf_60 K0 8 (by decide) q477 j0 rfl ?_
          refine xj_dV dX0_rowOf_63 q640 kV_X0_joined (A_joined hv1 j11 hMR hJ (gset_self k12) hN1R hsm j11 (by decide) (by decide) hJ2 (by omega) (by omega) (jn_law (by omega) h1n hJ hsm)) j0 rfl rfl rfl rfl (Nat.le_of_ble_eq_true rfl) ⟨(Nat.le_of_ble_eq_true rfl), (Nat.le_of_ble_eq_true rfl)⟩ (Nat.le_of_ble_eq_true rfl) (Nat.le_of_ble_eq_true rfl) ?_
          rintro _ _ ⟨rfl, M1, hM1, hM1R, rfl⟩
          refine xj_lload_n dX0_rowOf_66 rfl ?_
          refine xj_lload_n dX0_rowOf_67 rfl ?_
          refine xj_lc1 dX0_rowOf_68 ?_
          refine xj_lsub dX0_rowOf_69 ?_
          rw [wb_pred hx0 hx64]
          refine xj_land dX0_rowOf_70 ?_
          rw [wb_and hx64 (by omega)]
          refine xj_lstn3 dX0_rowOf_71 rfl ?_
          refine xj_goto (tgt := 27) dX0_rowOf_72 rfl ?_
          exact ih_lp f (x &&& (x - 1)) _ M1 N1 _ (by omega) (by omega) (by omega) hJ2 hs (by omega) hM1R (by omega) ((hfr.set (by decide)).set (by decide)) (gset_self j11) (by rw [gset (by decide)]; exact gset_self k12)
    exact lp (S + 1) 64 S (rb n 0) M0 L2 _ (by omega) hSn (pc64_le _) (rb_mem (by omega) h1n (wy_in n (by omega)).1) rfl (by omega) hM0R (by omega) (gfr.refl.set (by decide)) (gset_self h11) (by rw [gset (by decide)]; exact h12)
  · refine xj_icm1 dX0_rowOf_15 ?_
    exact xj_ireturn dX0_rowOf_16 rfl rfl ⟨by unfold o_rowOf; rw [if_neg (fun q => c12 (lc_0 ((ro_z hS).mpr q)))], hP⟩
end A30
