/-! ===== the class: arcs are made ===== -/
set_option maxRecDepth 100000
theorem kV_X0_link : xsV yX0_link cX0_link 3 none 1 := ⟨q454, qs4, q151, q455, by decide, by decide, by decide +kernel⟩
theorem kI_X6_init : xsI yX6_init cX6_init 5 4 := ⟨q399, q160, q400, rfl, by decide, by decide, by decide +kernel⟩
/-- addresses from B on, N of them, are such as are made as wanted -/
def dynR (B N : Nat) : Prop := 42 ≤ B ∧ (B + N ≤ 54 ∨ 82 < B)
theorem dynR.at {B N j : Nat} (h : dynR B N) (hj : j < N) : dyn (B + j) := by unfold dynR at h; unfold dyn; omega
theorem i32_nlt {x y : Int32} (h : ¬ y < x) : x ≤ y := by rw [Int32.le_iff_toInt_le]; rw [Int32.lt_iff_toInt_lt] at h; omega
theorem fsA_end {n : Nat} (h1 : 1 ≤ n) (hn : n < 7) : fsA n n (n + 1) = na n := by
  match n, h1, hn with
  | 1, _, _ => decide
  | 2, _, _ => decide
  | 3, _, _ => decide
  | 4, _, _ => decide
  | 5, _, _ => decide
  | 6, _, _ => decide
  | k + 7, _, h => omega
theorem fsA_le {n lo hi : Nat} (hn : n < 7) (h1 : 1 ≤ lo) (h2 : lo < hi) (h3 : hi ≤ n) : fsA n lo hi + 2 ^ (hi - lo - 1) ≤ na n := by
  have hp : 0 < 2 ^ (hi - lo - 1) := Nat.two_pow_pos _
  have h16 := (f_fs1 n hn lo (by omega) h1 hi (by omega) h2 h3).2
  have := (f_fs n hn lo (by omega) h1 hi (by omega) h2 h3 (2 ^ (hi - lo - 1) - 1) (by omega) (by omega)).1
  omega
theorem lkA.congr {G H : xH} {ar n : Nat} {F F' : Nat → List Value} (h : lkA G ar n F H) (he : ∀ j, j < na n → F j = F' j) : lkA G ar n F' H := ⟨h.1, h.2.1, fun k hk => by rw [← he k hk]; exact h.2.2.1 k hk, h.2.2.2⟩
theorem ff_ex {n B k j : Nat} {H : xH} (h : H[B + j]? = some (cO 6 (if j < k then arF n B j (.long (lN (fo n j))) (.long (lN (fcr n j))) else arF n B j (.long 0) (.long 0)))) : ∃ u v, H[B + j]? = some (cO 6 (arF n B j u v)) := by
  by_cases hj : j < k
  · rw [if_pos hj] at h; exact ⟨_, _, h⟩
  · rw [if_neg hj] at h; exact ⟨_, _, h⟩
theorem lkA.tb {G H : xH} {ar n : Nat} {F : Nat → List Value} (h : lkA G ar n F H) (hF : ∀ j, j < na n → F j = arF n G.length j (.long (lN (fo n j))) (.long (lN (fcr n j)))) (hd : dynR G.length (na n)) : aTb n ar H :=
  ⟨_, h.2.1, LJ_len, fun k hk => ⟨G.length + k, fun i => lval n G.length k i, hd.at hk, h.at hk, by rw [h.2.2.1 k hk, hF k hk]; rfl⟩⟩
section A22
variable {E : xE} {G : xH} {d e : Nat → Value} {n : Nat}
theorem A_makeArcs {ar : Nat}  (hv : cV d e n G) (hd3 : d 3 = .ref ar) (har : ar < G.length) (hAr : G[ar]? = some (cR 5 (List.replicate (na n) .null))) (har4 : 4 < ar) (hB42 : dynR G.length (na n)) : xMet E yX0_makeArcs cX0_makeArcs 5 none 121 57 684 [.ref 0] G (xre (fun v_ G' => v_ = none ∧ G'.length = G.length + na n ∧ aTb n ar G' ∧ ∀ i, i < G.length → i ≠ ar → G'[i]? = G[i]?)) := by
  obtain ⟨hO, hN, hn0, h1n, hn6⟩ := id hv
  have hna := na_lt n (by omega)
  have k125 : ∀ H : xH, lkA G ar n (fun j => if j < na n then arF n G.length j (.long 0) (.long 0) else ar0 n j) H → xJ E (yX0_makeArcs, cX0_makeArcs, 5, none, []) (xR 121 57 684) (xre (fun v_ G' => v_ = none ∧ G'.length = G.length + na n ∧ aTb n ar G' ∧ ∀ i, i < G.length → i ≠ ar → G'[i]? = G[i]?)) 0 0 125 [some (.ref 0), some (.int (nI (na n))), none, none, none] [] H := by
    intro H hm
    refine xj_ic0 dX0_makeArcs_125 ?_
    refine xj_istn1 dX0_makeArcs_126 rfl ?_
    have lp : ∀ (K : Nat) (k : Nat) (H : xH), na n - k < K → (k ≤ na n) → (lkA G ar n (fun j => if j < k then arF n G.length j (.long (lN (fo n j))) (.long (lN (fcr n j))) else arF n G.length j (.long 0) (.long 0)) H) → xJ E (yX0_makeArcs, cX0_makeArcs, 5, none, []) (xR 121 57 684) (xre (fun v_ G' => v_ = none ∧ G'.length = G.length + na n ∧ aTb n ar G' ∧ ∀ i, i < G.length → i ≠ ar → G'[i]? = G[i]?)) 0 0 127 [some (.ref 0), some (.int (nI k)), none, none, none] [] H := by
      intro K
      induction K with
      | zero => intro k H h; exact absurd h (Nat.not_lt_zero _)
      | succ K ih_lp =>
        intro k H hK hk hm
        obtain ⟨q1, q2, q3, q4⟩ := id hm
        have k0 : H[0]? = some (cO 0 (cFs d)) := (q4 0 (by omega) (by omega)).trans hO
        have k4 : H[4]? = some (cO 3 (oFs e)) := (q4 4 (by omega) (by omega)).trans hN
        refine xj_iload_n dX0_makeArcs_127 rfl ?_
        refine xj_aload_n dX0_makeArcs_128 rfl rfl ?_
        refine xj_get dX0_makeArcs_129 K0 3 (by decide) q471 k0 (congrArg some hd3) ?_
        refine xj_alenR dX0_makeArcs_132 q2 rfl ?_
        rw [LJ_len]
        refine xj_icmp_ge (tgt := 182) dX0_makeArcs_133 rfl (fun c133 => ?_) (fun c133 => ?_)
        · exact xj_return dX0_makeArcs_182 rfl (by have hkn : k = na n := (by have := Nat.le_of_not_lt fun h => absurd c133 (nI_ge h (by omega)); omega); subst hkn; exact ⟨rfl, q1, hm.tb (fun j hj => by rw [if_pos hj]) hB42, q4⟩)
        · have hkn : k < na n := Nat.lt_of_not_le fun h => c133 (nI_le h (by omega))
          have q3k := q3 k hkn
          dsimp only at q3k
          rw [if_neg (Nat.lt_irrefl k)] at q3k
          obtain ⟨w1, w2⟩ := f_wth (n := n) (by omega) hkn
          have hT : ∀ j, j < na n → ∃ u v, H[G.length + j]? = some (cO 6 (arF n G.length j u v)) := fun j hj => ff_ex (q3 j hj)
          have hm1 := hm.set (f := arF n G.length k (.long (lN (fo n k))) (.long 0)) har hkn
          obtain ⟨r1, r2, r3, r4⟩ := id hm1
          have r3k := r3 k hkn
          dsimp only at r3k
          rw [if_pos rfl] at r3k
          have j0 := (r4 0 (by omega) (by omega)).trans hO
          have hT1 : ∀ j, j < na n → ∃ u v, (H.set (G.length + k) (cO 6 (arF n G.length k (.long (lN (fo n k))) (.long 0))))[G.length + j]? = some (cO 6 (arF n G.length j u v)) := fun j hj => by
            by_cases e : j = k
            · subst e; exact ⟨_, _, r3k⟩
            · rw [gset (by omega)]; exact hT j hj
          refine xj_aload_n dX0_makeArcs_136 rfl rfl ?_
          refine xj_get dX0_makeArcs_137 K0 3 (by decide) q471 k0 (congrArg some hd3) ?_
          refine xj_iload_n dX0_makeArcs_140 rfl ?_
          refine xj_aald dX0_makeArcs_141 q2 rfl rfl rfl (by omega) (hm.at hkn) ?_
          refine xj_aload_n dX0_makeArcs_142 rfl rfl ?_
          refine xj_get dX0_makeArcs_143 K0 3 (by decide) q471 k0 (congrArg some hd3) ?_
          refine xj_iload_n dX0_makeArcs_146 rfl ?_
          refine xj_aald dX0_makeArcs_147 q2 rfl rfl rfl (by omega) (hm.at hkn) ?_
          refine xj_lc0 dX0_makeArcs_148 ?_
          refine xj_ic1 dX0_makeArcs_149 ?_
          refine xj_cV dX0_makeArcs_150 q460 kV_X6_with (A_with (t := true) hT (by omega) 60 0 k _ (by decide) hkn w1) q3k rfl rfl rfl rfl (Nat.le_of_ble_eq_true rfl) ⟨(Nat.le_of_ble_eq_true rfl), (Nat.le_of_ble_eq_true rfl)⟩ (Nat.le_of_ble_eq_true rfl) (Nat.le_of_ble_eq_true rfl) ?_
          refine xj_putN dX0_makeArcs_153 K6 10 (by decide) q425 rfl rfl q3k (Nat.le_of_ble_eq_true rfl) ?_
          refine xj_eq rfl rfl (show _ = H.set (G.length + k) (cO 6 (arF n G.length k (.long (lN (fo n k))) (.long 0))) from rfl) ?_
          refine xj_aload_n dX0_makeArcs_156 rfl rfl ?_
          refine xj_get dX0_makeArcs_157 K0 3 (by decide) q471 j0 (congrArg some hd3) ?_
          refine xj_iload_n dX0_makeArcs_160 rfl ?_
          refine xj_aald dX0_makeArcs_161 r2 rfl rfl rfl (by omega) (hm.at hkn) ?_
          refine xj_aload_n dX0_makeArcs_162 rfl rfl ?_
          refine xj_get dX0_makeArcs_163 K0 3 (by decide) q471 j0 (congrArg some hd3) ?_
          refine xj_iload_n dX0_makeArcs_166 rfl ?_
          refine xj_aald dX0_makeArcs_167 r2 rfl rfl rfl (by omega) (hm.at hkn) ?_
          refine xj_lc0 dX0_makeArcs_168 ?_
          refine xj_ic0 dX0_makeArcs_169 ?_
          refine xj_cV dX0_makeArcs_170 q460 kV_X6_with (A_with (t := false) hT1 (by omega) 60 0 k _ (by decide) hkn w2) r3k rfl rfl rfl rfl (Nat.le_of_ble_eq_true rfl) ⟨(Nat.le_of_ble_eq_true rfl), (Nat.le_of_ble_eq_true rfl)⟩ (Nat.le_of_ble_eq_true rfl) (Nat.le_of_ble_eq_true rfl) ?_
          refine xj_putN dX0_makeArcs_173 K6 11 (by decide) q426 rfl rfl r3k (Nat.le_of_ble_eq_true rfl) ?_
          refine xj_iinc1 (cst := 1) dX0_makeArcs_176 rfl rfl ?_
          rw [nI_1]
          refine xj_goto (tgt := 127) dX0_makeArcs_179 rfl ?_
          exact ih_lp (k + 1) _ (by omega) (by omega) (by rw [gset_set]; exact (hm.set (f := arF n G.length k (.long (lN (fo n k))) (.long (lN (fcr n k)))) har hkn).congr (fun j hj => by by_cases e : j = k; (rw [if_pos e, if_pos (by omega), e]); (rw [if_neg e]; by_cases h : j < k; (rw [if_pos h, if_pos (by omega)]); (rw [if_neg h, if_neg (by omega)]))))
    exact lp (na n + 1) 0 H (by omega) (by omega) (hm.congr (fun j hj => by rw [if_neg (Nat.not_lt_zero _), if_pos hj]))
  have k98 : ∀ H : xH, mkA G ar n (na n) H → xJ E (yX0_makeArcs, cX0_makeArcs, 5, none, []) (xR 121 57 684) (xre (fun v_ G' => v_ = none ∧ G'.length = G.length + na n ∧ aTb n ar G' ∧ ∀ i, i < G.length → i ≠ ar → G'[i]? = G[i]?)) (57 - na n) (12 * (57 - na n)) 98 [some (.ref 0), some (.int (nI n)), none, none, none] [] H := by
    intro H hm
    refine xj_wk (nc' := 0) (ns' := 0) (Nat.zero_le _) (Nat.zero_le _) ?_
    refine xj_ic0 dX0_makeArcs_98 ?_
    refine xj_istn1 dX0_makeArcs_99 rfl ?_
    have lp : ∀ (K : Nat) (k : Nat) (H : xH), na n - k < K → (k ≤ na n) → (lkA G ar n (fun j => if j < k then arF n G.length j (.long 0) (.long 0) else ar0 n j) H) → xJ E (yX0_makeArcs, cX0_makeArcs, 5, none, []) (xR 121 57 684) (xre (fun v_ G' => v_ = none ∧ G'.length = G.length + na n ∧ aTb n ar G' ∧ ∀ i, i < G.length → i ≠ ar → G'[i]? = G[i]?)) 0 0 100 [some (.ref 0), some (.int (nI k)), none, none, none] [] H := by
      intro K
      induction K with
      | zero => intro k H h; exact absurd h (Nat.not_lt_zero _)
      | succ K ih_lp =>
        intro k H hK hk hm
        obtain ⟨q1, q2, q3, q4⟩ := id hm
        have k0 : H[0]? = some (cO 0 (cFs d)) := (q4 0 (by omega) (by omega)).trans hO
        have k4 : H[4]? = some (cO 3 (oFs e)) := (q4 4 (by omega) (by omega)).trans hN
        refine xj_iload_n dX0_makeArcs_100 rfl ?_
        refine xj_aload_n dX0_makeArcs_101 rfl rfl ?_
        refine xj_get dX0_makeArcs_102 K0 3 (by decide) q471 k0 (congrArg some hd3) ?_
        refine xj_alenR dX0_makeArcs_105 q2 rfl ?_
        rw [LJ_len]
        refine xj_icmp_ge (tgt := 125) dX0_makeArcs_106 rfl (fun c106 => ?_) (fun c106 => ?_)
        · have hkn : k = na n := by have := Nat.le_of_not_lt fun h => absurd c106 (nI_ge h (by omega)); omega
          subst hkn
          exact k125 H hm
        · have hkn : k < na n := Nat.lt_of_not_le fun h => c106 (nI_le h (by omega))
          have hvH : cV d e n H := ⟨k0, k4, hn0, h1n, hn6⟩
          have q3k := q3 k hkn
          dsimp only at q3k
          rw [if_neg (Nat.lt_irrefl k)] at q3k
          refine xj_aload_n dX0_makeArcs_109 rfl rfl ?_
          refine xj_aload_n dX0_makeArcs_110 rfl rfl ?_
          refine xj_get dX0_makeArcs_111 K0 3 (by decide) q471 k0 (congrArg some hd3) ?_
          refine xj_iload_n dX0_makeArcs_114 rfl ?_
          refine xj_aald dX0_makeArcs_115 q2 rfl rfl rfl (by omega) (hm.at hkn) ?_
          refine xj_cV dX0_makeArcs_116 q452 kV_X0_link (A_link hvH hd3 q2 (fun j hj => hm.at hj) hkn q3k (by omega) (by omega) (by omega)) k0 rfl rfl rfl rfl (Nat.le_of_ble_eq_true rfl) ⟨(Nat.le_of_ble_eq_true rfl), (Nat.le_of_ble_eq_true rfl)⟩ (Nat.le_of_ble_eq_true rfl) (Nat.le_of_ble_eq_true rfl) ?_
          refine xj_iinc1 (cst := 1) dX0_makeArcs_119 rfl rfl ?_
          rw [nI_1]
          refine xj_goto (tgt := 100) dX0_makeArcs_122 rfl ?_
          exact ih_lp (k + 1) _ (by omega) (by omega) ((hm.set har hkn).congr (fun j hj => by by_cases e : j = k; (rw [if_pos e, if_pos (by omega), e]); (rw [if_neg e]; by_cases h : j < k; (rw [if_pos h, if_pos (by omega)]); (rw [if_neg h, if_neg (by omega)]))))
    exact lp (na n + 1) 0 H (by omega) (by omega) (hm.lk.congr (fun j hj => by rw [if_neg (Nat.not_lt_zero _)]))
  refine xMet.of (lv := [some (.ref 0), none, none, none, none]) rfl rfl (Nat.le_of_ble_eq_true rfl) ?_
  refine xj_ic1 dX0_makeArcs_0 ?_
  refine xj_istn1 dX0_makeArcs_1 rfl ?_
  refine xj_wk (nc' := 57 - fsA n 1 (1 + 1)) (ns' := 12 * (57 - fsA n 1 (1 + 1))) (Nat.sub_le _ _) (by omega) ?_
  have ll : ∀ (K : Nat) (lo : Nat) (H : xH), n - lo < K → (1 ≤ lo ∧ lo ≤ n) → (mkA G ar n (fsA n lo (lo + 1)) H) → xJ E (yX0_makeArcs, cX0_makeArcs, 5, none, []) (xR 121 57 684) (xre (fun v_ G' => v_ = none ∧ G'.length = G.length + na n ∧ aTb n ar G' ∧ ∀ i, i < G.length → i ≠ ar → G'[i]? = G[i]?)) (57 - fsA n lo (lo + 1)) (12 * (57 - fsA n lo (lo + 1))) 2 [some (.ref 0), some (.int (nI lo)), none, none, none] [] H := by
    intro K
    induction K with
    | zero => intro lo H h; exact absurd h (Nat.not_lt_zero _)
    | succ K ih_ll =>
      intro lo H hK hlo hm
      obtain ⟨q1, q2, q3, q4⟩ := id hm
      have k0 : H[0]? = some (cO 0 (cFs d)) := (q4 0 (by omega) (by omega)).trans hO
      have k4 : H[4]? = some (cO 3 (oFs e)) := (q4 4 (by omega) (by omega)).trans hN
      refine xj_iload_n dX0_makeArcs_2 rfl ?_
      refine xj_aload_n dX0_makeArcs_3 rfl rfl ?_
      refine xj_get dX0_makeArcs_4 K0 4 (by decide) q473 k0 rfl ?_
      refine xj_getN dX0_makeArcs_7 K3 0 (by decide) q321 k4 (congrArg some hn0) ?_
      refine xj_icmp_ge (tgt := 98) dX0_makeArcs_10 rfl (fun c10 => ?_) (fun c10 => ?_)
      · have hln : lo = n := by have := Nat.le_of_not_lt fun h => absurd c10 (nI_ge h (by omega)); omega
        subst hln
        rw [fsA_end hv.2.2.2.1 (by omega)] at hm ⊢
        exact k98 H hm
      · have hln : lo < n := Nat.lt_of_not_le fun h => c10 (nI_le h (by omega))
        refine xj_iload_n dX0_makeArcs_13 rfl ?_
        refine xj_ic1 dX0_makeArcs_14 ?_
        refine xj_iadd dX0_makeArcs_15 ?_
        rw [nI_1]
        refine xj_istn2 dX0_makeArcs_16 rfl ?_
        have lh : ∀ (K : Nat) (hi : Nat) (H : xH), n + 1 - hi < K → (lo < hi ∧ hi ≤ n + 1) → (mkA G ar n (fsA n lo hi) H) → xJ E (yX0_makeArcs, cX0_makeArcs, 5, none, []) (xR 121 57 684) (xre (fun v_ G' => v_ = none ∧ G'.length = G.length + na n ∧ aTb n ar G' ∧ ∀ i, i < G.length → i ≠ ar → G'[i]? = G[i]?)) (57 - fsA n lo hi) (12 * (57 - fsA n lo hi)) 17 [some (.ref 0), some (.int (nI lo)), some (.int (nI hi)), none, none] [] H := by
          intro K
          induction K with
          | zero => intro hi H h; exact absurd h (Nat.not_lt_zero _)
          | succ K ih_lh =>
            intro hi H hK hh hm
            obtain ⟨q1, q2, q3, q4⟩ := id hm
            have k0 : H[0]? = some (cO 0 (cFs d)) := (q4 0 (by omega) (by omega)).trans hO
            have k4 : H[4]? = some (cO 3 (oFs e)) := (q4 4 (by omega) (by omega)).trans hN
            refine xj_iload_n dX0_makeArcs_17 rfl ?_
            refine xj_aload_n dX0_makeArcs_18 rfl rfl ?_
            refine xj_get dX0_makeArcs_19 K0 4 (by decide) q473 k0 rfl ?_
            refine xj_getN dX0_makeArcs_22 K3 0 (by decide) q321 k4 (congrArg some hn0) ?_
            refine xj_icmp_gt (tgt := 92) dX0_makeArcs_25 rfl (fun c25 => ?_) (fun c25 => ?_)
            · have hhn : hi = n + 1 := by have : ¬ hi ≤ n := fun h => i32_le (nI_le h (by omega)) c25; omega
              subst hhn
              have e2 := f_fs2 n (by omega) lo (by omega) (by omega) (by omega)
              rw [← e2] at hm
              refine xj_iinc1 (cst := 1) dX0_makeArcs_92 rfl rfl ?_
              rw [nI_1]
              refine xj_goto (tgt := 2) dX0_makeArcs_95 rfl ?_
              refine xj_wk (nc' := 57 - fsA n (lo + 1) (lo + 2)) (ns' := 12 * (57 - fsA n (lo + 1) (lo + 2))) (by omega) (by omega) ?_
              exact xj_fg2 (ih_ll (lo + 1) H (by omega) (by omega) hm)
            · have hhn : hi ≤ n := (nI_leI (by omega) (by omega)).mp (i32_nlt c25)
              obtain ⟨g1, g2⟩ := f_fs1 n (by omega) lo (by omega) (by omega) hi (by omega) (by omega) (by omega)
              have g3 := fsA_le (n := n) (lo := lo) (hi := hi) (by omega) (by omega) (by omega) (by omega)
              refine xj_iload_n dX0_makeArcs_28 rfl ?_
              refine xj_iload_n dX0_makeArcs_29 rfl ?_
              refine xj_aload_n dX0_makeArcs_30 rfl rfl ?_
              refine xj_get dX0_makeArcs_31 K0 4 (by decide) q473 k0 rfl ?_
              refine xj_getN dX0_makeArcs_34 K3 0 (by decide) q321 k4 (congrArg some hn0) ?_
              refine xj_cS dX0_makeArcs_37 q394 kS_X0_firstOf (A_firstOf (by omega) (by omega) (by omega) hn6) rfl rfl (Nat.le_of_ble_eq_true rfl) ⟨(Nat.le_of_ble_eq_true rfl), (Nat.le_of_ble_eq_true rfl)⟩ (Nat.le_of_ble_eq_true rfl) (Nat.le_of_ble_eq_true rfl) ?_
              refine xj_istn3 dX0_makeArcs_40 rfl ?_
              refine xj_ic0 dX0_makeArcs_41 ?_
              refine xj_ist4 dX0_makeArcs_42 rfl ?_
              have lw : ∀ (K : Nat) (l : Nat) (H : xH), 2 ^ (hi - lo - 1) - l < K → (l ≤ 2 ^ (hi - lo - 1)) → (mkA G ar n (fsA n lo hi + l) H) → xJ E (yX0_makeArcs, cX0_makeArcs, 5, none, []) (xR 121 57 684) (xre (fun v_ G' => v_ = none ∧ G'.length = G.length + na n ∧ aTb n ar G' ∧ ∀ i, i < G.length → i ≠ ar → G'[i]? = G[i]?)) (57 - (fsA n lo hi + l)) (12 * (57 - (fsA n lo hi + l))) 44 [some (.ref 0), some (.int (nI lo)), some (.int (nI hi)), some (.int (nI (fsA n lo hi))), some (.int (nI l))] [] H := by
                intro K
                induction K with
                | zero => intro l H h; exact absurd h (Nat.not_lt_zero _)
                | succ K ih_lw =>
                  intro l H hK hl hm
                  obtain ⟨q1, q2, q3, q4⟩ := id hm
                  have k0 : H[0]? = some (cO 0 (cFs d)) := (q4 0 (by omega) (by omega)).trans hO
                  have k4 : H[4]? = some (cO 3 (oFs e)) := (q4 4 (by omega) (by omega)).trans hN
                  refine xj_iload dX0_makeArcs_44 rfl ?_
                  refine xj_ic1 dX0_makeArcs_46 ?_
                  refine xj_iload_n dX0_makeArcs_47 rfl ?_
                  refine xj_iload_n dX0_makeArcs_48 rfl ?_
                  refine xj_isub dX0_makeArcs_49 ?_
                  refine xj_ic1 dX0_makeArcs_50 ?_
                  refine xj_isub dX0_makeArcs_51 ?_
                  refine xj_ishl dX0_makeArcs_52 ?_
                  refine xj_top (c_pw lo (by omega) hi (by omega) (by omega)) ?_
                  refine xj_icmp_ge (tgt := 86) dX0_makeArcs_53 rfl (fun c53 => ?_) (fun c53 => ?_)
                  · have hll : l = 2 ^ (hi - lo - 1) := by have := Nat.le_of_not_lt fun h => absurd c53 (nI_ge h (by omega)); omega
                    subst hll
                    rw [← (f_fs1 n (by omega) lo (by omega) (by omega) hi (by omega) (by omega) (by omega)).1] at hm
                    refine xj_iinc2 (cst := 1) dX0_makeArcs_86 rfl rfl ?_
                    rw [nI_1]
                    refine xj_goto (tgt := 17) dX0_makeArcs_89 rfl ?_
                    refine xj_wk (nc' := 57 - fsA n lo (hi + 1)) (ns' := 12 * (57 - fsA n lo (hi + 1))) (by omega) (by omega) ?_
                    exact xj_fg3 (xj_fg4 (ih_lh (hi + 1) H (by omega) (by omega) hm))
                  · have hll : l < 2 ^ (hi - lo - 1) := Nat.lt_of_not_le fun h => c53 (nI_le h (by omega))
                    obtain ⟨f1, f2, f3, f4⟩ := f_fs n (by omega) lo (by omega) (by omega) hi (by omega) (by omega) (by omega) l (by omega) hll
                    refine xj_aload_n dX0_makeArcs_56 rfl rfl ?_
                    refine xj_get dX0_makeArcs_57 K0 3 (by decide) q471 k0 (congrArg some hd3) ?_
                    refine xj_iload_n dX0_makeArcs_60 rfl ?_
                    refine xj_iload dX0_makeArcs_61 rfl ?_
                    refine xj_iadd dX0_makeArcs_63 ?_
                    rw [nI_add]
                    refine xj_new (fs := [.int 0, .int 0, .int 0, .int 0, .null, .null, .null, .null, .null, .null, .long 0, .long 0]) dX0_makeArcs_64 K6 q389 q397 q160 rfl (by omega) (by omega) ?_
                    refine xj_dup dX0_makeArcs_67 rfl ?_
                    have z6 : (H ++ [cO 6 [.int 0, .int 0, .int 0, .int 0, .null, .null, .null, .null, .null, .null, .long 0, .long 0]])[H.length]? = some (cO 6 [.int 0, .int 0, .int 0, .int 0, .null, .null, .null, .null, .null, .null, .long 0, .long 0]) := by rw [List.getElem?_append_right (Nat.le_refl _), Nat.sub_self]; rfl
                    refine xj_iload_n dX0_makeArcs_68 rfl ?_
                    refine xj_iload dX0_makeArcs_69 rfl ?_
                    refine xj_iadd dX0_makeArcs_71 ?_
                    rw [nI_add]
                    refine xj_iload_n dX0_makeArcs_72 rfl ?_
                    refine xj_iload_n dX0_makeArcs_73 rfl ?_
                    refine xj_iload dX0_makeArcs_74 rfl ?_
                    refine xj_cI dX0_makeArcs_76 q398 kI_X6_init (A_arcInit z6) rfl rfl (Nat.le_of_ble_eq_true rfl) ⟨(Nat.le_of_ble_eq_true rfl), (Nat.le_of_ble_eq_true rfl)⟩ (Nat.le_of_ble_eq_true rfl) (Nat.le_of_ble_eq_true rfl) ?_
                    rw [q1, show (cO 6 [.int (nI (fsA n lo hi + l)), .int (nI lo), .int (nI hi), .int (nI l), .null, .null, .null, .null, .null, .null, .long 0, .long 0]) = (cO 6 (ar0 n (fsA n lo hi + l))) from by unfold ar0; rw [f2, f3, f4]]
                    have z7 : ((H ++ [cO 6 [.int 0, .int 0, .int 0, .int 0, .null, .null, .null, .null, .null, .null, .long 0, .long 0]]).set (G.length + (fsA n lo hi + l)) (cO 6 (ar0 n (fsA n lo hi + l))))[G.length + (fsA n lo hi + l)]? = some (cO 6 (ar0 n (fsA n lo hi + l))) := by rw [← q1]; exact gset_self z6
                    have zr : ((H ++ [cO 6 [.int 0, .int 0, .int 0, .int 0, .null, .null, .null, .null, .null, .null, .long 0, .long 0]]).set (G.length + (fsA n lo hi + l)) (cO 6 (ar0 n (fsA n lo hi + l))))[ar]? = some (cR 5 (LJ G.length (na n) (fsA n lo hi + l))) := by rw [gset (by omega), List.getElem?_append_left (by omega)]; exact q2
                    refine xj_aastO (ct := 6) dX0_makeArcs_79 zr rfl z7 rfl rfl (Or.inl rfl) rfl (by omega) (by rw [LJ_len]; exact f1) ?_
                    refine xj_iinc4 (cst := 1) dX0_makeArcs_80 rfl rfl ?_
                    rw [nI_1]
                    refine xj_goto (tgt := 44) dX0_makeArcs_83 rfl ?_
                    refine xj_wk (nc' := 57 - (fsA n lo hi + (l + 1))) (ns' := 12 * (57 - (fsA n lo hi + (l + 1)))) (by omega) (by omega) ?_
                    exact ih_lw (l + 1) _ (by omega) (by omega) (hm.step har (by omega))
              exact lw 17 0 H (by omega) (Nat.zero_le _) hm
        exact lh 7 (lo + 1) H (by omega) (by omega) hm
  exact ll 8 1 G (by omega) (by omega) ⟨rfl, by rw [(f_fs3 n (by omega) h1n).2, LJ_0]; exact hAr, fun k hk => by rw [(f_fs3 n (by omega) h1n).2] at hk; omega, fun _ _ _ => rfl⟩
end A22
