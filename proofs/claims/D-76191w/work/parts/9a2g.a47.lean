/-! ===== the class: which makers fit ===== -/
set_option maxRecDepth 100000
theorem kV_X0_isThree : xsV yX0_isThree cX0_isThree 3 (some FieldType.boolean) 2 := ⟨q1487, qs69, q151, q1488, by decide, by decide, by decide +kernel⟩
theorem kV_X0_stranger : xsV yX0_stranger cX0_stranger 2 (some (FieldType.object "CoarserOrders$Plain")) 1 := ⟨q1483, qs68, q151, q1484, by decide, by decide, by decide +kernel⟩
theorem kVW_X0_fitting : xsVW yX0_fitting cX0_fitting 10 (some FieldType.int) [(15, 100, 111, 0), (111, 113, 111, 0)] 2 := ⟨q1479, qs67, q151, q1480, by decide, by decide, by decide +kernel⟩
def cfL (n S : Nat) (xs : List Int64) : Nat → Nat → Bool
  | 0, _ => true
  | f + 1, i => if i < xs.length then (if th3 n S xs i then cfL n S xs f (i + 3) else false) else true
def cfB (n S : Nat) (xs : List Int64) : Bool := cfL n S xs 15 0
def wcF (n : Nat) (xs : List Int64) : Nat → Nat × Int32 → Nat × Int32
  | 0, s => s
  | k + 1, s => wcF n xs k (if cfB n (clo n (tkS n (k / 16) (k % 16))) xs then (s.1 + 1, nI k) else s)
theorem cf_no {n S f i : Nat} {xs : List Int64} (hi : i < xs.length) (h : th3 n S xs i = false) : cfL n S xs (f + 1) i = false := by
  show (if _ then (if _ then _ else _) else _) = _
  rw [if_pos hi, h]; rfl
theorem cf_go {n S f i : Nat} {xs : List Int64} (hi : i < xs.length) (h : th3 n S xs i = true) : cfL n S xs (f + 1) i = cfL n S xs f (i + 3) := by
  show (if _ then (if _ then _ else _) else _) = _
  rw [if_pos hi, h]; rfl
theorem cf_end {n S f i : Nat} {xs : List Int64} (hi : xs.length ≤ i) : cfL n S xs (f + 1) i = true := by
  show (if _ then (if _ then _ else _) else _) = _
  rw [if_neg (by omega)]
theorem cSt.oth {G : xH} {r : Nat} {x : xC} (h : cSt G) (h27 : r ≠ 27) (hr : r < 83) : cSt (G.set r x) := by
  obtain ⟨SL, h1, h2, h3⟩ := h
  refine ⟨SL, by rw [gset h27]; exact h1, h2, fun k hk => ?_⟩
  rcases h3 k hk with q | ⟨a, q1, q2, q3⟩
  · exact Or.inl q
  · exact Or.inr ⟨a, q1, q2, by rw [gset (by omega)]; exact q3⟩
theorem fit_b {b : Nat} (h : 82 < b) : b ∉ [4, 11, 12, 27] := by simp only [List.mem_cons, List.not_mem_nil, or_false]; omega
theorem fit_j0 {j : Nat} (hj : j ≤ 96) (h : nI j - 1 < 0) : j = 0 := by
  cases j with
  | zero => rfl
  | succ k =>
    rw [show nI (k + 1) - 1 = nI k from by rw [nI_sub1 (by omega)]; rfl] at h
    have := Int32.lt_iff_toInt_lt.mp h
    rw [nI_toInt (by omega)] at this
    have z : (0 : Int32).toInt = 0 := rfl
    omega
theorem fit_j1 {j : Nat} (hj : j ≤ 96) (h : ¬ nI j - 1 < 0) : ∃ k, j = k + 1 := by
  cases j with
  | zero => exact absurd (by decide) h
  | succ k => exact ⟨k, rfl⟩
theorem clo_57 {n S : Nat} (hn : n < 7) : clo n S < 2 ^ 57 := clo_lt hn S
theorem cfL_iff {n S : Nat} {xs : List Int64} : ∀ (f i : Nat), (xs.length - i + 2) / 3 < f → (cfL n S xs f i = true ↔ ∀ j, i + 3 * j < xs.length → th3 n S xs (i + 3 * j) = true) := by
  intro f
  induction f with
  | zero => intro i h; omega
  | succ f ih =>
    intro i hf
    by_cases hi : i < xs.length
    · cases ht : th3 n S xs i with
      | false =>
        rw [cf_no hi ht]
        exact ⟨fun h => (by cases h), fun h => (by have := h 0 (by omega); rw [show i + 3 * 0 = i by omega, ht] at this; cases this)⟩
      | true =>
        rw [cf_go hi ht, ih (i + 3) (by omega)]
        constructor
        · intro h j hj
          cases j with
          | zero => exact ht
          | succ j => have := h j (by omega); rwa [show i + 3 + 3 * j = i + 3 * (j + 1) by omega] at this
        · intro h j hj
          have := h (j + 1) (by omega)
          rwa [show i + 3 * (j + 1) = i + 3 + 3 * j by omega] at this
    · rw [cf_end (by omega)]
      exact ⟨fun _ j hj => by omega, fun _ => rfl⟩
theorem ar3_iff {n : Nat} {xs : List Int64} : ∀ (f k : Nat) (t : Bool), (xs.length - k + 2) / 3 < f → (ar3 n xs f k t = true ↔ (t = true ∧ ∀ i, k + 3 * i + 2 < xs.length → t3 n xs (k + 3 * i) = true)) := by
  intro f
  induction f with
  | zero => intro k t h; omega
  | succ f ih =>
    intro k t hf
    show (if k + 2 < xs.length ∧ t = true then ar3 n xs f (k + 3) (t3 n xs k) else t) = true ↔ _
    by_cases c : k + 2 < xs.length ∧ t = true
    · rw [if_pos c, ih (k + 3) _ (by omega)]
      constructor
      · rintro ⟨h1, h2⟩
        refine ⟨c.2, fun i hi => ?_⟩
        cases i with
        | zero => exact h1
        | succ i => have := h2 i (by omega); rwa [show k + 3 + 3 * i = k + 3 * (i + 1) by omega] at this
      · rintro ⟨_, h2⟩
        refine ⟨h2 0 (by omega), fun i hi => ?_⟩
        have := h2 (i + 1) (by omega)
        rwa [show k + 3 * (i + 1) = k + 3 + 3 * i by omega] at this
    · rw [if_neg c]
      constructor
      · intro h
        exact ⟨h, fun i hi => absurd ⟨by omega, h⟩ c⟩
      · exact fun h => h.1
abbrev ftC (n S : Nat) (xs : List Int64) (k : Nat) : Prop := (b1 (gos n true S (tn (xs.getD k 0).toInt32) == gos n true S (tn (xs.getD (k + 1) 0).toInt32))).toInt64 = xs.getD (k + 2) 0
theorem ftL_iff {n S : Nat} {xs : List Int64} : ∀ (f k : Nat), (xs.length - k + 2) / 3 < f → (ftL n S xs f k = true ↔ ∀ i, k + 3 * i + 2 < xs.length → ftC n S xs (k + 3 * i)) := by
  intro f
  induction f with
  | zero => intro k h; omega
  | succ f ih =>
    intro k hf
    show (if k + 2 < xs.length then (if ftC n S xs k then ftL n S xs f (k + 3) else false) else true) = true ↔ _
    by_cases c : k + 2 < xs.length
    · rw [if_pos c]
      by_cases e : ftC n S xs k
      · rw [if_pos e, ih (k + 3) (by omega)]
        constructor
        · intro h i hi
          cases i with
          | zero => exact e
          | succ i => have := h i (by omega); rwa [show k + 3 + 3 * i = k + 3 * (i + 1) by omega] at this
        · intro h i hi
          have := h (i + 1) (by omega)
          rwa [show k + 3 * (i + 1) = k + 3 + 3 * i by omega] at this
      · rw [if_neg e]
        exact ⟨fun h => (by cases h), fun h => absurd (h 0 (by omega)) e⟩
    · rw [if_neg c]
      exact ⟨fun _ i hi => by omega, fun _ => rfl⟩
theorem x01 {x : Int64} {q : Bool} (h : 0 ≤ x.toInt ∧ x.toInt ≤ 1) : (b1 q).toInt64 = x ↔ (q == decide (x.toInt32 = 1)) = true := by
  have : x = 0 ∨ x = 1 := by
    rcases (show x.toInt = 0 ∨ x.toInt = 1 by omega) with e | e
    · exact Or.inl (Int64.toInt_inj.mp e)
    · exact Or.inr (Int64.toInt_inj.mp e)
  rcases this with rfl | rfl <;> cases q <;> decide
theorem nbq (A B : Nat) : (A == B) = decide (A = B) := by
  by_cases h : A = B
  · rw [decide_eq_true h, h]; exact beq_self_eq_true _
  · rw [decide_eq_false h]; exact beq_eq_false_iff_ne.mpr h
theorem th3_iff {n S i : Nat} {xs : List Int64} : th3 n S xs i = true ↔ (i + 2 < xs.length ∧ t3 n xs i = true ∧ ftC n S xs i) := by
  unfold th3 t3 ftC
  rw [Bool.and_eq_true, Bool.and_eq_true, Bool.and_eq_true, Bool.and_eq_true, Bool.and_eq_true, Bool.and_eq_true, decide_eq_true_iff, decide_eq_true_iff, nbq]
  constructor
  · rintro ⟨h1, h2, h3, h4, h5⟩
    exact ⟨h1, ⟨h3, h4, h2⟩, (x01 h2).mpr h5⟩
  · rintro ⟨h1, ⟨h3, h4, h2⟩, h5⟩
    exact ⟨h1, h2, h3, h4, (x01 h2).mp h5⟩
theorem cf_law {n S : Nat} {xs : List Int64} (h40 : xs.length ≤ 40) : cfB n S xs = (aT n xs && ftB n S xs) := by
  rw [Bool.eq_iff_iff, Bool.and_eq_true]
  unfold cfB aT ftB
  rw [cfL_iff 15 0 (by omega), ar3_iff 15 0 _ (by omega), ftL_iff 15 0 (by omega)]
  constructor
  · intro h
    have h2 : ∀ j, 0 + 3 * j < xs.length → 0 + 3 * j + 2 < xs.length := fun j hj => (th3_iff.mp (h j hj)).1
    refine ⟨⟨?_, fun i hi => (th3_iff.mp (h i (by omega))).2.1⟩, fun i hi => (th3_iff.mp (h i (by omega))).2.2⟩
    rw [beq_iff_eq]
    apply Classical.byContradiction
    intro hne
    have := h2 (xs.length / 3) (by omega)
    omega
  · rintro ⟨⟨h1, h2⟩, h3⟩ j hj
    rw [beq_iff_eq] at h1
    have : 0 + 3 * j + 2 < xs.length := by omega
    exact th3_iff.mpr ⟨this, h2 j this, h3 j this⟩
theorem wc_law {n : Nat} {xs : List Int64} (h40 : xs.length ≤ 40) : wcF n xs 96 (0, -3) = wiS n xs := by
  unfold wiS
  cases ha : aT n xs with
  | true =>
    rw [if_pos rfl]
    have key : ∀ (k : Nat) (s : Nat × Int32), wcF n xs k s = wiF n xs k s := by
      intro k
      induction k with
      | zero => intro s; rfl
      | succ k ih =>
        intro s
        show wcF n xs k (if cfB n (clo n (tkS n (k / 16) (k % 16))) xs then (s.1 + 1, nI k) else s) = wiF n xs k (if ftB n (clo n (tkS n (k / 16) (k % 16))) xs then (s.1 + 1, nI k) else s)
        rw [ih, cf_law h40, ha, Bool.true_and]
    exact key 96 (0, -3)
  | false =>
    rw [if_neg (by decide)]
    have key : ∀ (k : Nat) (s : Nat × Int32), wcF n xs k s = s := by
      intro k
      induction k with
      | zero => intro s; rfl
      | succ k ih =>
        intro s
        show wcF n xs k (if cfB n (clo n (tkS n (k / 16) (k % 16))) xs then (s.1 + 1, nI k) else s) = s
        rw [cf_law h40, ha, Bool.false_and, if_neg (by decide), ih]
    exact key 96 (0, -3)
theorem cSt.app {G K : xH} (h : cSt G) : cSt (G ++ K) := by
  obtain ⟨SL, h1, h2, h3⟩ := h
  have ap : ∀ {i : Nat} {x : xC}, G[i]? = some x → (G ++ K)[i]? = some x := fun hx => by rw [List.getElem?_append_left (List.getElem?_eq_some_iff.mp hx).1]; exact hx
  refine ⟨SL, ap h1, h2, fun k hk => ?_⟩
  rcases h3 k hk with q | ⟨a, q1, q2, q3⟩
  · exact Or.inl q
  · exact Or.inr ⟨a, q1, q2, ap q3⟩
section OPS
variable {n x : Nat} {sh : Nat → Option (Nat × List Int64)} {w : Int32} {q : Nat × List Int64}
theorem ow_n (hb : inI (nI x) 4 = true) (hb2 : inI w 2 = true) (tx : tn (nI x) = x) (hq : sh x = none) : o_whatIs n sh (nI x) w = -11 := by unfold o_whatIs; rw [hb, hb2, tx, Bool.and_self, if_pos rfl, hq]
theorem ow_x (hb : inI (nI x) 4 = true) (hb2 : inI w 2 = true) (tx : tn (nI x) = x) (hq : sh x = some q) (h : ¬ q.1 = 2) : o_whatIs n sh (nI x) w = -13 := by unfold o_whatIs; rw [hb, hb2, tx, Bool.and_self, if_pos rfl, hq]; exact if_neg h
theorem ow_y (hb : inI (nI x) 4 = true) (hb2 : inI w 2 = true) (tx : tn (nI x) = x) (hq : sh x = some q) (h : q.1 = 2) : o_whatIs n sh (nI x) w = if w = 0 then nI (wiS n q.2).1 else (wiS n q.2).2 := by unfold o_whatIs; rw [hb, hb2, tx, Bool.and_self, if_pos rfl, hq]; exact if_pos h
end OPS
section A47
variable {E : xE} {G : xH} {d e : Nat → Value} {n : Nat}
theorem A_fitting {b g : Nat} {w : Int32} {xs : List Int64}  (hv : cV d e n G) (hn3 : e 3 = .long (lN g)) (hA : cA d n G) (hSt0 : cSt G) (h11 : ∃ M : List Int32, M.length = 6 ∧ G[11]? = some (cI 1 M)) (h12 : ∃ M : List Int32, M.length = 6 ∧ G[12]? = some (cI 1 M)) (hb82 : 82 < b) (hC : G[b]? = some (cI 0 (xs.map Int64.toInt32))) (hN2_ : shN 2 xs) (hl83 : 82 < G.length) : xMetW E yX0_fitting cX0_fitting 10 (some FieldType.int) [(15, 100, 111, 0), (111, 113, 111, 0)] 5 96 192 [.ref 0, .ref b, .int w] G (xre (fun v_ G' => v_ = some (.int (if w = 0 then nI (wcF n xs 96 (0, -3)).1 else (wcF n xs 96 (0, -3)).2)) ∧ cSt G' ∧ gfa [11, 12, 27] G G' ∧ (∃ M : List Int32, M.length = 6 ∧ G'[11]? = some (cI 1 M)) ∧ ∃ M : List Int32, M.length = 6 ∧ G'[12]? = some (cI 1 M))) := by
  obtain ⟨hO, hN, hn0, h1n, hn6⟩ := id hv
  have hx40 := hN2_.2.1
  refine xMetW.of (lv := [some (.ref 0), some (.ref b), some (.int w), none, none, none, none, none, none, none]) rfl rfl (Nat.le_of_ble_eq_true rfl) ?_
  refine xj_aload_n dX0_fitting_0 rfl rfl ?_
  refine xj_get dX0_fitting_1 K0 4 (by decide) q473 hO rfl ?_
  refine xj_getN dX0_fitting_4 K3 3 (by decide) q327 hN (congrArg some hn3) ?_
  refine xj_lstn3 dX0_fitting_7 rfl ?_
  refine xj_ic0 dX0_fitting_8 ?_
  refine xj_ist5 dX0_fitting_9 rfl ?_
  refine xj_bipush (v := -3) dX0_fitting_11 rfl ?_
  refine xj_ist6 dX0_fitting_13 rfl ?_
  refine xj_bipush (v := 95) dX0_fitting_15 rfl ?_
  refine xj_ist7 dX0_fitting_17 rfl ?_
  have hN4 : G[4]? = some (cO 3 (oFs (cu e 3 (.long (lN (g)))))) := by rw [cu_id hn3]; exact hN
  have lo : ∀ (K : Nat) (j : Nat) (s : Nat × Int32) (gg : Nat) (H : xH), j < K → (j ≤ 96) → (wcF n xs j s = wcF n xs 96 (0, -3)) → (s.1 + j ≤ 96) → (H[0]? = some (cO 0 (cFs d))) → (H[4]? = some (cO 3 (oFs (cu e 3 (.long (lN (gg))))))) → (cSt H) → (∃ M : List Int32, M.length = 6 ∧ H[11]? = some (cI 1 M)) → (∃ M : List Int32, M.length = 6 ∧ H[12]? = some (cI 1 M)) → (gfa [4, 11, 12, 27] G H) → xJ E (yX0_fitting, cX0_fitting, 10, (some FieldType.int), [(15, 100, 111, 0), (111, 113, 111, 0)]) (xR 5 96 192) (xre (fun v_ G' => v_ = some (.int (if w = 0 then nI (wcF n xs 96 (0, -3)).1 else (wcF n xs 96 (0, -3)).2)) ∧ cSt G' ∧ gfa [11, 12, 27] G G' ∧ (∃ M : List Int32, M.length = 6 ∧ G'[11]? = some (cI 1 M)) ∧ ∃ M : List Int32, M.length = 6 ∧ G'[12]? = some (cI 1 M))) j (2 * j) 19 [some (.ref 0), some (.ref b), some (.int w), some (.long (lN g)), none, some (.int (nI s.1)), some (.int s.2), some (.int (nI j - 1)), none, none] [] H := by
    intro K
    induction K with
    | zero => intro j s gg H h; exact absurd h (Nat.not_lt_zero _)
    | succ K ih_lo =>
      intro j s gg H hK hj hs hs1 h0 h4 hSt hr11 hr12 hf
      have hvH : cV d (cu e 3 (.long (lN (gg)))) n H := ⟨h0, h4, hn0, h1n, hn6⟩
      have hAH : cA d n H := hA.mv rfl (hf.kpt (by decide))
      have hlH := hf.1
      refine xj_iload dX0_fitting_19 rfl ?_
      refine xj_if_lt (tgt := 87) dX0_fitting_21 rfl (fun c21 => ?_) (fun c21 => ?_)
      · obtain rfl : j = 0 := fit_j0 hj c21
        have hs : s = wcF n xs 96 (0, -3) := hs
        refine xj_iload_n dX0_fitting_87 rfl ?_
        refine xj_if_ne (tgt := 96) dX0_fitting_88 rfl (fun c88 => ?_) (fun c88 => ?_)
        · refine xj_iload dX0_fitting_96 rfl ?_
          refine xj_ist7 dX0_fitting_98 rfl ?_
          refine xj_aload_n dX0_fitting_100 rfl rfl ?_
          refine xj_get dX0_fitting_101 K0 4 (by decide) q473 h0 rfl ?_
          refine xj_lload_n dX0_fitting_104 rfl ?_
          refine xj_putN dX0_fitting_105 K3 3 (by decide) q327 rfl rfl h4 (Nat.le_of_ble_eq_true rfl) ?_
          have z4 : (H.set 4 (cO 3 (oFs e)))[4]? = some (cO 3 (oFs e)) := gset_self h4
          refine xj_eq rfl rfl (show _ = H.set 4 (cO 3 (oFs e)) from by rw [show (oFs (cu e 3 (.long (lN (gg))))).set 3 (.long (lN g)) = oFs e from by rw [show (oFs (cu e 3 (.long (lN (gg))))).set 3 (.long (lN g)) = oFs (cu (cu e 3 (.long (lN (gg)))) 3 (.long (lN g))) from rfl, cu_cu, cu_id hn3]]) ?_
          refine xj_iload dX0_fitting_108 rfl ?_
          exact xj_ireturn dX0_fitting_110 rfl rfl ⟨by first | (rw [if_neg c88, ← hs]; done) | (rw [if_pos c88, ← hs]; done), hSt.oth (by decide) (by decide), ⟨by rw [List.length_set]; exact hf.1, fun i hi hw => by by_cases q : i = 4; (rw [q, z4]; exact hN.symm); (rw [gset (fun z => q z.symm)]; exact hf.2 i hi (by simp only [List.mem_cons, List.not_mem_nil, or_false] at hw ⊢; omega))⟩, (by obtain ⟨M, m1, m2⟩ := hr11; exact ⟨M, m1, by rw [gset (by decide)]; exact m2⟩), (by obtain ⟨M, m1, m2⟩ := hr12; exact ⟨M, m1, by rw [gset (by decide)]; exact m2⟩)⟩
        · refine xj_iload dX0_fitting_91 rfl ?_
          refine xj_goto (tgt := 98) dX0_fitting_93 rfl ?_
          refine xj_ist7 dX0_fitting_98 rfl ?_
          refine xj_aload_n dX0_fitting_100 rfl rfl ?_
          refine xj_get dX0_fitting_101 K0 4 (by decide) q473 h0 rfl ?_
          refine xj_lload_n dX0_fitting_104 rfl ?_
          refine xj_putN dX0_fitting_105 K3 3 (by decide) q327 rfl rfl h4 (Nat.le_of_ble_eq_true rfl) ?_
          have z4 : (H.set 4 (cO 3 (oFs e)))[4]? = some (cO 3 (oFs e)) := gset_self h4
          refine xj_eq rfl rfl (show _ = H.set 4 (cO 3 (oFs e)) from by rw [show (oFs (cu e 3 (.long (lN (gg))))).set 3 (.long (lN g)) = oFs e from by rw [show (oFs (cu e 3 (.long (lN (gg))))).set 3 (.long (lN g)) = oFs (cu (cu e 3 (.long (lN (gg)))) 3 (.long (lN g))) from rfl, cu_cu, cu_id hn3]]) ?_
          refine xj_iload dX0_fitting_108 rfl ?_
          exact xj_ireturn dX0_fitting_110 rfl rfl ⟨by first | (rw [if_neg c88, ← hs]; done) | (rw [if_pos c88, ← hs]; done), hSt.oth (by decide) (by decide), ⟨by rw [List.length_set]; exact hf.1, fun i hi hw => by by_cases q : i = 4; (rw [q, z4]; exact hN.symm); (rw [gset (fun z => q z.symm)]; exact hf.2 i hi (by simp only [List.mem_cons, List.not_mem_nil, or_false] at hw ⊢; omega))⟩, (by obtain ⟨M, m1, m2⟩ := hr11; exact ⟨M, m1, by rw [gset (by decide)]; exact m2⟩), (by obtain ⟨M, m1, m2⟩ := hr12; exact ⟨M, m1, by rw [gset (by decide)]; exact m2⟩)⟩
      · obtain ⟨k, rfl⟩ : ∃ k, j = k + 1 := fit_j1 hj c21
        rw [show nI (k + 1) - 1 = nI k from by rw [nI_sub1 (by omega)]; rfl]
        refine xj_aload_n dX0_fitting_24 rfl rfl ?_
        refine xj_get dX0_fitting_25 K0 4 (by decide) q473 h0 rfl ?_
        refine xj_aload_n dX0_fitting_28 rfl rfl ?_
        refine xj_aload_n dX0_fitting_29 rfl rfl ?_
        refine xj_aload_n dX0_fitting_30 rfl rfl ?_
        refine xj_iload dX0_fitting_31 rfl ?_
        refine xj_dV dX0_fitting_33 q1481 kV_X0_stranger (A_stranger hvH hSt (show k < 96 by omega) (by omega)) h0 rfl rfl rfl rfl (Nat.le_of_ble_eq_true rfl) ⟨(Nat.le_of_ble_eq_true rfl), (Nat.le_of_ble_eq_true rfl)⟩ (by omega) (by omega) ?_
        rintro _ H1 ⟨a, rfl, ha82, hGa, hSt1, hf1⟩
        have v0 : H1[0]? = some (cO 0 (cFs d)) := (hf1.2 0 (by omega) (by decide)).trans h0
        have v4 : H1[4]? = some (cO 3 (oFs (cu e 3 (.long (lN (gg)))))) := (hf1.2 4 (by omega) (by decide)).trans h4
        have hv1 : cV d (cu e 3 (.long (lN (gg)))) n H1 := ⟨v0, v4, hn0, h1n, hn6⟩
        have hA1 : cA d n H1 := hAH.mv rfl (hf1.kpt (by decide))
        refine xj_cV dX0_fitting_36 q935 kV_X0_takenBy (A_takenBy hv1 hA1 hGa (show k / 16 < 6 by omega) (show k % 16 < 16 by omega)) v0 rfl rfl rfl rfl (Nat.le_of_ble_eq_true rfl) ⟨(Nat.le_of_ble_eq_true rfl), (Nat.le_of_ble_eq_true rfl)⟩ (Nat.le_of_ble_eq_true rfl) (Nat.le_of_ble_eq_true rfl) ?_
        refine xj_cV dX0_fitting_39 q998 kV_X0_forcedBy (A_forcedBy hv1 hA1 tkS_na) v0 rfl rfl rfl rfl (Nat.le_of_ble_eq_true rfl) ⟨(Nat.le_of_ble_eq_true rfl), (Nat.le_of_ble_eq_true rfl)⟩ (Nat.le_of_ble_eq_true rfl) (Nat.le_of_ble_eq_true rfl) ?_
        refine xj_putN dX0_fitting_42 K3 3 (by decide) q327 rfl rfl v4 (Nat.le_of_ble_eq_true rfl) ?_
        refine xj_eq rfl rfl (show _ = H1.set 4 (cO 3 (oFs (cu e 3 (.long (lN ((clo n (tkS n (k / 16) (k % 16))))))))) from by rw [show (oFs (cu e 3 (.long (lN (gg))))).set 3 (.long (lN (clo n (tkS n (k / 16) (k % 16))))) = oFs (cu (cu e 3 (.long (lN (gg)))) 3 (.long (lN (clo n (tkS n (k / 16) (k % 16)))))) from rfl, cu_cu]) ?_
        obtain ⟨H2, hH2⟩ : ∃ H2, H2 = H1.set 4 (cO 3 (oFs (cu e 3 (.long (lN ((clo n (tkS n (k / 16) (k % 16))))))))) := ⟨_, rfl⟩
        rw [← hH2]
        have w0 : H2[0]? = some (cO 0 (cFs d)) := by rw [hH2, gset (by decide)]; exact v0
        have w4 : H2[4]? = some (cO 3 (oFs (cu e 3 (.long (lN ((clo n (tkS n (k / 16) (k % 16))))))))) := by rw [hH2]; exact gset_self v4
        have wSt : cSt H2 := by rw [hH2]; exact hSt1.oth (by decide) (by decide)
        have wr11 : ∃ M : List Int32, M.length = 6 ∧ H2[11]? = some (cI 1 M) := by obtain ⟨M, m1, m2⟩ := hr11; exact ⟨M, m1, by rw [hH2, gset (by decide)]; exact (hf1.2 11 (List.getElem?_eq_some_iff.mp m2).1 (by decide)).trans m2⟩
        have wr12 : ∃ M : List Int32, M.length = 6 ∧ H2[12]? = some (cI 1 M) := by obtain ⟨M, m1, m2⟩ := hr12; exact ⟨M, m1, by rw [hH2, gset (by decide)]; exact (hf1.2 12 (List.getElem?_eq_some_iff.mp m2).1 (by decide)).trans m2⟩
        have wf : gfa [4, 11, 12, 27] G H2 := by rw [hH2]; exact (hf.trans (hf1.mono (by decide))).set (by decide)
        refine xj_ic0 dX0_fitting_45 ?_
        refine xj_ist8 dX0_fitting_46 rfl ?_
        have kn : ∀ (H : xH) (i0 : Option Value), cfB n (clo n (tkS n (k / 16) (k % 16))) xs = false → H[0]? = some (cO 0 (cFs d)) → H[4]? = some (cO 3 (oFs (cu e 3 (.long (lN ((clo n (tkS n (k / 16) (k % 16))))))))) → cSt H → (∃ M : List Int32, M.length = 6 ∧ H[11]? = some (cI 1 M)) → (∃ M : List Int32, M.length = 6 ∧ H[12]? = some (cI 1 M)) → gfa [4, 11, 12, 27] G H → xJ E (yX0_fitting, cX0_fitting, 10, (some FieldType.int), [(15, 100, 111, 0), (111, 113, 111, 0)]) (xR 5 96 192) (xre (fun v_ G' => v_ = some (.int (if w = 0 then nI (wcF n xs 96 (0, -3)).1 else (wcF n xs 96 (0, -3)).2)) ∧ cSt G' ∧ gfa [11, 12, 27] G G' ∧ (∃ M : List Int32, M.length = 6 ∧ G'[11]? = some (cI 1 M)) ∧ ∃ M : List Int32, M.length = 6 ∧ G'[12]? = some (cI 1 M))) k (2 * k) 81 [some (.ref 0), some (.ref b), some (.int w), some (.long (lN g)), none, some (.int (nI s.1)), some (.int s.2), some (.int (nI k)), i0, none] [] H := by
          intro H i0 hb h0 h4 hSt hr11 hr12 hf
          refine xj_iinc7 (cst := (-1)) dX0_fitting_81 rfl rfl ?_
          rw [show nI k + (-1) = nI k - 1 from (Int32.sub_eq_add_neg ..).symm]
          refine xj_goto (tgt := 19) dX0_fitting_84 rfl ?_
          refine xj_eq (show _ = [some (.ref 0), some (.ref b), some (.int w), some (.long (lN g)), none, some (.int (nI s.1)), some (.int s.2), some (.int (nI k - 1)), i0, none] from rfl) rfl rfl ?_
          exact xj_fg8 (ih_lo k s (clo n (tkS n (k / 16) (k % 16))) H (by omega) (by omega) (by rw [← hs]; show _ = wcF n xs k (if cfB n (clo n (tkS n (k / 16) (k % 16))) xs = true then _ else _); rw [hb]; rfl) (by first | omega | (show s.1 + 1 + k ≤ 96; omega)) h0 h4 hSt hr11 hr12 hf)
        have ky : ∀ (H : xH) (i0 : Option Value), cfB n (clo n (tkS n (k / 16) (k % 16))) xs = true → H[0]? = some (cO 0 (cFs d)) → H[4]? = some (cO 3 (oFs (cu e 3 (.long (lN ((clo n (tkS n (k / 16) (k % 16))))))))) → cSt H → (∃ M : List Int32, M.length = 6 ∧ H[11]? = some (cI 1 M)) → (∃ M : List Int32, M.length = 6 ∧ H[12]? = some (cI 1 M)) → gfa [4, 11, 12, 27] G H → xJ E (yX0_fitting, cX0_fitting, 10, (some FieldType.int), [(15, 100, 111, 0), (111, 113, 111, 0)]) (xR 5 96 192) (xre (fun v_ G' => v_ = some (.int (if w = 0 then nI (wcF n xs 96 (0, -3)).1 else (wcF n xs 96 (0, -3)).2)) ∧ cSt G' ∧ gfa [11, 12, 27] G G' ∧ (∃ M : List Int32, M.length = 6 ∧ G'[11]? = some (cI 1 M)) ∧ ∃ M : List Int32, M.length = 6 ∧ G'[12]? = some (cI 1 M))) k (2 * k) 74 [some (.ref 0), some (.ref b), some (.int w), some (.long (lN g)), none, some (.int (nI s.1)), some (.int s.2), some (.int (nI k)), i0, none] [] H := by
          intro H i0 hb h0 h4 hSt hr11 hr12 hf
          refine xj_iinc5 (cst := 1) dX0_fitting_74 rfl rfl ?_
          rw [nI_1]
          refine xj_iload dX0_fitting_77 rfl ?_
          refine xj_ist6 dX0_fitting_79 rfl ?_
          refine xj_iinc7 (cst := (-1)) dX0_fitting_81 rfl rfl ?_
          rw [show nI k + (-1) = nI k - 1 from (Int32.sub_eq_add_neg ..).symm]
          refine xj_goto (tgt := 19) dX0_fitting_84 rfl ?_
          refine xj_eq (show _ = [some (.ref 0), some (.ref b), some (.int w), some (.long (lN g)), none, some (.int (nI (s.1 + 1, nI k).1)), some (.int (s.1 + 1, nI k).2), some (.int (nI k - 1)), i0, none] from rfl) rfl rfl ?_
          exact xj_fg8 (ih_lo k (s.1 + 1, nI k) (clo n (tkS n (k / 16) (k % 16))) H (by omega) (by omega) (by rw [← hs]; show _ = wcF n xs k (if cfB n (clo n (tkS n (k / 16) (k % 16))) xs = true then _ else _); rw [hb]; rfl) (by first | omega | (show s.1 + 1 + k ≤ 96; omega)) h0 h4 hSt hr11 hr12 hf)
        refine xj_wk (nc' := k) (ns' := 2 * k) (by omega) (by omega) ?_
        have li : ∀ (K : Nat) (f : Nat) (i : Nat) (H : xH), f < K → (i < 50) → ((xs.length - i + 2) / 3 < f) → (cfL n (clo n (tkS n (k / 16) (k % 16))) xs f i = cfB n (clo n (tkS n (k / 16) (k % 16))) xs) → (H[0]? = some (cO 0 (cFs d))) → (H[4]? = some (cO 3 (oFs (cu e 3 (.long (lN ((clo n (tkS n (k / 16) (k % 16)))))))))) → (cSt H) → (∃ M : List Int32, M.length = 6 ∧ H[11]? = some (cI 1 M)) → (∃ M : List Int32, M.length = 6 ∧ H[12]? = some (cI 1 M)) → (gfa [4, 11, 12, 27] G H) → xJ E (yX0_fitting, cX0_fitting, 10, (some FieldType.int), [(15, 100, 111, 0), (111, 113, 111, 0)]) (xR 5 96 192) (xre (fun v_ G' => v_ = some (.int (if w = 0 then nI (wcF n xs 96 (0, -3)).1 else (wcF n xs 96 (0, -3)).2)) ∧ cSt G' ∧ gfa [11, 12, 27] G G' ∧ (∃ M : List Int32, M.length = 6 ∧ G'[11]? = some (cI 1 M)) ∧ ∃ M : List Int32, M.length = 6 ∧ G'[12]? = some (cI 1 M))) k (2 * k) 48 [some (.ref 0), some (.ref b), some (.int w), some (.long (lN g)), none, some (.int (nI s.1)), some (.int s.2), some (.int (nI k)), some (.int (nI i)), none] [] H := by
          intro K
          induction K with
          | zero => intro f i H h; exact absurd h (Nat.not_lt_zero _)
          | succ K ih_li =>
            intro f i H hK hi hfu hc h0 h4 hSt hr11 hr12 hf
            have hvH : cV d (cu e 3 (.long (lN ((clo n (tkS n (k / 16) (k % 16))))))) n H := ⟨h0, h4, hn0, h1n, hn6⟩
            obtain ⟨M1, hM1, q11⟩ := hr11
            obtain ⟨M2, hM2, q12⟩ := hr12
            have qC : H[b]? = some (cI 0 (xs.map Int64.toInt32)) := (hf.2 b (List.getElem?_eq_some_iff.mp hC).1 (fit_b hb82)).trans hC
            obtain ⟨f, rfl⟩ : ∃ f0, f = f0 + 1 := ⟨f - 1, by omega⟩
            refine xj_iload dX0_fitting_48 rfl ?_
            refine xj_aload_n dX0_fitting_50 rfl rfl ?_
            refine xj_alenI dX0_fitting_51 qC rfl ?_
            rw [List.length_map]
            refine xj_icmp_ge (tgt := 74) dX0_fitting_52 rfl (fun c52 => ?_) (fun c52 => ?_)
            · exact ky _ (some (.int (nI i))) (by have hil : xs.length ≤ i := Nat.le_of_not_lt fun h => absurd c52 (nI_ge h (by omega)); rw [← hc, cf_end hil]) h0 h4 hSt ⟨M1, hM1, q11⟩ ⟨M2, hM2, q12⟩ hf
            · have hil : i < xs.length := Nat.lt_of_not_le fun h => c52 (nI_le h (by omega))
              refine xj_aload_n dX0_fitting_55 rfl rfl ?_
              refine xj_aload_n dX0_fitting_56 rfl rfl ?_
              refine xj_iload dX0_fitting_57 rfl ?_
              refine xj_dV dX0_fitting_59 q1485 kV_X0_isThree (A_isThree hvH rfl (clo_57 (by omega)) q11 q12 hM1 hM2 hb82 qC hN2_ (by omega)) h0 rfl rfl rfl rfl (Nat.le_of_ble_eq_true rfl) ⟨(Nat.le_of_ble_eq_true rfl), (Nat.le_of_ble_eq_true rfl)⟩ (Nat.le_of_ble_eq_true rfl) (Nat.le_of_ble_eq_true rfl) ?_
              rintro _ _ ⟨rfl, N1, N2, hN1, hN2, rfl⟩
              have y0 : ((H.set 11 (cI 1 N1)).set 12 (cI 1 N2))[0]? = some (cO 0 (cFs d)) := by rw [gset (by decide), gset (by decide)]; exact h0
              have y4 : ((H.set 11 (cI 1 N1)).set 12 (cI 1 N2))[4]? = some (cO 3 (oFs (cu e 3 (.long (lN ((clo n (tkS n (k / 16) (k % 16))))))))) := by rw [gset (by decide), gset (by decide)]; exact h4
              have ySt : cSt ((H.set 11 (cI 1 N1)).set 12 (cI 1 N2)) := (hSt.oth (by decide) (by decide)).oth (by decide) (by decide)
              have y11 : ∃ M : List Int32, M.length = 6 ∧ ((H.set 11 (cI 1 N1)).set 12 (cI 1 N2))[11]? = some (cI 1 M) := ⟨N1, hN1, by rw [gset (by decide)]; exact gset_self q11⟩
              have y12 : ∃ M : List Int32, M.length = 6 ∧ ((H.set 11 (cI 1 N1)).set 12 (cI 1 N2))[12]? = some (cI 1 M) := ⟨N2, hN2, gset_self (by rw [gset (by decide)]; exact q12)⟩
              have yf : gfa [4, 11, 12, 27] G ((H.set 11 (cI 1 N1)).set 12 (cI 1 N2)) := (hf.set (by decide)).set (by decide)
              refine xj_if_ne (tgt := 68) dX0_fitting_62 rfl (fun c62 => ?_) (fun c62 => ?_)
              · refine xj_iinc8 (cst := 3) dX0_fitting_68 rfl rfl ?_
                rw [show nI i + 3 = nI (i + 3) from nI_add i 3]
                refine xj_goto (tgt := 48) dX0_fitting_71 rfl ?_
                exact ih_li f (i + 3) _ (by omega) (by omega) (by omega) (by rw [← hc]; exact (cf_go hil (b1_nz c62)).symm) y0 y4 ySt y11 y12 yf
              · refine xj_goto (tgt := 81) dX0_fitting_65 rfl ?_
                exact kn _ (some (.int (nI i))) (by rw [← hc, cf_no hil (b1_z c62)]) y0 y4 ySt y11 y12 yf
        exact li 16 15 0 H2 (by decide) (by decide) (by omega) rfl w0 w4 wSt wr11 wr12 wf
  exact lo 97 96 (0, -3) g G (by decide) (Nat.le_refl _) rfl (by decide) hO hN4 hSt0 h11 h12 gfa.refl
theorem A_whatIs {k w : Int32} {g : Nat} {sh : Nat → Option (Nat × List Int64)} {sa : Nat → Nat} {r : Nat → Value} {rv : Int32}  (hmod : xMod E) (hv : cV d e n G) (hn3 : e 3 = .long (lN g)) (hA : cA d n G) (hSt0 : cSt G) (h11 : ∃ M : List Int32, M.length = 6 ∧ G[11]? = some (cI 1 M)) (h12 : ∃ M : List Int32, M.length = 6 ∧ G[12]? = some (cI 1 M)) (h82 : 82 < G.length) (hSh : cSh sh sa G) (hRf : G[1]? = some (cO 1 (rFs r (.int rv)))) : xMetW E yX0_whatIs cX0_whatIs 4 (some FieldType.int) [(18, 52, 53, 645), (18, 52, 57, 8)] 6 96 898 [.ref 0, .int k, .int w] G (xre (fun v_ G' => v_ = some (.int (o_whatIs n sh k w)) ∧ cSt G' ∧ cRf G' ∧ gfa [1, 11, 12, 27] G G' ∧ (∃ M : List Int32, M.length = 6 ∧ G'[11]? = some (cI 1 M)) ∧ ∃ M : List Int32, M.length = 6 ∧ G'[12]? = some (cI 1 M))) := by
  obtain ⟨hO, hN, hn0, h1n, hn6⟩ := id hv
  refine xMetW.of (lv := [some (.ref 0), some (.int k), some (.int w), none]) rfl rfl (Nat.le_of_ble_eq_true rfl) ?_
  refine xj_iload_n dX0_whatIs_0 rfl ?_
  refine xj_cS dX0_whatIs_1 q1468 kS_X0_isShelf A_isShelf rfl rfl (Nat.le_of_ble_eq_true rfl) ⟨(Nat.le_of_ble_eq_true rfl), (Nat.le_of_ble_eq_true rfl)⟩ (Nat.le_of_ble_eq_true rfl) (Nat.le_of_ble_eq_true rfl) ?_
  refine xj_if_eq (tgt := 16) dX0_whatIs_4 rfl (fun c4 => ?_) (fun c4 => ?_)
  · refine xj_icm1 dX0_whatIs_16 ?_
    exact xj_ireturn dX0_whatIs_17 rfl rfl ⟨by unfold o_whatIs; first | (rw [b1_z c4]; rfl) | (rw [b1_z c13, Bool.and_false]; rfl), hSt0, ⟨r, rv, hRf⟩, gfa.refl, h11, h12⟩
  · refine xj_iload_n dX0_whatIs_7 rfl ?_
    refine xj_ic0 dX0_whatIs_8 ?_
    refine xj_ic1 dX0_whatIs_9 ?_
    refine xj_cS dX0_whatIs_10 q585 kS_X0_isIn A_isIn rfl rfl (Nat.le_of_ble_eq_true rfl) ⟨(Nat.le_of_ble_eq_true rfl), (Nat.le_of_ble_eq_true rfl)⟩ (Nat.le_of_ble_eq_true rfl) (Nat.le_of_ble_eq_true rfl) ?_
    rw [show inC w 0 1 = inI w 2 from inC_inI (m := 2) (by decide)]
    refine xj_if_ne (tgt := 18) dX0_whatIs_13 rfl (fun c13 => ?_) (fun c13 => ?_)
    · have hb := b1_nz c4
      have hb2 := b1_nz c13
      obtain ⟨x, hx, hx31, rfl⟩ := inI_t hb
      have tx : tn (nI x) = x := nI_clamp hx31
      have hx1 := hSh.2.1 x hx
      cases hq : sh x with
      | none =>
        rw [hq] at hx1
        have hx1 : G[35 + 2 * x]? = some (cO 5 [.null]) := hx1
        refine xj_aload_n dX0_whatIs_18 rfl rfl ?_
        refine xj_get dX0_whatIs_19 K0 34 (by decide) q506 hO rfl ?_
        refine xj_iload_n dX0_whatIs_22 rfl ?_
        refine xj_aald dX0_whatIs_23 hSh.1 rfl rfl rfl (by omega) (sh_ref hx) ?_
        refine xj_getN dX0_whatIs_24 K5 0 (by decide) q381 hx1 rfl ?_
        refine xj_castN dX0_whatIs_27 ?_
        refine xj_astn3 dX0_whatIs_30 rfl rfl ?_
        refine xj_aload_n dX0_whatIs_31 rfl rfl ?_
        refine xj_aload_n dX0_whatIs_32 rfl rfl ?_
        refine xj_ifnull_n (tgt := 40) dX0_whatIs_33 rfl ?_
        refine xj_ic0 dX0_whatIs_40 ?_
        refine xj_bipush (v := -11) dX0_whatIs_41 rfl ?_
        refine xj_tV dX0_whatIs_43 q1472 kV_X0_must (A_mustN hv hRf) hO rfl rfl rfl rfl (Nat.le_of_ble_eq_true rfl) ⟨(Nat.le_of_ble_eq_true rfl), (Nat.le_of_ble_eq_true rfl)⟩ (Nat.le_of_ble_eq_true rfl) (Nat.le_of_ble_eq_true rfl) ?_
        rintro _ rfl
        refine xjT_catch [(18, 52, 53, 645)] (18, 52, 57, 8) [] rfl (fun z hz => by
          rcases List.mem_cons.mp hz with rfl | hz
          · exact Or.inr ⟨by decide, _, q1454, nc_R_CC⟩
          cases hz) rfl (by decide) q203 (Or.inl rfl) rfl ?_
        refine xj_astn3 dX0_whatIs_57 rfl rfl ?_
        refine xj_aload_n dX0_whatIs_58 rfl rfl ?_
        refine xj_get dX0_whatIs_59 K1 6 (by decide) q277 (gset_self hRf) rfl ?_
        exact xj_ireturn dX0_whatIs_62 rfl rfl ⟨by rw [ow_n hb hb2 tx hq], hSt0.oth (by decide) (by decide), ⟨r, _, gset_self hRf⟩, gfa.refl.set (by decide), (by obtain ⟨M, m1, m2⟩ := h11; exact ⟨M, m1, by rw [gset (by decide)]; exact m2⟩), (by obtain ⟨M, m1, m2⟩ := h12; exact ⟨M, m1, by rw [gset (by decide)]; exact m2⟩)⟩
      | some q =>
        rw [hq] at hx1
        obtain ⟨a1, a2, a3, a4⟩ := hx1
        by_cases hts : q.1 = 2
        · have hN2_ : shN 2 q.2 := by rw [← hts]; exact a4
          have a3 : G[sa x]? = some (cI 0 (q.2.map Int64.toInt32)) := by rw [hts] at a3; exact a3
          refine xj_aload_n dX0_whatIs_18 rfl rfl ?_
          refine xj_get dX0_whatIs_19 K0 34 (by decide) q506 hO rfl ?_
          refine xj_iload_n dX0_whatIs_22 rfl ?_
          refine xj_aald dX0_whatIs_23 hSh.1 rfl rfl rfl (by omega) (sh_ref hx) ?_
          refine xj_getN dX0_whatIs_24 K5 0 (by decide) q381 a1 rfl ?_
          refine xj_castE dX0_whatIs_27 q1471 a3 xnm_I0 ?_
          refine xj_astn3 dX0_whatIs_30 rfl rfl ?_
          refine xj_aload_n dX0_whatIs_31 rfl rfl ?_
          refine xj_aload_n dX0_whatIs_32 rfl rfl ?_
          refine xj_ifnull_r dX0_whatIs_33 ?_
          refine xj_ic1 dX0_whatIs_36 ?_
          refine xj_goto (tgt := 41) dX0_whatIs_37 rfl ?_
          refine xj_bipush (v := -11) dX0_whatIs_41 rfl ?_
          refine xj_cV dX0_whatIs_43 q1472 kV_X0_must (A_mustY hv) hO rfl rfl rfl rfl (Nat.le_of_ble_eq_true rfl) ⟨(Nat.le_of_ble_eq_true rfl), (Nat.le_of_ble_eq_true rfl)⟩ (Nat.le_of_ble_eq_true rfl) (Nat.le_of_ble_eq_true rfl) ?_
          refine xj_aload_n dX0_whatIs_46 rfl rfl ?_
          refine xj_aload_n dX0_whatIs_47 rfl rfl ?_
          refine xj_iload_n dX0_whatIs_48 rfl ?_
          refine xj_dVW dX0_whatIs_49 q1477 kVW_X0_fitting (A_fitting (w := w) hv hn3 hA hSt0 h11 h12 a2 a3 hN2_ h82) hO rfl rfl rfl rfl (Nat.le_of_ble_eq_true rfl) ⟨(Nat.le_of_ble_eq_true rfl), (Nat.le_of_ble_eq_true rfl)⟩ (Nat.le_of_ble_eq_true rfl) (Nat.le_of_ble_eq_true rfl) ?_
          rintro _ G1 ⟨rfl, y1, y2, y3, y4⟩
          exact xj_ireturn dX0_whatIs_52 rfl rfl ⟨by rw [ow_y hb hb2 tx hq hts, wc_law a4.2.1], y1, ⟨r, rv, (y2.2 1 (List.getElem?_eq_some_iff.mp hRf).1 (by decide)).trans hRf⟩, y2.mono (by decide), y3, y4⟩
        · refine xj_aload_n dX0_whatIs_18 rfl rfl ?_
          refine xj_get dX0_whatIs_19 K0 34 (by decide) q506 hO rfl ?_
          refine xj_iload_n dX0_whatIs_22 rfl ?_
          refine xj_aald dX0_whatIs_23 hSh.1 rfl rfl rfl (by omega) (sh_ref hx) ?_
          refine xj_getN dX0_whatIs_24 K5 0 (by decide) q381 a1 rfl ?_
          refine xj_castNo hmod dX0_whatIs_27 q1471 a3 (xnm_sh a4.1) (nc_sh (s := 2) a4.1 (by decide) hts).1 (nc_sh (s := 2) a4.1 (by decide) hts).2 (xrm_R (Nat.le_of_ble_eq_true rfl) (Nat.le_of_ble_eq_true rfl) (Nat.le_of_ble_eq_true rfl)) (fun j_ => ?_)
          refine xjT_catchU [] (18, 52, 53, 645) [(18, 52, 57, 8)] rfl (fun z hz => by cases hz) rfl (by decide) q1454 (Or.inl rfl) dX0_whatIs_53 (Nat.le_of_ble_eq_true rfl) rfl ?_
          refine xj_bipush (v := -13) dX0_whatIs_54 rfl ?_
          exact xj_ireturn dX0_whatIs_56 rfl rfl ⟨by rw [ow_x hb hb2 tx hq hts], hSt0.app, ⟨r, rv, by rw [List.getElem?_append_left (List.getElem?_eq_some_iff.mp hRf).1]; exact hRf⟩, gfa.refl.apps, (by obtain ⟨M, m1, m2⟩ := h11; exact ⟨M, m1, by rw [List.getElem?_append_left (List.getElem?_eq_some_iff.mp m2).1]; exact m2⟩), (by obtain ⟨M, m1, m2⟩ := h12; exact ⟨M, m1, by rw [List.getElem?_append_left (List.getElem?_eq_some_iff.mp m2).1]; exact m2⟩)⟩
    · refine xj_icm1 dX0_whatIs_16 ?_
      exact xj_ireturn dX0_whatIs_17 rfl rfl ⟨by unfold o_whatIs; first | (rw [b1_z c4]; rfl) | (rw [b1_z c13, Bool.and_false]; rfl), hSt0, ⟨r, rv, hRf⟩, gfa.refl, h11, h12⟩
end A47
