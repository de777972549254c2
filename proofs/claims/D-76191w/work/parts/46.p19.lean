/-! ===== the reference's views over cells by a function; sheets and shelves ===== -/
set_option maxRecDepth 100000
def kV (c : Nat → Value) (n : Nat) (a : Nat → xC) : Prop := a 54 = cO 7 (mFs c) ∧ c 0 = .int (nI n) ∧ 1 ≤ n ∧ n ≤ 6 ∧ a 63 = cI 0 powL ∧ a 64 = cI 0 wayL
theorem kV.V {c : Nat → Value} {n : Nat} {a : Nat → xC} {T : xH} (h : kV c n a) : mV c n (kG a T) := ⟨kG_a (by decide) h.1, h.2.1, h.2.2.1, h.2.2.2.1, kG_a (by decide) h.2.2.2.2.1, kG_a (by decide) h.2.2.2.2.2⟩
theorem kV.u {c c' : Nat → Value} {n : Nat} {a b : Nat → xC} (h : kV c n a) (hO : b 54 = cO 7 (mFs c')) (h0 : c' 0 = c 0) (h1 : b 63 = a 63) (h2 : b 64 = a 64) : kV c' n b := ⟨hO, h0.trans h.2.1, h.2.2.1, h.2.2.2.1, h1.trans h.2.2.2.2.1, h2.trans h.2.2.2.2.2⟩
def kA (n : Nat) (a : Nat → xC) : Prop := ∃ L1 L2 L3 : List Int32, a 59 = cI 0 L1 ∧ a 60 = cI 0 L2 ∧ a 61 = cI 0 L3 ∧ ∀ k, k < na n → L1[k]? = some (nI (aL n k)) ∧ L2[k]? = some (nI (aH n k)) ∧ L3[k]? = some (nI (aF n k))
theorem kA.A {n : Nat} {a : Nat → xC} {T : xH} (h : kA n a) : mA n (kG a T) := by
  obtain ⟨L1, L2, L3, p1, p2, p3, p4⟩ := h
  exact ⟨L1, L2, L3, kG_a (by decide) p1, kG_a (by decide) p2, kG_a (by decide) p3, p4⟩
theorem kA.u {n : Nat} {a b : Nat → xC} (h : kA n a) (h1 : b 59 = a 59) (h2 : b 60 = a 60) (h3 : b 61 = a 61) : kA n b := by
  obtain ⟨L1, L2, L3, p1, p2, p3, p4⟩ := h
  exact ⟨L1, L2, L3, h1.trans p1, h2.trans p2, h3.trans p3, p4⟩
def kF (c : Nat → Value) (n : Nat) (a : Nat → xC) : Prop := c 17 = .int (nI (na n)) ∧ ∃ L4 : List Int64, a 62 = cL 4 L4 ∧ ∀ k, k < na n → L4[k]? = some (lN (fo n k))
theorem kF.F {c : Nat → Value} {n : Nat} {a : Nat → xC} {T : xH} (h : kF c n a) : mF c n (kG a T) := by
  obtain ⟨p0, L4, p1, p2⟩ := h
  exact ⟨p0, L4, kG_a (by decide) p1, p2⟩
theorem kF.u {c c' : Nat → Value} {n : Nat} {a b : Nat → xC} (h : kF c n a) (h0 : c' 17 = c 17) (h1 : b 62 = a 62) : kF c' n b := by
  obtain ⟨p0, L4, p1, p2⟩ := h
  exact ⟨h0.trans p0, L4, h1.trans p1, p2⟩
/-- returns v; the tail is as it was, the cells as P says -/
def kR (v : Option Value) (T : xH) (P : (Nat → xC) → Prop) : xOut → xH → Prop := xre (fun v' G' => v' = v ∧ ∃ b, G' = kG b T ∧ P b)
theorem kR_i {x y : Int32} {T : xH} {P : (Nat → xC) → Prop} {b : Nat → xC} (h : x = y) (hp : P b) : kR (some (.int y)) T P (.inl (some (.int x))) (kG b T) := by subst h; exact ⟨rfl, b, rfl, hp⟩
theorem kR_v {T : xH} {P : (Nat → xC) → Prop} {b : Nat → xC} (hp : P b) : kR none T P (.inl none) (kG b T) := ⟨rfl, b, rfl, hp⟩
/-! sheets: of a sort, with what they hold -/
def shS : Option (Nat × List Int64) → Int32
  | none => -1
  | some q => nI q.1
def shX : Option (Nat × List Int64) → List Int64
  | none => []
  | some q => q.2
def shU (sh : Nat → Option (Nat × List Int64)) (k : Nat) (o : Option (Nat × List Int64)) : Nat → Option (Nat × List Int64) := fun j => if j = k then o else sh j
def mHL (S Z : List Int32) (C : List Int64) (sh : Nat → Option (Nat × List Int64)) : Prop := S.length = 4 ∧ Z.length = 4 ∧ C.length = 160 ∧
  ∀ k, k < 4 → S[k]? = some (shS (sh k)) ∧ Z[k]? = some (nI (shX (sh k)).length) ∧ (shX (sh k)).length ≤ 40 ∧ (∀ q, sh k = some q → q.1 < 4) ∧ ∀ (i : Nat) (x : Int64), (shX (sh k))[i]? = some x → C[40 * k + i]? = some x
def kH (sh : Nat → Option (Nat × List Int64)) (a : Nat → xC) : Prop := ∃ (S Z : List Int32) (C : List Int64), a 75 = cI 0 S ∧ a 76 = cI 0 Z ∧ a 77 = cL 4 C ∧ mHL S Z C sh
theorem kH.u {sh : Nat → Option (Nat × List Int64)} {a b : Nat → xC} (h : kH sh a) (h1 : b 75 = a 75) (h2 : b 76 = a 76) (h3 : b 77 = a 77) : kH sh b := by
  obtain ⟨S, Z, C, p1, p2, p3, p4⟩ := h
  exact ⟨S, Z, C, h1.trans p1, h2.trans p2, h3.trans p3, p4⟩
theorem inB_m3 {x : Int32} : inB x.toInt64 (-1) 3 = decide (-1 ≤ x.toInt ∧ x.toInt ≤ 3) := by rw [inB_R]; rfl
def shB (k s m : Int32) : Bool := inI k 4 && (decide (-1 ≤ s.toInt ∧ s.toInt ≤ 3) && !(decide (0 ≤ s) && decide (40 < m)))
def o_sheet (k s m : Int32) : Int32 := if shB k s m then (if decide (0 ≤ s) && decide (m < 0) then -14 else 1) else -1
def s_sheet (sh : Nat → Option (Nat × List Int64)) (k s m : Int32) : Nat → Option (Nat × List Int64) :=
  if shB k s m && !(decide (0 ≤ s) && decide (m < 0)) then shU sh (tn k) (if s < 0 then none else some (tn s, List.replicate (tn m) 0)) else sh
/-- what a sheet of a sort keeps of a number -/
def nrw (s : Int32) (v : Int64) : Int64 := if s = 0 then v.toInt32.toInt8.toInt32.toInt64 else if s = 1 then v.toInt32.toInt16.toInt32.toInt64 else if s = 2 then v.toInt32.toInt64 else v
def o_put (sh : Nat → Option (Nat × List Int64)) (k i : Int32) : Int32 := if inI k 4 then (match sh (tn k) with | none => -11 | some q => if inI i q.2.length then 1 else -12) else -1
def s_put (sh : Nat → Option (Nat × List Int64)) (k i : Int32) (v : Int64) : Nat → Option (Nat × List Int64) := if inI k 4 then (match sh (tn k) with | none => sh | some q => if inI i q.2.length then shU sh (tn k) (some (q.1, q.2.set (tn i) (nrw (nI q.1) v))) else sh) else sh
def o_item (sh : Nat → Option (Nat × List Int64)) (k s i : Int32) : Int32 := if inI k 4 && inI s 4 then (match sh (tn k) with | none => -11 | some q => if nI q.1 = s then (if inI i q.2.length then (q.2.getD (tn i) 0).toInt32 else -12) else -13) else -1
theorem mHL_put {S Z : List Int32} {C : List Int64} {sh : Nat → Option (Nat × List Int64)} {k i : Nat} {q : Nat × List Int64} {x : Int64} (h : mHL S Z C sh) (hk : k < 4) (hq : sh k = some q) (hi : i < q.2.length) : mHL S Z (C.set (40 * k + i) x) (shU sh k (some (q.1, q.2.set i x))) := by
  obtain ⟨h1, h2, h3, h4⟩ := h
  have hk4 := h4 k hk
  rw [hq] at hk4
  refine ⟨h1, h2, by rw [List.length_set, h3], fun j hj => ?_⟩
  have hjj := h4 j hj
  unfold shU
  by_cases e : j = k
  · subst e
    rw [if_pos rfl]
    refine ⟨hk4.1, by show Z[j]? = some (nI (q.2.set i x).length); rw [List.length_set]; exact hk4.2.1, by show (q.2.set i x).length ≤ 40; rw [List.length_set]; exact hk4.2.2.1, fun p hp => by cases hp; exact hk4.2.2.2.1 q rfl, ?_⟩
    intro i2 y hy
    have hy : (q.2.set i x)[i2]? = some y := hy
    by_cases e2 : i2 = i
    · subst e2
      rw [List.getElem?_set_self hi] at hy
      cases hy
      exact List.getElem?_set_self (by have := hk4.2.2.1; have : q.2.length ≤ 40 := this; omega)
    · rw [List.getElem?_set_ne (fun p => e2 p.symm)] at hy
      rw [List.getElem?_set_ne (by omega)]
      exact hk4.2.2.2.2 i2 y hy
  · rw [if_neg e]
    refine ⟨hjj.1, hjj.2.1, hjj.2.2.1, hjj.2.2.2.1, ?_⟩
    intro i2 y hy
    have hl := (List.getElem?_eq_some_iff.mp hy).1
    have h40 : q.2.length ≤ 40 := hk4.2.2.1
    have := hjj.2.2.1
    rw [List.getElem?_set_ne (by omega)]
    exact hjj.2.2.2.2 i2 y hy
theorem mHL_new {S Z : List Int32} {C C' : List Int64} {sh : Nat → Option (Nat × List Int64)} {k : Nat} {o : Option (Nat × List Int64)} (h : mHL S Z C sh) (hk : k < 4) (hC : C'.length = 160) (hz : ∀ i, i < 40 → C'[40 * k + i]? = some 0) (hs : ∀ i, (i < 40 * k ∨ 40 * k + 40 ≤ i) → C'[i]? = C[i]?) (ho : o = none ∨ ∃ s m, s < 4 ∧ m ≤ 40 ∧ o = some (s, List.replicate m 0)) : mHL (S.set k (shS o)) (Z.set k (nI (shX o).length)) C' (shU sh k o) := by
  obtain ⟨h1, h2, h3, h4⟩ := h
  refine ⟨by rw [List.length_set, h1], by rw [List.length_set, h2], hC, fun j hj => ?_⟩
  have hjj := h4 j hj
  unfold shU
  by_cases e : j = k
  · subst e
    rw [if_pos rfl, List.getElem?_set_self (by omega), List.getElem?_set_self (by omega)]
    refine ⟨rfl, rfl, ?_, ?_, ?_⟩
    · rcases ho with rfl | ⟨s, m, _, hm, rfl⟩
      · exact Nat.zero_le _
      · show (List.replicate m (0 : Int64)).length ≤ 40
        rw [List.length_replicate]; exact hm
    · intro q hq
      rcases ho with rfl | ⟨s, m, hs4, hm, rfl⟩
      · cases hq
      · cases hq; exact hs4
    · intro i x hx
      rcases ho with rfl | ⟨s, m, hs4, hm, rfl⟩
      · cases hx
      · have hx : (List.replicate m (0 : Int64))[i]? = some x := hx
        obtain ⟨q1, q2⟩ := List.getElem?_eq_some_iff.mp hx
        rw [List.getElem_replicate] at q2
        rw [List.length_replicate] at q1
        rw [hz i (by omega), q2]
  · rw [if_neg e, List.getElem?_set_ne (fun p => e p.symm), List.getElem?_set_ne (fun p => e p.symm)]
    refine ⟨hjj.1, hjj.2.1, hjj.2.2.1, hjj.2.2.2.1, ?_⟩
    intro i2 y hy
    have hl := (List.getElem?_eq_some_iff.mp hy).1
    have := hjj.2.2.1
    rw [hs _ (by omega)]
    exact hjj.2.2.2.2 i2 y hy
/-- a move's places are inside -/
def mvB (i j m : Int32) (x y : Nat) : Bool := decide (0 ≤ m.toInt ∧ 0 ≤ i.toInt ∧ 0 ≤ j.toInt ∧ i.toInt + m.toInt ≤ x ∧ j.toInt + m.toInt ≤ y)
def mvL (xs ys : List Int64) (i j m : Nat) : List Int64 := ys.take j ++ ((xs.drop i).take m ++ ys.drop (j + m))
def o_move (sh : Nat → Option (Nat × List Int64)) (k i k2 j m : Int32) : Int32 := if inI k 4 && inI k2 4 then (match sh (tn k), sh (tn k2) with | some q, some q2 => if q.1 = q2.1 then (if mvB i j m q.2.length q2.2.length then m else -12) else -13 | _, _ => -11) else -1
def s_move (sh : Nat → Option (Nat × List Int64)) (k i k2 j m : Int32) : Nat → Option (Nat × List Int64) := if inI k 4 && inI k2 4 then (match sh (tn k), sh (tn k2) with | some q, some q2 => if q.1 = q2.1 then (if mvB i j m q.2.length q2.2.length then shU sh (tn k2) (some (q2.1, mvL q.2 q2.2 (tn i) (tn j) (tn m))) else sh) else sh | _, _ => sh) else sh
theorem mvL_len {xs ys : List Int64} {i j m : Nat} (h1 : i + m ≤ xs.length) (h2 : j + m ≤ ys.length) : (mvL xs ys i j m).length = ys.length := by
  unfold mvL
  rw [List.length_append, List.length_append, List.length_take, List.length_take, List.length_drop, List.length_drop]
  omega
theorem mvL_at {xs ys : List Int64} {i j m p : Nat} (h1 : i + m ≤ xs.length) (h2 : j + m ≤ ys.length) : (mvL xs ys i j m)[p]? = if j ≤ p ∧ p < j + m then xs[i + (p - j)]? else ys[p]? := by
  unfold mvL
  have l1 : (ys.take j).length = j := by rw [List.length_take]; omega
  have l2 : ((xs.drop i).take m).length = m := by rw [List.length_take, List.length_drop]; omega
  by_cases hp : p < j
  · rw [List.getElem?_append_left (by omega), List.getElem?_take, if_pos hp, if_neg (by omega)]
  · rw [List.getElem?_append_right (by omega), l1]
    by_cases hm : p < j + m
    · rw [List.getElem?_append_left (by omega), List.getElem?_take, if_pos (by omega), List.getElem?_drop, if_pos ⟨by omega, hm⟩]
    · rw [List.getElem?_append_right (by omega), l2, List.getElem?_drop, if_neg (by omega), show j + m + (p - j - m) = p by omega]
theorem mHL_move {S Z : List Int32} {C C' : List Int64} {sh : Nat → Option (Nat × List Int64)} {k k2 i j m : Nat} {q q2 : Nat × List Int64} (h : mHL S Z C sh) (hk : k < 4) (hk2 : k2 < 4) (hq : sh k = some q) (hq2 : sh k2 = some q2) (h1 : i + m ≤ q.2.length) (h2 : j + m ≤ q2.2.length) (hC : C'.length = 160) (hn : ∀ p, p < m → C'[40 * k2 + j + p]? = C[40 * k + i + p]?) (ho : ∀ p, (p < 40 * k2 + j ∨ 40 * k2 + j + m ≤ p) → C'[p]? = C[p]?) : mHL S Z C' (shU sh k2 (some (q2.1, mvL q.2 q2.2 i j m))) := by
  obtain ⟨g1, g2, g3, g4⟩ := h
  have hk4 := g4 k hk
  have hk24 := g4 k2 hk2
  rw [hq] at hk4
  rw [hq2] at hk24
  have z1 : q.2.length ≤ 40 := hk4.2.2.1
  have z2 : q2.2.length ≤ 40 := hk24.2.2.1
  refine ⟨g1, g2, hC, fun p hp => ?_⟩
  have hpp := g4 p hp
  unfold shU
  by_cases e : p = k2
  · subst e
    rw [if_pos rfl]
    refine ⟨hk24.1, by show Z[p]? = some (nI (mvL q.2 q2.2 i j m).length); rw [mvL_len h1 h2]; exact hk24.2.1, by show (mvL q.2 q2.2 i j m).length ≤ 40; rw [mvL_len h1 h2]; exact z2, fun p hp => by cases hp; exact hk24.2.2.2.1 q2 rfl, ?_⟩
    intro x y hy
    have hy : (mvL q.2 q2.2 i j m)[x]? = some y := hy
    have hl := (List.getElem?_eq_some_iff.mp hy).1
    rw [mvL_len h1 h2] at hl
    rw [mvL_at h1 h2] at hy
    split at hy
    · rename_i hc
      have := hn (x - j) (by omega)
      rw [show 40 * p + j + (x - j) = 40 * p + x by omega] at this
      rw [this, show 40 * k + i + (x - j) = 40 * k + (i + (x - j)) by omega]
      exact hk4.2.2.2.2 _ y hy
    · rename_i hc
      rw [ho _ (by omega)]
      exact hk24.2.2.2.2 x y hy
  · rw [if_neg e]
    refine ⟨hpp.1, hpp.2.1, hpp.2.2.1, hpp.2.2.2.1, ?_⟩
    intro x y hy
    have hl := (List.getElem?_eq_some_iff.mp hy).1
    have := hpp.2.2.1
    rw [ho _ (by omega)]
    exact hpp.2.2.2.2 x y hy
/-! rows out of a sheet -/
def rfF (n : Nat) (xs : List Int64) : Nat → Nat → Nat → Int32
  | 0, _, r => if rowB n (nI r) then nI r else -3
  | k + 1, i, r => if 1 ≤ (xs.getD i 0).toInt ∧ (xs.getD i 0).toInt ≤ n then rfF n xs k (i + 1) (10 * r + (xs.getD i 0).toInt.toNat) else -3
def o_rowFrom (n : Nat) (sh : Nat → Option (Nat × List Int64)) (k i : Int32) : Int32 := if inI k 4 then (match sh (tn k) with | none => -11 | some q => if q.1 = 0 then (if 0 ≤ i.toInt ∧ i.toInt + n ≤ q.2.length then rfF n q.2 n (tn i) 0 else -12) else -13) else -1
/-! shelves: a maker by its number, a row of a sort and a length, nothing -/
def wOk (Hh Th Lh : List Int32) (k : Nat) : Option (Nat ⊕ (Nat × Nat)) → Prop
  | none => Hh[k]? = some 2
  | some (.inl m) => Hh[k]? = some 0 ∧ Th[k]? = some (nI m) ∧ m < 6
  | some (.inr q) => Hh[k]? = some 1 ∧ Th[k]? = some (nI q.1) ∧ Lh[k]? = some (nI q.2) ∧ q.1 < 4 ∧ q.2 ≤ 40
def mWL (Hh Th Lh : List Int32) (hl : Nat → Option (Nat ⊕ (Nat × Nat))) : Prop := Hh.length = 4 ∧ Th.length = 4 ∧ Lh.length = 4 ∧ ∀ k, k < 4 → wOk Hh Th Lh k (hl k)
def kW (hl : Nat → Option (Nat ⊕ (Nat × Nat))) (a : Nat → xC) : Prop := ∃ Hh Th Lh : List Int32, a 79 = cI 0 Hh ∧ a 80 = cI 0 Th ∧ a 81 = cI 0 Lh ∧ mWL Hh Th Lh hl
theorem kW.u {hl : Nat → Option (Nat ⊕ (Nat × Nat))} {a b : Nat → xC} (h : kW hl a) (h1 : b 79 = a 79) (h2 : b 80 = a 80) (h3 : b 81 = a 81) : kW hl b := by
  obtain ⟨S, Z, C, p1, p2, p3, p4⟩ := h
  exact ⟨S, Z, C, h1.trans p1, h2.trans p2, h3.trans p3, p4⟩
def hlU (hl : Nat → Option (Nat ⊕ (Nat × Nat))) (k : Nat) (o : Option (Nat ⊕ (Nat × Nat))) : Nat → Option (Nat ⊕ (Nat × Nat)) := fun j => if j = k then o else hl j
theorem wOk.set {Hh Th Lh : List Int32} {k j : Nat} {o : Option (Nat ⊕ (Nat × Nat))} {x y z : Int32} (h : wOk Hh Th Lh j o) (hj : k ≠ j) : wOk (Hh.set k x) (Th.set k y) (Lh.set k z) j o := by
  match o, h with
  | none, h => exact (List.getElem?_set_ne hj).trans h
  | some (.inl m), h => exact ⟨(List.getElem?_set_ne hj).trans h.1, (List.getElem?_set_ne hj).trans h.2.1, h.2.2⟩
  | some (.inr q), h => exact ⟨(List.getElem?_set_ne hj).trans h.1, (List.getElem?_set_ne hj).trans h.2.1, (List.getElem?_set_ne hj).trans h.2.2.1, h.2.2.2⟩
theorem mWL_set {Hh Th Lh : List Int32} {hl : Nat → Option (Nat ⊕ (Nat × Nat))} {k : Nat} {o : Option (Nat ⊕ (Nat × Nat))} {x y z : Int32} (h : mWL Hh Th Lh hl) (ho : wOk (Hh.set k x) (Th.set k y) (Lh.set k z) k o) : mWL (Hh.set k x) (Th.set k y) (Lh.set k z) (hlU hl k o) := by
  obtain ⟨h1, h2, h3, h4⟩ := h
  refine ⟨by rw [List.length_set, h1], by rw [List.length_set, h2], by rw [List.length_set, h3], fun j hj => ?_⟩
  unfold hlU
  by_cases e : j = k
  · subst e; rw [if_pos rfl]; exact ho
  · rw [if_neg e]; exact (h4 j hj).set (fun q => e q.symm)
def slB (l : List (Nat × Nat)) (k w m : Int32) : Bool := inI k 4 && (inI w 3 && ((!decide (w = 0) || inI m l.length) && (!decide (w = 1) || inI m 4)))
def o_shelf (l : List (Nat × Nat)) (k w m : Int32) : Int32 := if slB l k w m then 1 else -1
def slO (sh : Nat → Option (Nat × List Int64)) (w m : Int32) : Option (Nat ⊕ (Nat × Nat)) := if w = 0 then some (.inl (tn m)) else if w = 1 then (match sh (tn m) with | none => none | some q => some (.inr (q.1, q.2.length))) else none
def s_shelf (l : List (Nat × Nat)) (sh : Nat → Option (Nat × List Int64)) (hl : Nat → Option (Nat ⊕ (Nat × Nat))) (k w m : Int32) : Nat → Option (Nat ⊕ (Nat × Nat)) := if slB l k w m then hlU hl (tn k) (slO sh w m) else hl
def hby (l : List (Nat × Nat)) : Option (Nat ⊕ (Nat × Nat)) → Nat
  | none => 2
  | some (.inl m) => if m < l.length then 0 else 2
  | some (.inr _) => 1
def tkI (as : Int32) : Bool := inI as 6 || decide (10 ≤ as.toInt ∧ as.toInt ≤ 13)
def o_taken (l : List (Nat × Nat)) (hl : Nat → Option (Nat ⊕ (Nat × Nat))) (k as : Int32) : Int32 := if inI k 4 && tkI as then (match hl (tn k) with | none => -11 | some (.inl m) => if m < l.length then (if as ≤ 5 ∧ undB (nI (mkAt l m).1) as = true then nI m else -13) else -11 | some (.inr q) => if as = nI (10 + q.1) then nI q.2 else -13) else -1
theorem inB_1013 {x : Int32} : inB x.toInt64 10 13 = decide (10 ≤ x.toInt ∧ x.toInt ≤ 13) := by rw [inB_R]; rfl
theorem nI_40 (j b : Nat) : (40 : Int32) * nI j + nI b = nI (40 * j + b) := by
  show nI 40 * nI j + nI b = _
  rw [show nI 40 * nI j = nI (40 * j) from (Int32.ofNat_mul 40 j).symm, nI_add]
theorem i32n {x : Int32} (h : x < 0) : x.toInt < 0 := Int32.lt_iff_toInt_lt.mp h
theorem i32p {x : Int32} (h : ¬ x < 0) : 0 ≤ x.toInt := by
  have : ¬ x.toInt < (0 : Int32).toInt := fun q => h (Int32.lt_iff_toInt_lt.mpr q)
  have e : (0 : Int32).toInt = 0 := rfl
  omega
theorem mv_gt {s : Nat} {m i : Int32} (hs : s ≤ 40) (hm : ¬ m < 0) (hi : ¬ i < 0) : nI s - m < i ↔ (s : Int) < i.toInt + m.toInt := by
  have h1 := i32p hm
  have h2 := i32p hi
  have h3 := Int32.toInt_lt m
  rw [Int32.lt_iff_toInt_lt, Int32.toInt_sub, nI_toInt (by omega), Int.bmod_eq_of_le (by omega) (by omega)]
  omega
theorem mv_le {s : Nat} {m i : Int32} (hs : s ≤ 40) (hm : ¬ m < 0) (hi : ¬ i < 0) : i ≤ nI s - m ↔ i.toInt + m.toInt ≤ (s : Int) := by
  have h1 := i32p hm
  have h2 := i32p hi
  have h3 := Int32.toInt_lt m
  rw [Int32.le_iff_toInt_le, Int32.toInt_sub, nI_toInt (by omega), Int.bmod_eq_of_le (by omega) (by omega)]
  omega
theorem au_id {a : Nat → xC} {i : Nat} {x : xC} (h : a i = x) : au a i x = a := by
  funext j
  unfold au
  by_cases e : j = i
  · rw [if_pos e, e, h]
  · rw [if_neg e]
theorem au_comm (a : Nat → xC) {i j : Nat} (x y : xC) (h : i ≠ j) : au (au a i x) j y = au (au a j y) i x := by
  funext k
  unfold au
  by_cases e : k = i
  · subst e; rw [if_neg h, if_pos rfl, if_pos rfl]
  · by_cases e2 : k = j
    · subst e2; rw [if_pos rfl, if_neg e, if_pos rfl]
    · rw [if_neg e2, if_neg e, if_neg e, if_neg e2]
theorem s_some {S : List Int32} {k : Nat} {sh : Nat → Option (Nat × List Int64)} (h : S[k]? = some (shS (sh k))) {q : Nat × List Int64} (hq : sh k = some q) : S[k]? = some (nI q.1) := by rw [h, hq]; rfl
theorem s_none {S : List Int32} {k : Nat} {sh : Nat → Option (Nat × List Int64)} (h : S[k]? = some (shS (sh k))) (hq : sh k = none) : S[k]? = some (-1) := by rw [h, hq]; rfl
theorem z_some {Z : List Int32} {k : Nat} {sh : Nat → Option (Nat × List Int64)} (h : Z[k]? = some (nI (shX (sh k)).length)) {q : Nat × List Int64} (hq : sh k = some q) : Z[k]? = some (nI q.2.length) := by rw [h, hq]; rfl
theorem i32_ge {x : Int32} (h : ¬ x < 0) : 0 ≤ x := by rw [Int32.le_iff_toInt_le]; exact i32p h
theorem i32_nle {x y : Int32} (h : ¬ x ≤ y) : y < x := by rw [Int32.lt_iff_toInt_lt]; rw [Int32.le_iff_toInt_le] at h; omega
theorem i32_le {x y : Int32} (h : x ≤ y) : ¬ y < x := by rw [Int32.lt_iff_toInt_lt]; rw [Int32.le_iff_toInt_le] at h; omega
