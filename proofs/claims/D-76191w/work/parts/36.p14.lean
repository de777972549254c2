/-! ===== makers: the view ===== -/
set_option maxRecDepth 100000
theorem inB_c5 {x : Int32} : inB x.toInt64 0 5 = inI x 6 := inB_inI (m := 6) (by decide)
theorem inB_c15 {x : Int32} : inB x.toInt64 0 15 = inI x 16 := inB_inI (m := 16) (by decide)
/-- makers (kind, m) over two arrays -/
def mML (K M : List Int32) (l : List (Nat × Nat)) : Prop := K.length = 6 ∧ M.length = 6 ∧ l.length ≤ 6 ∧ ∀ (i : Nat) (p : Nat × Nat), l[i]? = some p → K[i]? = some (nI p.1) ∧ M[i]? = some (nI p.2) ∧ p.1 < 6 ∧ p.2 < 16
def mM (c : Nat → Value) (l : List (Nat × Nat)) (G : xH) : Prop := c 2 = .int (nI l.length) ∧ ∃ K M : List Int32, G[55]? = some (cI 0 K) ∧ G[56]? = some (cI 0 M) ∧ mML K M l
theorem mML_push {K M : List Int32} {l : List (Nat × Nat)} {a b : Nat} (h : mML K M l) (h6 : l.length < 6) (ha : a < 6) (hb : b < 16) : mML (K.set l.length (nI a)) (M.set l.length (nI b)) (l ++ [(a, b)]) := by
  obtain ⟨h1, h2, h3, h4⟩ := h
  refine ⟨by rw [List.length_set, h1], by rw [List.length_set, h2], by rw [List.length_append, List.length_singleton]; omega, ?_⟩
  intro i p hp
  by_cases e : i = l.length
  · subst e
    rw [List.getElem?_append_right (Nat.le_refl _), Nat.sub_self] at hp
    cases hp
    exact ⟨List.getElem?_set_self (by omega), List.getElem?_set_self (by omega), ha, hb⟩
  · have hi : i < l.length := by
      have := (List.getElem?_eq_some_iff.mp hp).1
      rw [List.length_append, List.length_singleton] at this
      omega
    rw [List.getElem?_append_left hi] at hp
    rw [List.getElem?_set_ne (fun q => e q.symm), List.getElem?_set_ne (fun q => e q.symm)]
    exact h4 i p hp
def mkAt (l : List (Nat × Nat)) (k : Nat) : Nat × Nat := l.getD k (0, 0)
theorem mkAt_some {l : List (Nat × Nat)} {k : Nat} (h : k < l.length) : l[k]? = some (mkAt l k) := by
  unfold mkAt; rw [List.getD_eq_getElem?_getD, List.getElem?_eq_getElem h]; rfl
def o_maker (l : List (Nat × Nat)) (x y : Int32) : Int32 := if inI x 6 && inI y 16 then (if l.length = 6 then -2 else nI l.length) else -1
def s_maker (l : List (Nat × Nat)) (x y : Int32) : List (Nat × Nat) := if inI x 6 && inI y 16 then (if l.length = 6 then l else l ++ [(tn x, tn y)]) else l
def o_makerIs (n : Nat) (l : List (Nat × Nat)) (k w : Int32) : Int32 := if inI k l.length && inI w 3 then (if w = 0 then nI (mkAt l (tn k)).1 else if w = 1 then nI (mkAt l (tn k)).2 else nI (pc64 (tkS n (mkAt l (tn k)).1 (mkAt l (tn k)).2))) else -1
def s_make (n g : Nat) (l : List (Nat × Nat)) (k w : Int32) : Nat := if inI k l.length && inI w 3 then s_comes n g (tkS n (mkAt l (tn k)).1 (mkAt l (tn k)).2) w else g
def o_make (n g : Nat) (l : List (Nat × Nat)) (k w : Int32) : Int32 := if inI k l.length && inI w 3 then nI (pc64 (s_comes n g (tkS n (mkAt l (tn k)).1 (mkAt l (tn k)).2) w)) else -1
def undB (kd as : Int32) : Bool := decide (as = 0) || (decide (kd = as) || (decide (as = 1) && (decide (kd = 3) || decide (kd = 4)) || decide (as = 2) && decide (kd = 5)))
