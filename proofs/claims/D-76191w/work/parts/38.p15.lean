/-! ===== stairs: the view ===== -/
set_option maxRecDepth 100000
def mSL (L : List Int32) (l : List (Int32 × Int32)) : Prop := L.length = 30 ∧ l.length ≤ 15 ∧ ∀ (i : Nat) (p : Int32 × Int32), l[i]? = some p → L[2 * i]? = some p.1 ∧ L[2 * i + 1]? = some p.2
def mS (c : Nat → Value) (l : List (Int32 × Int32)) (G : xH) : Prop := c 36 = .int (nI l.length) ∧ ∃ L : List Int32, G[74]? = some (cI 0 L) ∧ mSL L l
def stAt (l : List (Int32 × Int32)) (k : Nat) : Int32 × Int32 := l.getD k (0, 0)
theorem stAt_some {l : List (Int32 × Int32)} {k : Nat} (h : k < l.length) : l[k]? = some (stAt l k) := by
  unfold stAt; rw [List.getD_eq_getElem?_getD, List.getElem?_eq_getElem h]; rfl
def stepB (l : List (Int32 × Int32)) (i w : Int32) : Bool := inI i l.length && inI w 2
def o_step (l : List (Int32 × Int32)) (i w : Int32) : Int32 := if stepB l i w then (if w = 0 then (stAt l (tn i)).1 else (stAt l (tn i)).2) else -9
def s_alter (l : List (Int32 × Int32)) (i w v : Int32) : List (Int32 × Int32) := if stepB l i w then l.set (tn i) (if w = 0 then (v, (stAt l (tn i)).2) else ((stAt l (tn i)).1, v)) else l
theorem stepB_t {l : List (Int32 × Int32)} {i w : Int32} (h : stepB l i w = true) : ∃ j b, j < l.length ∧ j < 2 ^ 31 ∧ b < 2 ∧ i = nI j ∧ w = nI b := by
  unfold stepB at h
  rw [Bool.and_eq_true] at h
  obtain ⟨j, h1, h2, rfl⟩ := inI_t h.1
  obtain ⟨b, h3, _, rfl⟩ := inI_t h.2
  exact ⟨j, b, h1, h2, h3, rfl, rfl⟩
theorem mSL_at {L : List Int32} {l : List (Int32 × Int32)} {j b : Nat} (h : mSL L l) (hj : j < l.length) (hb : b < 2) : L[2 * j + b]? = some (if nI b = 0 then (stAt l j).1 else (stAt l j).2) := by
  have := h.2.2 j _ (stAt_some hj)
  match b, hb with
  | 0, _ => exact this.1
  | 1, _ => exact this.2
theorem mSL_set {L : List Int32} {l : List (Int32 × Int32)} {j b : Nat} {v : Int32} (h : mSL L l) (hj : j < l.length) (hb : b < 2) : mSL (L.set (2 * j + b) v) (l.set j (if nI b = 0 then (v, (stAt l j).2) else ((stAt l j).1, v))) := by
  obtain ⟨h1, h2, h3⟩ := h
  refine ⟨by rw [List.length_set, h1], by rw [List.length_set]; exact h2, ?_⟩
  intro i p hp
  by_cases e : j = i
  · subst e
    rw [List.getElem?_set_self hj] at hp
    cases hp
    have := h3 j _ (stAt_some hj)
    match b, hb with
    | 0, _ => exact ⟨List.getElem?_set_self (by omega), by rw [List.getElem?_set_ne (by omega)]; exact this.2⟩
    | 1, _ => exact ⟨by rw [List.getElem?_set_ne (by omega)]; exact this.1, List.getElem?_set_self (by omega)⟩
  · rw [List.getElem?_set_ne e] at hp
    rw [List.getElem?_set_ne (by omega), List.getElem?_set_ne (by omega)]
    exact h3 i p hp
theorem nI_2k (j b : Nat) : (2 : Int32) * nI j + nI b = nI (2 * j + b) := by
  show nI 2 * nI j + nI b = _
  rw [show nI 2 * nI j = nI (2 * j) from (Int32.ofNat_mul 2 j).symm, nI_add]
/-- traced -/
def mT (c : Nat → Value) (l : List Int32) (G : xH) : Prop := c 45 = .int (nI l.length) ∧ l.length ≤ 30 ∧ ∃ L : List Int32, G[82]? = some (cI 0 L) ∧ L.length = 30 ∧ ∀ (i : Nat) (v : Int32), l[i]? = some v → L[i]? = some v
def o_trace (l : List Int32) (i : Int32) : Int32 := if inI i l.length then l.getD (tn i) 0 else -3
