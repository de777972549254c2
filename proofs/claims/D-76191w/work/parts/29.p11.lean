/-! ===== lines laid in order; the reference's views behind a writing ===== -/
set_option maxRecDepth 100000
theorem gset {G : xH} {i j : Nat} {x : xC} (h : i ≠ j) : (G.set i x)[j]? = G[j]? := List.getElem?_set_ne h
theorem gset_self {G : xH} {i : Nat} {x y : xC} (h : G[i]? = some y) : (G.set i x)[i]? = some x := List.getElem?_set_self (List.getElem?_eq_some_iff.mp h).1
theorem gset_set {G : xH} {i : Nat} {x y : xC} : (G.set i x).set i y = G.set i y := List.set_set ..
theorem gset_id {G : xH} {i : Nat} {x : xC} (h : G[i]? = some x) : G.set i x = G := by
  apply List.ext_getElem?
  intro j
  by_cases e : i = j
  · subst e; rw [gset_self h, h]
  · rw [gset e]
theorem mV.set {c : Nat → Value} {n : Nat} {G : xH} {a : Nat} {x : xC} (h : mV c n G) (h1 : a ≠ 54) (h2 : a ≠ 63) (h3 : a ≠ 64) : mV c n (G.set a x) := by
  obtain ⟨p1, p2, p3, p4, p5, p6⟩ := h
  exact ⟨by rw [gset h1]; exact p1, p2, p3, p4, by rw [gset h2]; exact p5, by rw [gset h3]; exact p6⟩
theorem mA.set {n : Nat} {G : xH} {a : Nat} {x : xC} (h : mA n G) (h1 : a ≠ 59) (h2 : a ≠ 60) (h3 : a ≠ 61) : mA n (G.set a x) := by
  obtain ⟨L1, L2, L3, p1, p2, p3, p4⟩ := h
  exact ⟨L1, L2, L3, by rw [gset h1]; exact p1, by rw [gset h2]; exact p2, by rw [gset h3]; exact p3, p4⟩
theorem mF.set {c : Nat → Value} {n : Nat} {G : xH} {a : Nat} {x : xC} (h : mF c n G) (h1 : a ≠ 62) : mF c n (G.set a x) := by
  obtain ⟨p0, L4, p1, p2⟩ := h
  exact ⟨p0, L4, by rw [gset h1]; exact p1, p2⟩
/-- the place for v among the first k of l, looked for from the end -/
def insPos (l : List Nat) (v : Nat) : Nat → Nat
  | 0 => 0
  | k + 1 => if v < l.getD k 0 then insPos l v k else k + 1
def insE (l : List Nat) (v : Nat) : List Nat := l.take (insPos l v l.length) ++ v :: l.drop (insPos l v l.length)
theorem insPos_le (l : List Nat) (v : Nat) : ∀ k, insPos l v k ≤ k := by
  intro k
  induction k with
  | zero => exact Nat.le_refl _
  | succ k ih =>
    unfold insPos
    split
    · omega
    · exact Nat.le_refl _
theorem insE_len (l : List Nat) (v : Nat) : (insE l v).length = l.length + 1 := by
  have := insPos_le l v l.length
  unfold insE
  rw [List.length_append, List.length_take, List.length_cons, List.length_drop]
  omega
/-- the array's first places hold the list -/
def lnk (L : List Int32) (l : List Nat) : Prop := ∀ (i x : Nat), l[i]? = some x → L[i]? = some (nI x)
theorem lnk_ins {L : List Int32} {l : List Nat} {v : Nat} (hL : l.length < L.length) (h1 : ∀ (i x : Nat), i < insPos l v l.length → l[i]? = some x → L[i]? = some (nI x)) (h2 : ∀ (i x : Nat), insPos l v l.length ≤ i → l[i]? = some x → L[i + 1]? = some (nI x)) : lnk (L.set (insPos l v l.length) (nI v)) (insE l v) := by
  have hle := insPos_le l v l.length
  intro i x hx
  unfold insE at hx
  have htl : (l.take (insPos l v l.length)).length = insPos l v l.length := by rw [List.length_take]; omega
  rcases Nat.lt_trichotomy i (insPos l v l.length) with h | h | h
  · rw [List.getElem?_append_left (by omega), List.getElem?_take, if_pos h] at hx
    rw [List.getElem?_set_ne (by omega)]
    exact h1 i x h hx
  · subst h
    rw [List.getElem?_append_right (by omega), htl, Nat.sub_self] at hx
    cases hx
    rw [List.getElem?_set_self (by omega)]
  · rw [List.getElem?_append_right (by omega), htl, show i - insPos l v l.length = (i - 1 - insPos l v l.length) + 1 by omega, List.getElem?_cons_succ, List.getElem?_drop, show insPos l v l.length + (i - 1 - insPos l v l.length) = i - 1 by omega] at hx
    rw [List.getElem?_set_ne (by omega), show i = i - 1 + 1 by omega]
    exact h2 (i - 1) x (by omega) hx
/-- classes right under that of r (t) or right above: their least rows in order -/
def rotF (n g f : Nat) (t : Bool) : Nat → List Nat → List Nat := fun p l => if isD n f p == t then insE l (gos n true g (sw n f p)) else l
def rot (n g r : Nat) (t : Bool) : List Nat := lpN (rotF n g (gos n t g r) t) 0 (n - 1) []
