/-! ===== stairs, on: fields written ===== -/
set_option maxRecDepth 100000
theorem gset_comm {G : xH} {i j : Nat} {x y : xC} (h : i ≠ j) : (G.set i x).set j y = (G.set j y).set i x := List.set_comm x y h
theorem mV.upd {c : Nat → Value} {n i : Nat} {G : xH} {v : Value} (h : mV c n G) (h0 : i ≠ 0) : mV (cu c i v) n (G.set 54 (cO 7 (mFs (cu c i v)))) := by
  obtain ⟨p1, p2, p3, p4, p5, p6⟩ := h
  exact ⟨gset_self p1, by unfold cu; rw [if_neg (fun q => h0 q.symm)]; exact p2, p3, p4, by rw [gset (by decide)]; exact p5, by rw [gset (by decide)]; exact p6⟩
theorem mF.upd {c : Nat → Value} {n i : Nat} {G : xH} {v : Value} {x : xC} (h : mF c n G) (h0 : i ≠ 17) : mF (cu c i v) n (G.set 54 x) := by
  obtain ⟨p0, L4, p1, p2⟩ := h
  exact ⟨by unfold cu; rw [if_neg (fun q => h0 q.symm)]; exact p0, L4, by rw [gset (by decide)]; exact p1, p2⟩
def prv (n g : Nat) : Nat → Nat → List (Int32 × Int32) → List (Int32 × Int32)
  | 0, _, l => l
  | k + 1, q, l => match pin n q true g (n - 1) 0 with
    | none => l
    | some p => prv n g k (sw n q p) (l ++ [(nI (sw n q p), nI (aa n q p))])
def o_prove (n g : Nat) (x : Int32) : Int32 := if rowB n x then nI (prv n g 16 (tn x) []).length else -1
def s_prove (n g : Nat) (x : Int32) (l : List (Int32 × Int32)) : List (Int32 × Int32) := if rowB n x then prv n g 16 (tn x) [] else l
theorem mSL_push {L : List Int32} {l : List (Int32 × Int32)} {a b : Int32} (h : mSL L l) (hl : l.length < 15) : mSL ((L.set (2 * l.length + 1) b).set (2 * l.length) a) (l ++ [(a, b)]) := by
  obtain ⟨h1, h2, h3⟩ := h
  refine ⟨by rw [List.length_set, List.length_set, h1], by rw [List.length_append, List.length_singleton]; omega, ?_⟩
  intro i p hp
  by_cases e : i = l.length
  · subst e
    rw [List.getElem?_append_right (Nat.le_refl _), Nat.sub_self] at hp
    cases hp
    exact ⟨List.getElem?_set_self (by rw [List.length_set]; omega), by rw [List.getElem?_set_ne (by omega)]; exact List.getElem?_set_self (by omega)⟩
  · have hi : i < l.length := by
      have := (List.getElem?_eq_some_iff.mp hp).1
      rw [List.length_append, List.length_singleton] at this
      omega
    rw [List.getElem?_append_left hi] at hp
    rw [List.getElem?_set_ne (by omega), List.getElem?_set_ne (by omega), List.getElem?_set_ne (by omega), List.getElem?_set_ne (by omega)]
    exact h3 i p hp
theorem mSL_nil {L : List Int32} {l : List (Int32 × Int32)} (h : mSL L l) : mSL L [] := ⟨h.1, Nat.zero_le _, fun i p hp => by cases hp⟩
/-- a step of a stair is right -/
def rgB (n g r : Nat) (s : Int32 × Int32) : Nat → Nat → Bool
  | 0, _ => false
  | k + 1, p => if isD n r p ∧ nI (sw n r p) = s.1 ∧ nI (aa n r p) = s.2 ∧ g.testBit (aa n r p) = true then true else rgB n g r s k (p + 1)
theorem rgB_t {n g r : Nat} {s : Int32 × Int32} : ∀ (k p : Nat), rgB n g r s k p = true → ∃ q, q < p + k ∧ nI (sw n r q) = s.1 := by
  intro k
  induction k with
  | zero => intro p h; cases h
  | succ k ih =>
    intro p h
    unfold rgB at h
    split at h
    · rename_i hc; exact ⟨p, by omega, hc.2.1⟩
    · obtain ⟨q, hq, h2⟩ := ih (p + 1) h; exact ⟨q, by omega, h2⟩
def jdg (n g : Nat) (l : List (Int32 × Int32)) : Nat → Nat → Nat → Int32
  | 0, _, _ => 0
  | k + 1, i, r => if rgB n g r (stAt l i) (n - 1) 0 then jdg n g l k (i + 1) (tn (stAt l i).1) else nI (i + 1)
def o_judge (n g : Nat) (l : List (Int32 × Int32)) (x : Int32) : Int32 := if rowB n x then jdg n g l l.length 0 (tn x) else -1
theorem plI_neg {n q g : Nat} {t : Bool} (hn : n < 7) (h : plI (pin n q t g (n - 1) 0) < 0) : pin n q t g (n - 1) 0 = none := by
  cases e : pin n q t g (n - 1) 0 with
  | none => rfl
  | some p =>
    obtain ⟨-, h2, -, -⟩ := pin_some _ _ _ e
    rw [e] at h; exact absurd h (nI_pos (by omega))
theorem prv_none {n g k q : Nat} {l : List (Int32 × Int32)} (h : pin n q true g (n - 1) 0 = none) : prv n g (k + 1) q l = l := by
  show (match pin n q true g (n - 1) 0 with | none => l | some p => _) = l
  rw [h]
theorem prv_some {n g k q p : Nat} {l : List (Int32 × Int32)} (h : pin n q true g (n - 1) 0 = some p) : prv n g (k + 1) q l = prv n g k (sw n q p) (l ++ [(nI (sw n q p), nI (aa n q p))]) := by
  show (match pin n q true g (n - 1) 0 with | none => l | some p => prv n g k (sw n q p) (l ++ [(nI (sw n q p), nI (aa n q p))])) = _
  rw [h]
