/-! ===== the class: what is gone, rows that go ===== -/
set_option maxRecDepth 100000
theorem or_0 {a b : Nat} : a ||| b = 0 ↔ a = 0 ∧ b = 0 := by
  constructor
  · intro h
    have h1 : a ≤ a ||| b := Nat.left_le_or
    have h2 : b ≤ a ||| b := Nat.right_le_or
    omega
  · rintro ⟨rfl, rfl⟩; rfl
theorem pin_none {n R S : Nat} {t : Bool} : ∀ (k p : Nat), pin n R t S k p = none ↔ ∀ q, p ≤ q → q < p + k → ¬ (isD n R q = t ∧ S.testBit (aa n R q) = true) := by
  intro k
  induction k with
  | zero => intro p; exact ⟨fun _ q h1 h2 => by omega, fun _ => rfl⟩
  | succ k ih =>
    intro p
    unfold pin
    by_cases c : (isD n R p == t && S.testBit (aa n R p)) = true
    · rw [if_pos c]
      rw [Bool.and_eq_true, beq_iff_eq] at c
      exact ⟨fun h => (by cases h), fun h => absurd c (h p (Nat.le_refl _) (by omega))⟩
    · rw [if_neg c, ih]
      rw [Bool.and_eq_true, beq_iff_eq] at c
      constructor
      · intro h q h1 h2
        by_cases e : q = p
        · subst e; exact c
        · exact h q (by omega) (by omega)
      · intro h q h1 h2; exact h q (by omega) (by omega)
theorem lp_or0 (f : Nat → Nat) (g : Nat) : ∀ (m a s : Nat), lpN (fun p s => s ||| f p) a m s &&& g = 0 ↔ s &&& g = 0 ∧ ∀ q, a ≤ q → q < a + m → f q &&& g = 0 := by
  intro m
  induction m with
  | zero => intro a s; exact ⟨fun h => ⟨h, fun q h1 h2 => by omega⟩, fun h => h.1⟩
  | succ m ih =>
    intro a s
    rw [lpN_s, ih, Nat.and_or_distrib_right, or_0]
    constructor
    · rintro ⟨⟨h1, h2⟩, h3⟩
      refine ⟨h1, fun q h4 h5 => ?_⟩
      by_cases e : q = a
      · subst e; exact h2
      · exact h3 q (by omega) (by omega)
    · rintro ⟨h1, h2⟩
      exact ⟨⟨h1, h2 a (Nat.le_refl _) (by omega)⟩, fun q h4 h5 => h2 q (by omega) (by omega)⟩
theorem lst_dgm {n R g : Nat} : lst n g R = decide (dgm n R &&& g = 0) := by
  unfold lst
  have h1 := pin_none (n := n) (R := R) (S := g) (t := true) (n - 1) 0
  have h2 := lp_or0 (fun p => if dgt n R (p + 1) < dgt n R p then 2 ^ aa n R p else 0) g (n - 1) 0 0
  have h3 : pin n R true g (n - 1) 0 = none ↔ dgm n R &&& g = 0 := by
    rw [h1]
    refine Iff.trans ?_ h2.symm
    constructor
    · intro h
      refine ⟨Nat.zero_and _, fun q q1 q2 => ?_⟩
      have := h q q1 q2
      by_cases c : dgt n R (q + 1) < dgt n R q
      · rw [if_pos c, Nat.and_comm, and_pow0]
        cases hb : g.testBit (aa n R q) with
        | false => rfl
        | true => exact absurd ⟨decide_eq_true c, hb⟩ this
      · rw [if_neg c, Nat.zero_and]
    · rintro ⟨-, h⟩ q q1 q2 ⟨c1, c2⟩
      have := h q q1 q2
      rw [if_pos (of_decide_eq_true c1), Nat.and_comm, and_pow0, c2] at this
      cases this
  cases hp : pin n R true g (n - 1) 0 with
  | none => rw [decide_eq_true (h3.mp hp)]; rfl
  | some p =>
    rw [decide_eq_false (fun q => by rw [h3.mpr q] at hp; cases hp)]; rfl
theorem l_gt0 (t : Bool) : lg_cmp (if t then (1 : Int64) else 0) 0 = b1 t := by cases t <;> decide
theorem b1_le (t : Bool) {α : Type} (x y : α) : (if b1 t ≤ 0 then x else y) = if t then y else x := by cases t <;> rfl
theorem b1_eqI {s t : Bool} : b1 s = b1 t ↔ s = t := by cases s <;> cases t <;> decide
theorem pin_st {n R S p : Nat} {t : Bool} (hp : p < n - 1) (h : ¬ (isD n R p = t ∧ S.testBit (aa n R p) = true)) : pin n R t S (n - 1 - p) p = pin n R t S (n - 1 - (p + 1)) (p + 1) := by
  rw [show n - 1 - p = n - 1 - (p + 1) + 1 by omega]
  show (if isD n R p == t && S.testBit (aa n R p) then some p else _) = _
  rw [if_neg (by rw [Bool.and_eq_true, beq_iff_eq]; exact h)]
theorem pin_hit {n R S p : Nat} {t : Bool} (hp : p < n - 1) (h : isD n R p = t ∧ S.testBit (aa n R p) = true) : pin n R t S (n - 1 - p) p = some p := by
  rw [show n - 1 - p = n - 1 - (p + 1) + 1 by omega]
  show (if isD n R p == t && S.testBit (aa n R p) then some p else _) = _
  rw [if_pos (by rw [Bool.and_eq_true, beq_iff_eq]; exact h)]
theorem pin_out {n R S p : Nat} {t : Bool} (hp : n - 1 ≤ p) : pin n R t S (n - 1 - p) p = none := by
  rw [show n - 1 - p = 0 by omega]; rfl
