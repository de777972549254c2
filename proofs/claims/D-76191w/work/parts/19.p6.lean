/-! ===== meet and join by search ===== -/
set_option maxRecDepth 100000
def mtF (n B : Nat) : Nat → Nat × Nat → Nat × Nat := fun i s => if inv n (rb n i) &&& B = inv n (rb n i) ∧ s.2 < pc64 (inv n (rb n i)) + 1 then (rb n i, pc64 (inv n (rb n i)) + 1) else s
def mtS (n B : Nat) : Nat := (lpN (mtF n B) 0 (wy n) (0, 0)).1
def jnF (n B : Nat) : Nat → Nat × Nat → Nat × Nat := fun i s => if B &&& inv n (rb n i) = B ∧ pc64 (inv n (rb n i)) < s.2 then (rb n i, pc64 (inv n (rb n i))) else s
def jnS (n B : Nat) : Nat := (lpN (jnF n B) 0 (wy n) (0, 99)).1
theorem c_most {a m : Nat} (ha : a < 2 ^ 30) (hm : m < 2 ^ 30) : nI a ≤ nI m - 1 ↔ a + 1 ≤ m := by
  rw [Int32.le_iff_toInt_le, nI_toInt (by omega), show nI m - 1 = nI m - nI 1 from rfl, pk_sub_toInt hm (by decide)]
  omega
theorem pc64_le (m : Nat) : pc64 m ≤ 64 := by
  have h : ∀ k a c, lpN (fun k c => c + (if m.testBit k then 1 else 0)) a k c ≤ c + k := by
    intro k
    induction k with
    | zero => intro a c; exact Nat.le_refl _
    | succ k ih =>
      intro a c
      refine Nat.le_trans (ih (a + 1) _) ?_
      show c + (if m.testBit a = true then 1 else 0) + k ≤ c + (k + 1)
      split <;> omega
  exact Nat.le_trans (h 64 0 0) (by decide)
theorem wayN {n : Nat} (h : n ≤ 6) : wy n < 2 ^ 31 := Nat.lt_trans (wy_in n (by omega)).2 (by decide)
