/-! ===== which numbers are rows ===== -/
set_option maxRecDepth 100000
theorem lp_or_lt {k : Nat} (f : Nat → Nat) (hf : ∀ p, f p < 2 ^ k) : ∀ (m a s : Nat), s < 2 ^ k → lpN (fun p s => s ||| f p) a m s < 2 ^ k := by
  intro m
  induction m with
  | zero => intro a s h; exact h
  | succ m ih => intro a s h; exact ih (a + 1) _ (Nat.or_lt_two_pow h (hf a))
def mbit (n d : Nat) : Nat := if d < 1 then 0 else if n < d then 0 else 2 ^ (d - 1)
def mask (n R : Nat) : Nat := lpN (fun p s => s ||| mbit n (dgt n R p)) 0 n 0
theorem mbit_lt {n : Nat} (hn : n ≤ 6) (d : Nat) : mbit n d < 2 ^ 6 := by
  unfold mbit
  split
  · decide
  · split
    · decide
    · exact Nat.pow_lt_pow_right (by decide) (by omega)
theorem mask_lt {n : Nat} (hn : n ≤ 6) (R : Nat) : mask n R < 2 ^ 6 := lp_or_lt (fun p => mbit n (dgt n R p)) (fun p => mbit_lt hn _) n 0 0 (by decide)
def rowB (n : Nat) (x : Int32) : Bool := !decide (x < 0) && (decide (x < nI (10 ^ n)) && (mask n x.toNatClampNeg == 2 ^ n - 1))
theorem rowB_neg {n : Nat} {x : Int32} (h : x < 0) : rowB n x = false := by simp [rowB, h]
theorem rowB_big {n : Nat} {x : Int32} (h : ¬ x < nI (10 ^ n)) : rowB n x = false := by simp [rowB, h]
theorem rowB_in {n R : Nat} (hR : R < 2 ^ 31) (h : nI R < nI (10 ^ n)) : rowB n (nI R) = (mask n R == 2 ^ n - 1) := by simp [rowB, h, nI_pos hR, nI_clamp hR]
theorem dgt_lt (n R p : Nat) : dgt n R p < 10 := Nat.mod_lt _ (by decide)
theorem c_mask : ∀ n, n < 7 → ∀ d, d < 10 → (if nI d < 1 then (0 : Int32) else if nI n < nI d then 0 else 1 <<< ((nI d - 1) &&& 31)) = nI (mbit n d) := by decide +kernel
theorem c_full : ∀ n, n < 7 → (1 : Int32) <<< (nI n &&& 31) - 1 = nI (2 ^ n - 1) := by decide +kernel
theorem c_eq {a b : Nat} (ha : a < 2 ^ 31) (hb : b < 2 ^ 31) : (if nI a = nI b then (1 : Int32) else 0) = b1 (a == b) := by
  by_cases h : a = b
  · subst h; simp [b1]
  · rw [if_neg (fun q => h ((nI_eq ha hb).mp q)), show (a == b) = false by simpa using h]; rfl
theorem c_le {a b : Nat} (ha : a < 2 ^ 31) (hb : b < 2 ^ 31) {α : Type} (x y : α) : (if nI a ≤ nI b then x else y) = if a ≤ b then x else y := by
  by_cases h : a ≤ b
  · rw [if_pos h, if_pos (nI_le h hb)]
  · rw [if_neg h, if_neg (nI_ge (by omega) ha)]
theorem c_lt {a b : Nat} (ha : a < 2 ^ 31) (hb : b < 2 ^ 31) {α : Type} (x y : α) : (if nI a < nI b then x else y) = if a < b then x else y := by
  by_cases h : a < b
  · rw [if_pos h, if_pos (nI_lt h hb)]
  · rw [if_neg h, if_neg (nI_nlt (by omega) ha)]
theorem b1_if (t : Bool) {α : Type} (x y : α) : (if b1 t = 0 then x else y) = if t then y else x := by cases t <;> rfl
theorem b1_of {c : Prop} [Decidable c] : (if c then (1 : Int32) else 0) = b1 (decide c) := by
  by_cases h : c
  · rw [if_pos h, decide_eq_true h]; rfl
  · rw [if_neg h, decide_eq_false h]; rfl
theorem b1_nof {c : Prop} [Decidable c] : (if c then (0 : Int32) else 1) = b1 (!decide c) := by
  by_cases h : c
  · rw [if_pos h, decide_eq_true h]; rfl
  · rw [if_neg h, decide_eq_false h]; rfl
theorem b1_and (s t : Bool) : (if b1 s = 0 then (0 : Int32) else if b1 t = 0 then 0 else 1) = b1 (s && t) := by cases s <;> cases t <;> rfl
theorem b1_nar (t : Bool) : narrow .boolean (.int (b1 t)) = .int (b1 t) := by cases t <;> rfl
theorem b1_01 {c : Prop} [Decidable c] : narrow .boolean (.int (if c then (1 : Int32) else 0)) = .int (if c then (1 : Int32) else 0) := by split <;> rfl
theorem b1_10 {c : Prop} [Decidable c] : narrow .boolean (.int (if c then (0 : Int32) else 1)) = .int (if c then (0 : Int32) else 1) := by split <;> rfl
theorem R31 {n R : Nat} (hn : n < 7) (hr : R ∈ rws n) : R < 2 ^ 31 := by
  have h := f_tl n hn R hr
  have h2 : 10 ^ n ≤ 10 ^ 6 := Nat.pow_le_pow_right (by decide) (by omega)
  omega
