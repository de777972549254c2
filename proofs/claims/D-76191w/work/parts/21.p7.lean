/-! ===== arcs ===== -/
set_option maxRecDepth 100000
/-- all arcs of n numbers: 1000 * low + 100 * high + left -/
def arcT : Nat → List Nat
  | 2 => [1200]
  | 3 => [1200, 1300, 1301, 2300]
  | 4 => [1200, 1300, 1301, 1400, 1401, 1402, 1403, 2300, 2400, 2401, 3400]
  | 5 => [1200, 1300, 1301, 1400, 1401, 1402, 1403, 1500, 1501, 1502, 1503, 1504, 1505, 1506, 1507, 2300, 2400, 2401, 2500, 2501, 2502, 2503, 3400, 3500, 3501, 4500]
  | 6 => [1200, 1300, 1301, 1400, 1401, 1402, 1403, 1500, 1501, 1502, 1503, 1504, 1505, 1506, 1507, 1600, 1601, 1602, 1603, 1604, 1605, 1606, 1607, 1608, 1609, 1610, 1611, 1612, 1613, 1614, 1615, 2300, 2400, 2401, 2500, 2501, 2502, 2503, 2600, 2601, 2602, 2603, 2604, 2605, 2606, 2607, 3400, 3500, 3501, 3600, 3601, 3602, 3603, 4500, 4600, 4601, 5600]
  | _ => []
def na (n : Nat) : Nat := 2 ^ n - 1 - n
def aL (n k : Nat) : Nat := (arcT n).getD k 0 / 1000
def aH (n k : Nat) : Nat := (arcT n).getD k 0 / 100 % 10
def aF (n k : Nat) : Nat := (arcT n).getD k 0 % 100
theorem f_na : ∀ n, n < 7 → (arcT n).length = na n := by decide +kernel
theorem na_lt : ∀ n, n < 7 → na n ≤ 57 := by decide +kernel
theorem f_ac : ∀ n, n < 7 → ∀ k, k < na n → 1 ≤ aL n k ∧ aL n k < aH n k ∧ aH n k ≤ n ∧ aF n k < 2 ^ (aH n k - aL n k - 1) ∧ aF n k < 16 := by decide +kernel
def lft (n x c : Nat) : Bool := (aF n x).testBit (c - aL n x - 1)
def frL (n x y : Nat) : Nat → Nat → Bool → Bool
  | 0, _, is => is
  | k + 1, c, is => if is then frL n x y k (c + 1) (lft n x c == lft n y c) else is
def frcB (n x y : Nat) : Bool := frL n x y (aH n x - (aL n x + 1)) (aL n x + 1) (decide (aL n y ≤ aL n x) && decide (aH n x ≤ aH n y))
/-- what an arc forces, as a set -/
def fo (n x : Nat) : Nat := lpN (fun y s => s ||| (if frcB n x y then 2 ^ y else 0)) 0 (na n) 0
def amn (u v : Nat) : Nat := if v ≤ u then v else u
def amx (u v : Nat) : Nat := if v ≤ u then u else v
def abt (a b d : Nat) : Nat := if d ≤ a then 0 else if b ≤ d then 0 else 2 ^ (d - a - 1)
def alf (n r p : Nat) : Nat := lpN (fun q s => s ||| abt (amn (dgt n r p) (dgt n r (p + 1))) (amx (dgt n r p) (dgt n r (p + 1))) (dgt n r q)) 0 p 0
def fdA (n a b l : Nat) : Nat → Nat → Nat
  | 0, i => i
  | k + 1, i => if aL n i = a ∧ aH n i = b ∧ aF n i = l then i else fdA n a b l k (i + 1)
/-- the arc at a place of a row -/
def aa (n r p : Nat) : Nat := fdA n (amn (dgt n r p) (dgt n r (p + 1))) (amx (dgt n r p) (dgt n r (p + 1))) (alf n r p) (na n) 0
theorem f_aa : ∀ n, n < 7 → ∀ r ∈ rws n, ∀ p, p < n - 1 → aa n r p < na n ∧ alf n r p < 16 := by decide +kernel
theorem fdA_ge (n a b l : Nat) : ∀ k i, i ≤ fdA n a b l k i := by
  intro k
  induction k with
  | zero => intro p; exact Nat.le_refl _
  | succ k ih =>
    intro p
    unfold fdA
    split
    · exact Nat.le_refl _
    · exact Nat.le_trans (Nat.le_succ p) (ih (p + 1))
theorem c_abt : ∀ a, a < 7 → ∀ b, b < 7 → ∀ d, d < 7 → (if nI d ≤ nI a then (0 : Int32) else if nI b ≤ nI d then 0 else 1 <<< ((nI d - nI a - 1) &&& 31)) = nI (abt a b d) := by decide +kernel
def dgm (n r : Nat) : Nat := lpN (fun p s => s ||| (if dgt n r (p + 1) < dgt n r p then 2 ^ aa n r p else 0)) 0 (n - 1) 0
/-- a set of arcs with all that they force -/
def clo (n S : Nat) : Nat := lpN (fun x s => s ||| (if S.testBit x then fo n x else 0)) 0 (na n) 0
/-- all that force an arc -/
def fcr (n a : Nat) : Nat := lpN (fun x s => s ||| (if (fo n x).testBit a then 2 ^ x else 0)) 0 (na n) 0
theorem lp_or_lt2 {k N : Nat} (f : Nat → Nat) (hf : ∀ p, p < N → f p < 2 ^ k) : ∀ (m a s : Nat), a + m ≤ N → s < 2 ^ k → lpN (fun p s => s ||| f p) a m s < 2 ^ k := by
  intro m
  induction m with
  | zero => intro a s _ h; exact h
  | succ m ih => intro a s h1 h; exact ih (a + 1) _ (by omega) (Nat.or_lt_two_pow h (hf a (by omega)))
theorem if_lt_pow {c : Prop} [Decidable c] {j k : Nat} (h : j < k) : (if c then 2 ^ j else 0) < 2 ^ k := by
  split
  · exact Nat.pow_lt_pow_right (by decide) h
  · exact Nat.two_pow_pos k
theorem fo_lt {n : Nat} (hn : n < 7) (x : Nat) : fo n x < 2 ^ 57 := lp_or_lt2 (N := na n) _ (fun p hp => if_lt_pow (by have := na_lt n hn; omega)) (na n) 0 0 (by omega) (by decide)
theorem dgm_lt {n : Nat} (hn : n < 7) {r : Nat} (hr : r ∈ rws n) : dgm n r < 2 ^ 57 := lp_or_lt2 (N := n - 1) _ (fun p hp => if_lt_pow (by have := na_lt n hn; have := (f_aa n hn r hr p hp).1; omega)) (n - 1) 0 0 (by omega) (by decide)
theorem clo_lt {n : Nat} (hn : n < 7) (S : Nat) : clo n S < 2 ^ 57 := lp_or_lt2 (N := na n) _ (fun p hp => by split; exact fo_lt hn p; decide) (na n) 0 0 (by omega) (by decide)
theorem fcr_lt {n : Nat} (hn : n < 7) (a : Nat) : fcr n a < 2 ^ 57 := lp_or_lt2 (N := na n) _ (fun p hp => if_lt_pow (by have := na_lt n hn; omega)) (na n) 0 0 (by omega) (by decide)
theorem c_selL {t : Bool} {m : Nat} : (if b1 t = 0 then (0 : Int64) else lN m) = lN (if t then m else 0) := by rw [b1_if]; cases t <;> rfl
theorem l_one_shl {k : Nat} (hk : k < 64) : (1 : Int64) <<< ((nI k).toInt64 &&& 63) = lN (2 ^ k) := by
  have h := wb_shl 1 hk
  rw [Nat.one_mul] at h
  exact h
