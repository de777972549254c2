/-! ===== rows by their ranks ===== -/
set_option maxRecDepth 100000
def fz {α : Type} (x : Nat) (f : Nat → α) : α := match x with
  | 0 => f 0
  | k + 1 => f (k + 1)
theorem fz_eq {α : Type} (x : Nat) (f : Nat → α) : fz x f = f x := by cases x <;> rfl
def rbDig : Nat → Nat → Nat → Nat → Nat
  | 0, _, _, d => d
  | f + 1, u, b, d => if u.testBit d || decide (0 < b) then rbDig f u (if u.testBit d then b else b - 1) (d + 1) else d
def rbEnd : Nat → Nat → Nat → Nat → Bool
  | 0, _, _, _ => false
  | f + 1, u, b, d => if u.testBit d || decide (0 < b) then rbEnd f u (if u.testBit d then b else b - 1) (d + 1) else true
def zu (z : Nat) : Nat := z / 1000000000
def zr (z : Nat) : Nat := z / 1000000 % 1000
def zw (z : Nat) : Nat := z % 1000000
def rbD (n p z : Nat) : Nat := rbDig 8 (zu z) (zr z / wy (n - 1 - p)) 1
def rbStep (n p z : Nat) : Nat := fz (rbD n p z) (fun d => (((zu z ||| 2 ^ d) * 1000 + zr z % wy (n - 1 - p)) * 1000000) + (10 * zw z + d))
def rbZ (n i : Nat) : Nat → Nat
  | 0 => i * 1000000
  | p + 1 => fz (rbZ n i p) (fun z => rbStep n p z)
def rbOk (n p z z' : Nat) : Prop := rbEnd 8 (zu z) (zr z / wy (n - 1 - p)) 1 = true ∧ zu z < 128 ∧ rbD n p z < 8 ∧ zu z' = zu z ||| 2 ^ rbD n p z ∧ zr z' = zr z % wy (n - 1 - p) ∧ zw z' = 10 * zw z + rbD n p z
theorem f_rbOk : ∀ n, n < 7 → ∀ i, i < wy n → ∀ p, p < n → rbOk n p (rbZ n i p) (rbZ n i (p + 1)) := by unfold rbOk; decide +kernel
theorem f_rb : ∀ n, n < 7 → 1 ≤ n → ∀ i, i < wy n → (rws n)[i]? = some (zw (rbZ n i n)) ∧ zr (rbZ n i 0) = i ∧ zu (rbZ n i 0) = 0 ∧ zw (rbZ n i 0) = 0 := by decide +kernel
theorem wy_in : ∀ k, k < 7 → 0 < wy k ∧ wy k < 1000 := by decide
/-- the row as which i are less -/
def rb (n i : Nat) : Nat := zw (rbZ n i n)
theorem rb_mem {n i : Nat} (hn : n < 7) (h1 : 1 ≤ n) (hi : i < wy n) : rb n i ∈ rws n := List.mem_of_getElem? (f_rb n hn h1 i hi).1
theorem zr_lt (z : Nat) : zr z < 1000 := Nat.mod_lt _ (by decide)
theorem zw_lt (z : Nat) : zw z < 1000000 := Nat.mod_lt _ (by decide)
theorem c_shl7 : ∀ d, d < 8 → (1 : Int32) <<< (nI d &&& 31) = nI (2 ^ d) := by decide +kernel
