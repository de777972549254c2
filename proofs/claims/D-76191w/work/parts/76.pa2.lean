/-! ===== the class: pairs as bits, arcs of rows ===== -/
set_option maxRecDepth 100000
def pr (lo hi : Nat) : Nat := 6 * (lo - 1) + hi - 1
theorem c_pr : ∀ lo, lo < 7 → ∀ hi, hi < 7 → 1 ≤ lo → 1 ≤ hi → (6 : Int32) * (nI lo - 1) + nI hi - 1 = nI (pr lo hi) ∧ pr lo hi < 36 := by decide +kernel
/-- pairs that are swapped, six bits a number -/
def iv6 (n R : Nat) : Nat := lpN (fun p s => lpN (fun q s => s ||| (if dgt n R p ≤ dgt n R q then 0 else 2 ^ pr (dgt n R q) (dgt n R p))) (p + 1) (n - (p + 1)) s) 0 n 0
theorem f_iv6 : ∀ n, n < 7 → ∀ R ∈ rws n, Nat.blt (iv6 n R) (2 ^ 36) = true := by decide +kernel
theorem iv6_lt {n R : Nat} (hn : n < 7) (hr : R ∈ rws n) : iv6 n R < 2 ^ 36 := Nat.lt_of_succ_le (Nat.le_of_ble_eq_true (f_iv6 n hn R hr))
def sub6 (n r s : Nat) : Bool := iv6 n r &&& iv6 n s == iv6 n r
theorem andn_0 {a b : Nat} (ha : a < 2 ^ 64) : andn a b = 0 ↔ a &&& b = a := by
  unfold andn
  constructor
  · intro h
    apply Nat.eq_of_testBit_eq
    intro i
    rw [Nat.testBit_and]
    have h1 := congrArg (fun x => Nat.testBit x i) h
    simp only [Nat.testBit_and, Nat.testBit_xor, Nat.zero_testBit, Nat.testBit_two_pow_sub_one] at h1
    by_cases hi : i < 64
    · rw [decide_eq_true hi] at h1
      revert h1
      cases a.testBit i <;> cases b.testBit i <;> decide
    · rw [Nat.testBit_lt_two_pow (Nat.lt_of_lt_of_le ha (Nat.pow_le_pow_right (by decide) (by omega))), Bool.false_and]
  · intro h
    apply Nat.eq_of_testBit_eq
    intro i
    have h1 := congrArg (fun x => Nat.testBit x i) h
    simp only [Nat.testBit_and] at h1
    rw [Nat.testBit_and, Nat.testBit_xor, Nat.zero_testBit, Nat.testBit_two_pow_sub_one]
    by_cases hi : i < 64
    · rw [decide_eq_true hi]
      revert h1
      cases a.testBit i <;> cases b.testBit i <;> decide
    · rw [Nat.testBit_lt_two_pow (Nat.lt_of_lt_of_le ha (Nat.pow_le_pow_right (by decide) (by omega))), Bool.false_and]
theorem c_min {u v : Nat} (hu : u < 2 ^ 31) (hv : v < 2 ^ 31) : (if nI v < nI u then nI v else nI u) = nI (amn u v) := by
  unfold amn
  rw [c_lt hv hu]
  by_cases h : v < u
  · rw [if_pos h, if_pos (by omega)]
  · rw [if_neg h]
    by_cases h2 : v ≤ u
    · rw [if_pos h2, show v = u by omega]
    · rw [if_neg h2]
theorem c_max {u v : Nat} (hu : u < 2 ^ 31) (hv : v < 2 ^ 31) : (if nI u < nI v then nI v else nI u) = nI (amx u v) := by
  unfold amx
  rw [c_lt hu hv]
  by_cases h : u < v
  · rw [if_pos h, if_neg (by omega)]
  · rw [if_neg h, if_pos (by omega)]
def aafC (n R : Nat) : Bool := (List.range (n - 1)).all fun p => Nat.beq (fsA n (amn (dgt n R p) (dgt n R (p + 1))) (amx (dgt n R p) (dgt n R (p + 1))) + alf n R p) (aa n R p)
theorem f_aafC : ∀ n, n < 7 → ∀ R ∈ rws n, aafC n R = true := by decide +kernel
theorem f_aaf {n R p : Nat} (hn : n < 7) (hr : R ∈ rws n) (hp : p < n - 1) : fsA n (amn (dgt n R p) (dgt n R (p + 1))) (amx (dgt n R p) (dgt n R (p + 1))) + alf n R p = aa n R p :=
  Nat.eq_of_beq_eq_true (List.all_eq_true.mp (f_aafC n hn R hr) p (List.mem_range.mpr hp))
theorem rwL_cp {n R : Nat} {L0 L : List Int32} (h : rwL n R L0) (hl : n ≤ L.length) : rwL n R (cpL L0 L 0 0 n) := by
  intro p hp
  rw [cpL_at (by omega), if_pos ⟨Nat.zero_le _, by omega⟩, show 0 + (p - 0) = p by omega, x_getD (h p hp)]
theorem c_fit8 : ∀ d, d < 10 → fits .byte (.int (nI d)) = true := by decide +kernel
