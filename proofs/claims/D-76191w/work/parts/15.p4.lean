/-! ===== sets of pairs, drops, places ===== -/
set_option maxRecDepth 100000
theorem c_subI {a b : Nat} (ha : a < 2 ^ 32) : nI a &&& (nI b ^^^ (-1)) = 0 ↔ a &&& b = a := by
  rw [← Int32.toBitVec_inj]
  show BitVec.ofNat 32 a &&& (BitVec.ofNat 32 b ^^^ BitVec.allOnes 32) = 0#32 ↔ _
  have key : ∀ i, i < 32 → (BitVec.ofNat 32 a &&& (BitVec.ofNat 32 b ^^^ BitVec.allOnes 32)).getLsbD i = (a.testBit i && !b.testBit i) := by
    intro i hi
    rw [BitVec.getLsbD_and, BitVec.getLsbD_xor, BitVec.getLsbD_allOnes, BitVec.getLsbD_ofNat, BitVec.getLsbD_ofNat, decide_eq_true hi]
    simp
  constructor
  · intro h
    apply Nat.eq_of_testBit_eq
    intro i
    rw [Nat.testBit_and]
    by_cases hi : i < 32
    · have h1 := key i hi
      rw [h, BitVec.getLsbD_zero] at h1
      revert h1
      cases a.testBit i <;> cases b.testBit i <;> decide
    · rw [Nat.testBit_lt_two_pow (Nat.lt_of_lt_of_le ha (Nat.pow_le_pow_right (by decide) (by omega))), Bool.false_and]
  · intro h
    apply BitVec.eq_of_getLsbD_eq
    intro i hi
    have h1 := congrArg (fun x => Nat.testBit x i) h
    simp only [Nat.testBit_and] at h1
    rw [key i hi, BitVec.getLsbD_zero]
    revert h1
    cases a.testBit i <;> cases b.testBit i <;> decide
def subB (n r r2 : Nat) : Bool := inv n r &&& inv n r2 == inv n r
theorem f_inv : ∀ n, n < 7 → ∀ r ∈ rws n, inv n r < 2 ^ 15 := by decide +kernel
theorem inv_lt {n : Nat} (hn : n < 7) {r : Nat} (hr : r ∈ rws n) : inv n r < 2 ^ 15 := f_inv n hn r hr
theorem c_way {a b w : Nat} (ha : a < 2 ^ 31) (hb : b < 2 ^ 31) : (if nI a ≤ nI b then (0 : Int32) else nI w) = nI (if b < a then w else 0) := by
  rw [c_le ha hb]
  by_cases h : a ≤ b
  · rw [if_pos h, if_neg (by omega)]; rfl
  · rw [if_neg h, if_pos (by omega)]
def drp (n r : Nat) : Nat := lpN (fun p s => s ||| (if dgt n r (p + 1) < dgt n r p then 2 ^ p else 0)) 0 (n - 1) 0
theorem c_shl : ∀ p, p < 31 → (1 : Int32) <<< (nI p &&& 31) = nI (2 ^ p) := by decide +kernel
theorem c_drp {t : Bool} {p : Nat} (hp : p < 31) : (if b1 t = 0 then (0 : Int32) else 1 <<< (nI p &&& 31)) = nI (if t then 2 ^ p else 0) := by
  rw [b1_if, c_shl p hp]; cases t <;> rfl
/-- the digits from p down, behind v -/
def trn (n r : Nat) : Nat → Nat → Nat
  | 0, v => v
  | p + 1, v => trn n r p (10 * v + dgt n r p)
/-- the place of v from p on -/
def plc (n r v : Nat) : Nat → Nat → Nat
  | 0, p => p
  | k + 1, p => if dgt n r p = v then p else plc n r v k (p + 1)
theorem f_plc : ∀ n, n < 7 → ∀ r ∈ rws n, ∀ v, v < n → plc n r (v + 1) n 0 < n ∧ dgt n r (plc n r (v + 1) n 0) = v + 1 := by decide +kernel
theorem plc_ge (n r v : Nat) : ∀ k p, p ≤ plc n r v k p := by
  intro k
  induction k with
  | zero => intro p; exact Nat.le_refl _
  | succ k ih =>
    intro p
    unfold plc
    split
    · exact Nat.le_refl _
    · exact Nat.le_trans (Nat.le_succ p) (ih (p + 1))
def inB (a b c : Int64) : Bool := !decide (a < b) && !decide (c < a)
theorem c_in (a b c : Int64) : (if lg_cmp a b < 0 then (0 : Int32) else if 0 < lg_cmp a c then 0 else 1) = b1 (inB a b c) := by
  unfold inB
  by_cases h1 : a < b
  · rw [if_pos ((lg_cmp_lt a b).mpr h1), decide_eq_true h1]; rfl
  · rw [if_neg (fun q => h1 ((lg_cmp_lt a b).mp q)), decide_eq_false h1]
    by_cases h2 : c < a
    · rw [if_pos ((lg_cmp_gt a c).mpr h2), decide_eq_true h2]; rfl
    · rw [if_neg (fun q => h2 ((lg_cmp_gt a c).mp q)), decide_eq_false h2]; rfl
