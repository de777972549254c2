/-! ===== what the public questions answer, on (2) ===== -/
set_option maxRecDepth 100000
theorem mtS_mem {n B : Nat} (hn : n < 7) (h1 : 1 ≤ n) : mtS n B ∈ rws n := by
  have key : ∀ (k i : Nat) (s : Nat × Nat), i + k ≤ wy n → s.1 ∈ rws n → (lpN (mtF n B) i k s).1 ∈ rws n := by
    intro k
    induction k with
    | zero => intro i s _ h; exact h
    | succ k ih =>
      intro i s hi h
      refine ih (i + 1) _ (by omega) ?_
      unfold mtF
      split
      · exact rb_mem hn h1 (by omega)
      · exact h
  have hw : 0 < wy n := (wy_in n hn).1
  have e : mtS n B = (lpN (mtF n B) 1 (wy n - 1) (mtF n B 0 (0, 0))).1 := by
    unfold mtS
    have := lp_step (mtF n B) hw (0, 0)
    rw [Nat.sub_zero] at this
    rw [this]
  rw [e]
  refine key _ _ _ (by omega) ?_
  unfold mtF
  rw [if_pos ⟨by rw [f_id0 n hn h1]; exact Nat.zero_and _, Nat.succ_pos _⟩]
  exact rb_mem hn h1 hw
theorem jnS_mem {n B : Nat} (hn : n < 7) (h1 : 1 ≤ n) (hB : B &&& inv n (rb n (wy n - 1)) = B) : jnS n B ∈ rws n := by
  have key : ∀ (k i : Nat) (s : Nat × Nat), i + k ≤ wy n → (s.1 ∈ rws n ∨ s = (0, 99)) → ((lpN (jnF n B) i k s).1 ∈ rws n ∨ lpN (jnF n B) i k s = (0, 99)) := by
    intro k
    induction k with
    | zero => intro i s _ h; exact h
    | succ k ih =>
      intro i s hi h
      refine ih (i + 1) _ (by omega) ?_
      unfold jnF
      split
      · exact Or.inl (rb_mem hn h1 (by omega))
      · exact h
  have hw : 0 < wy n := (wy_in n hn).1
  unfold jnS
  rw [show wy n = (wy n - 1) + 1 by omega, lpN_last, Nat.zero_add]
  rcases key (wy n - 1) 0 (0, 99) (by omega) (Or.inr rfl) with h | h
  · unfold jnF at h ⊢
    split
    · exact rb_mem hn h1 (by omega)
    · exact h
  · rw [h]
    unfold jnF
    rw [if_pos ⟨hB, Nat.lt_of_le_of_lt (pc64_le _) (by decide)⟩]
    exact rb_mem hn h1 (by omega)
theorem jn2_mem {n a b : Nat} (hn : n < 7) (h1 : 1 ≤ n) (ha : a ∈ rws n) (hb : b ∈ rws n) : jnS n (inv n a ||| inv n b) ∈ rws n :=
  jnS_mem hn h1 (by rw [Nat.and_or_distrib_right, f_rev n hn h1 a ha, f_rev n hn h1 b hb])
def mcF (n g : Nat) (t : Bool) : Nat → Nat → Nat := fun i c => c + (if lst n g (rb n i) then (if t then pc64 (drp n (rb n i)) else 1) else 0)
def mnC (n g : Nat) (t : Bool) : Nat := lpN (mcF n g t) 0 (wy n) 0
def o_arcIs (n g : Nat) (x w : Int32) : Int32 := if inI x (na n) then (if w = 0 then nI (aL n (tn x)) else if w = 1 then nI (aH n (tn x)) else if w = 2 then nI (aF n (tn x)) else if w = 3 then b1 (g.testBit (tn x)) else if w = 4 then nI (pc64 (fo n (tn x))) else if w = 5 then nI (pc64 (fcr n (tn x))) else if w = 6 then nI (lwS n (tn x)) else -1) else -1
def o_rotations (n g : Nat) (x w : Int32) : Int32 := if rowB n x && inI w 2 then nI (rot n g (tn x) (w == 0)).length else -1
def o_rotate (n g : Nat) (x k w : Int32) : Int32 := if (rowB n x && !decide (k < 0)) && inI w 2 then (match (rot n g (tn x) (w == 0))[tn k]? with | some v => nI v | none => -3) else -1
theorem bit_of {w : Int32} (h : inI w 2 = true) : ∃ t, w = b1 (!t) ∧ (w == 0) = t := by
  obtain ⟨k, hk, _, rfl⟩ := inI_t h
  match k, hk with
  | 0, _ => exact ⟨true, rfl, rfl⟩
  | 1, _ => exact ⟨false, rfl, rfl⟩
/-- the rows of a jump, steps to the right, steps to the left -/
def jmU (n v : Nat) : Nat → Nat → Nat → Int32
  | 0, _, s => nI s
  | k + 1, p, s => if v < dgt n s (p + 1) then -3 else jmU n v k (p + 1) (sw n s p)
def jmD (n v : Nat) : Nat → Nat → Nat → Int32
  | 0, _, s => nI s
  | k + 1, p, s => if v < dgt n s (p - 1) then -3 else jmD n v k (p - 1) (sw n s (p - 1))
def o_jumped (n r v : Nat) (d : Int32) : Int32 :=
  if 0 ≤ (plc n r v n 0 : Int) + d.toInt ∧ (plc n r v n 0 : Int) + d.toInt < n then (if 0 < d.toInt then jmU n v d.toInt.toNat (plc n r v n 0) r else jmD n v (-d.toInt).toNat (plc n r v n 0) r) else -3
theorem inB_R {x : Int32} {a c : Int64} : inB x.toInt64 a c = decide (a.toInt ≤ x.toInt ∧ x.toInt ≤ c.toInt) := by
  unfold inB
  rw [Bool.eq_iff_iff]
  simp only [Bool.and_eq_true, Bool.not_eq_true', decide_eq_false_iff_not, decide_eq_true_eq, Int64.lt_iff_toInt_lt, Int32.toInt_toInt64]
  omega
def in1 (x : Int32) (n : Nat) : Bool := decide (1 ≤ x.toInt ∧ x.toInt ≤ n)
theorem inB_1 {x : Int32} {n : Nat} (hn : n < 2 ^ 31) : inB x.toInt64 1 (nI n).toInt64 = in1 x n := by
  rw [inB_R, Int32.toInt_toInt64, nI_toInt hn]; rfl
theorem in1_t {x : Int32} {n : Nat} (h : in1 x n = true) : ∃ k, k < n ∧ x = nI (k + 1) ∧ k + 1 < 2 ^ 31 := by
  unfold in1 at h
  obtain ⟨h1, h2⟩ := of_decide_eq_true h
  have h3 : ¬ x < 0 := fun q => by rw [Int32.lt_iff_toInt_lt] at q; have : (0 : Int32).toInt = 0 := rfl; omega
  obtain ⟨k, hk, rfl⟩ := nI_of h3
  rw [nI_toInt hk] at h1 h2
  exact ⟨k - 1, by omega, by rw [show k - 1 + 1 = k by omega], by omega⟩
theorem drp_lt {n r : Nat} (hn : n < 7) : drp n r < 2 ^ 31 := lp_or_lt2 (N := n - 1) _ (fun p hp => if_lt_pow (by omega)) (n - 1) 0 0 (by omega) (by decide)
/-- where a jump goes to, as a long -/
theorem j_to {f n : Nat} (hf : f < n) (hn : n < 7) (d : Int32) : inB ((nI f).toInt64 + d.toInt64) 0 (nI n - 1).toInt64 = decide (0 ≤ (f : Int) + d.toInt ∧ (f : Int) + d.toInt < n) ∧ (∀ T : Nat, (T : Int) = (f : Int) + d.toInt → T < 7 → (nI f).toInt64 + d.toInt64 = (nI T).toInt64) := by
  have hs : ((nI f).toInt64 + d.toInt64).toInt = (f : Int) + d.toInt := by
    rw [Int64.toInt_add, Int32.toInt_toInt64, Int32.toInt_toInt64, nI_toInt (by omega)]
    have h1 := Int32.le_toInt d
    have h2 := Int32.toInt_lt d
    exact Int.bmod_eq_of_le (by omega) (by omega)
  constructor
  · unfold inB
    have e2 : (nI n - 1).toInt64.toInt = (n : Int) - 1 := by
      rw [Int32.toInt_toInt64, show nI n - 1 = nI n - nI 1 from rfl, pk_sub_toInt (by omega) (by decide)]; rfl
    rw [Bool.eq_iff_iff]
    simp only [Bool.and_eq_true, Bool.not_eq_true', decide_eq_false_iff_not, decide_eq_true_eq, Int64.lt_iff_toInt_lt, hs, e2]
    have : (0 : Int64).toInt = 0 := rfl
    omega
  · intro T hT h7
    apply Int64.toInt_inj.mp
    rw [hs, Int32.toInt_toInt64, nI_toInt (by omega)]
    exact hT.symm
theorem nI64_inj {a b : Nat} (ha : a < 2 ^ 31) (hb : b < 2 ^ 31) : (nI a).toInt64 = (nI b).toInt64 ↔ a = b := by
  constructor
  · intro h
    have := congrArg Int64.toInt h
    rw [Int32.toInt_toInt64, Int32.toInt_toInt64, nI_toInt ha, nI_toInt hb] at this
    omega
  · intro h; rw [h]
def o_jump (n : Nat) (x v d : Int32) : Int32 := if rowB n x && in1 v n then o_jumped n (tn x) (tn v) d else -1
