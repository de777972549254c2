/-! ===== the class: views; rows as bytes ===== -/
set_option maxRecDepth 100000
theorem K0 : xcls 0 RX0 TX0 36 tyX0 := ⟨rfl, in_X0, tyX0_ok, nmX0⟩
theorem K3 : xcls 3 RX3 TX3 6 tyX3 := ⟨rfl, in_X3, tyX3_ok, nmX3⟩
/-- the class's object -/
def cFs (d : Nat → Value) : List Value := [.ref 1, .ref 2, .ref 3, d 3, .ref 4, .ref 7, .ref 10, d 7, .ref 11, .ref 12, .ref 13, .ref 14, .ref 15, .ref 16, .ref 17, .ref 18, .ref 19, d 17, d 18, d 19, .ref 20, .ref 21, d 22, .ref 22, .ref 23, .ref 24, .ref 25, .ref 26, d 28, .ref 27, .ref 28, .ref 29, d 32, .ref 30, .ref 31, .ref 32]
/-- what is kept: now -/
def oFs (e : Nat → Value) : List Value := [e 0, e 1, e 2, e 3, .ref 5, .ref 6]
def cV (d e : Nat → Value) (n : Nat) (G : xH) : Prop := G[0]? = some (cO 0 (cFs d)) ∧ G[4]? = some (cO 3 (oFs e)) ∧ e 0 = .int (nI n) ∧ 1 ≤ n ∧ n ≤ 6
theorem cV.set {d e : Nat → Value} {n : Nat} {G : xH} {a : Nat} {x : xC} (h : cV d e n G) (h1 : a ≠ 0) (h2 : a ≠ 4) : cV d e n (G.set a x) := by
  obtain ⟨p1, p2, p3⟩ := h
  exact ⟨by rw [gset h1]; exact p1, by rw [gset h2]; exact p2, p3⟩
/-- an array of bytes holds a row -/
def rwL (n R : Nat) (L : List Int32) : Prop := ∀ p, p < n → L[p]? = some (nI (dgt n R p))
theorem rwL.len {n R : Nat} {L : List Int32} (h : rwL n R L) (h1 : 1 ≤ n) : n ≤ L.length := by
  have := (List.getElem?_eq_some_iff.mp (h (n - 1) (by omega))).1
  omega
def inC (v a b : Int32) : Bool := decide (a ≤ v) && decide (v ≤ b)
theorem c_inC (v a b : Int32) : (if v < a then (0 : Int32) else if b < v then 0 else 1) = b1 (inC v a b) := by
  unfold inC
  by_cases h1 : v < a
  · rw [if_pos h1, decide_eq_false (fun q => i32_le q h1)]; rfl
  · rw [if_neg h1]
    have h1' : a ≤ v := by rw [Int32.le_iff_toInt_le]; rw [Int32.lt_iff_toInt_lt] at h1; omega
    rw [decide_eq_true h1']
    by_cases h2 : b < v
    · rw [if_pos h2, decide_eq_false (fun q => i32_le q h2)]; rfl
    · have h2' : v ≤ b := by rw [Int32.le_iff_toInt_le]; rw [Int32.lt_iff_toInt_lt] at h2; omega
      rw [if_neg h2, decide_eq_true h2']; rfl
theorem inC_inI {x : Int32} {m : Nat} (hm : m < 2 ^ 30) : inC x 0 (nI m - 1) = inI x m := by
  rw [← inB_inI hm]
  unfold inC inB
  rw [Bool.eq_iff_iff]
  simp only [Bool.and_eq_true, Bool.not_eq_true', decide_eq_false_iff_not, decide_eq_true_eq, Int64.lt_iff_toInt_lt, Int32.toInt_toInt64, Int32.le_iff_toInt_le]
  have : (0 : Int32).toInt = 0 := rfl
  have : (0 : Int64).toInt = 0 := rfl
  omega
theorem inC_1 {x : Int32} {n : Nat} (hn : n < 2 ^ 31) : inC x 1 (nI n) = in1 x n := by
  unfold inC in1
  rw [Bool.eq_iff_iff]
  simp only [Bool.and_eq_true, decide_eq_true_eq, Int32.le_iff_toInt_le, nI_toInt hn]
  exact Iff.rfl
/-! counting bits -/
theorem lp_c (f : Nat → Nat) : ∀ (n a c : Nat), lpN (fun k c => c + f k) a n c = c + lpN (fun k c => c + f k) a n 0 := by
  intro n
  induction n with
  | zero => intro a c; rfl
  | succ n ih =>
    intro a c
    rw [lpN_s, lpN_s, ih (a + 1) (c + f a), ih (a + 1) (0 + f a)]
    omega
theorem lp_shift (f g : Nat → Nat) : ∀ (n a b c : Nat), (∀ k, k < n → f (a + k) = g (b + k)) → lpN (fun k c => c + f k) a n c = lpN (fun k c => c + g k) b n c := by
  intro n
  induction n with
  | zero => intro a b c _; rfl
  | succ n ih =>
    intro a b c h
    rw [lpN_s, lpN_s, ih (a + 1) (b + 1) (c + f a) (fun k hk => by have := h (k + 1) (by omega); rwa [show a + (k + 1) = a + 1 + k by omega, show b + (k + 1) = b + 1 + k by omega] at this)]
    have := h 0 (by omega)
    rw [Nat.add_zero, Nat.add_zero] at this
    rw [this]
theorem pc64_half {m : Nat} (hm : m < 2 ^ 64) : pc64 m = m % 2 + pc64 (m / 2) := by
  have e1 : pc64 m = lpN (fun k c => c + (if m.testBit k then 1 else 0)) (0 + 1) 63 (0 + (if m.testBit 0 then 1 else 0)) := lpN_s (fun k c => c + (if m.testBit k then 1 else 0)) 0 63 0
  have e2 : pc64 (m / 2) = lpN (fun k c => c + (if (m / 2).testBit k then 1 else 0)) 0 63 0 + (if (m / 2).testBit (0 + 63) then 1 else 0) := lpN_last (fun k c => c + (if (m / 2).testBit k then 1 else 0)) 63 0 0
  have e3 := lp_c (fun k => if m.testBit k then 1 else 0) 63 (0 + 1) (0 + (if m.testBit 0 then 1 else 0))
  have e4 := lp_shift (fun k => if m.testBit k then 1 else 0) (fun k => if (m / 2).testBit k then 1 else 0) 63 (0 + 1) 0 0 (fun k hk => by
    show (if m.testBit (0 + 1 + k) = true then 1 else 0) = (if (m / 2).testBit (0 + k) = true then 1 else 0)
    rw [show 0 + 1 + k = k + 1 by omega, Nat.zero_add, Nat.testBit_succ])
  have h63 : (m / 2).testBit (0 + 63) = false := Nat.testBit_lt_two_pow (by omega)
  have h0 : (if m.testBit 0 = true then 1 else 0) = m % 2 := by
    rw [Nat.testBit_zero]
    rcases Nat.mod_two_eq_zero_or_one m with h | h <;> rw [h] <;> rfl
  rw [h63] at e2
  rw [e1, e3, e4, e2, h0]
  show 0 + m % 2 + _ = m % 2 + (_ + 0)
  omega
theorem and_pred {m : Nat} (h : 0 < m) : (m % 2 = 1 ∧ m &&& (m - 1) = m - 1) ∨ (m % 2 = 0 ∧ m &&& (m - 1) = 2 * (m / 2 &&& (m / 2 - 1))) := by
  rcases Nat.mod_two_eq_zero_or_one m with h2 | h2
  · right
    refine ⟨h2, ?_⟩
    apply Nat.eq_of_testBit_eq
    intro i
    cases i with
    | zero =>
      rw [Nat.testBit_and, Nat.testBit_zero, h2, Nat.testBit_zero, Nat.testBit_zero, Nat.mul_mod_right]; rfl
    | succ i =>
      rw [Nat.testBit_and, Nat.testBit_succ, Nat.testBit_succ, Nat.testBit_succ, Nat.mul_div_cancel_left _ (by decide), Nat.testBit_and, show (m - 1) / 2 = m / 2 - 1 by omega]
  · left
    refine ⟨h2, ?_⟩
    apply Nat.eq_of_testBit_eq
    intro i
    cases i with
    | zero =>
      rw [Nat.testBit_and, Nat.testBit_zero, h2, Nat.testBit_zero, show (m - 1) % 2 = 0 by omega]; rfl
    | succ i =>
      rw [Nat.testBit_and, Nat.testBit_succ, Nat.testBit_succ, show (m - 1) / 2 = m / 2 by omega, Bool.and_self]
theorem pc64_pred : ∀ (k m : Nat), m ≤ k → 0 < m → m < 2 ^ 64 → pc64 (m &&& (m - 1)) + 1 = pc64 m := by
  intro k
  induction k with
  | zero => intro m h1 h2; omega
  | succ k ih =>
    intro m h1 h2 h3
    rcases and_pred h2 with ⟨h4, h5⟩ | ⟨h4, h5⟩
    · rw [h5, pc64_half h3, pc64_half (m := m - 1) (by omega), show (m - 1) % 2 = 0 by omega, show (m - 1) / 2 = m / 2 by omega, h4]
      omega
    · have hx : m / 2 &&& (m / 2 - 1) ≤ m / 2 := Nat.and_le_left
      rw [h5, pc64_half h3, pc64_half (m := 2 * (m / 2 &&& (m / 2 - 1))) (by omega), Nat.mul_mod_right, Nat.mul_div_cancel_left _ (by decide), h4]
      have := ih (m / 2) (by omega) (by omega) (by omega)
      omega
theorem and_pred_lt {m : Nat} (h : 0 < m) : m &&& (m - 1) < m := Nat.lt_of_le_of_lt Nat.and_le_right (by omega)
/-- the lowest bit -/
def lob (m : Nat) : Nat → Nat → Nat
  | 0, k => k
  | f + 1, k => if m.testBit k then k else lob m f (k + 1)
def lwb (m : Nat) : Nat := lob m 64 0
theorem lob_ok {m : Nat} : ∀ (f k j : Nat), k ≤ j → j < k + f → m.testBit j = true → lob m f k < k + f ∧ m.testBit (lob m f k) = true ∧ ∀ i, k ≤ i → i < lob m f k → m.testBit i = false := by
  intro f
  induction f with
  | zero => intro k j h1 h2; omega
  | succ f ih =>
    intro k j h1 h2 h3
    unfold lob
    by_cases hc : m.testBit k = true
    · rw [if_pos hc]; exact ⟨by omega, hc, fun i hi1 hi2 => by omega⟩
    · rw [if_neg hc]
      have hkj : k ≠ j := fun e => hc (by rw [e]; exact h3)
      obtain ⟨q1, q2, q3⟩ := ih (k + 1) j (by omega) (by omega) h3
      refine ⟨by omega, q2, fun i hi1 hi2 => ?_⟩
      by_cases e : i = k
      · subst e; simpa using hc
      · exact q3 i (by omega) hi2
theorem bit_ex {m : Nat} (h : 0 < m) (hm : m < 2 ^ 64) : ∃ j, j < 64 ∧ m.testBit j = true := by
  apply Classical.byContradiction
  intro hn
  have : m = 0 := Nat.eq_of_testBit_eq fun i => by
    rw [Nat.zero_testBit]
    by_cases hi : i < 64
    · cases hb : m.testBit i with
      | false => rfl
      | true => exact absurd ⟨i, hi, hb⟩ hn
    · exact Nat.testBit_lt_two_pow (Nat.lt_of_lt_of_le hm (Nat.pow_le_pow_right (by decide) (by omega)))
  omega
theorem lwb_ok {m : Nat} (h : 0 < m) (hm : m < 2 ^ 64) : lwb m < 64 ∧ m.testBit (lwb m) = true ∧ ∀ i, i < lwb m → m.testBit i = false := by
  obtain ⟨j, hj, hb⟩ := bit_ex h hm
  obtain ⟨q1, q2, q3⟩ := lob_ok (m := m) 64 0 j (Nat.zero_le _) (by omega) hb
  exact ⟨by unfold lwb; omega, q2, fun i hi => q3 i (Nat.zero_le _) hi⟩
theorem wb_pred {m : Nat} (h : 0 < m) (hm : m < 2 ^ 64) : lN m - 1 = lN (m - 1) := by
  apply wb_inj
  rw [Int64.toBitVec_sub]
  apply BitVec.eq_of_toNat_eq
  rw [wb_tb, wb_tb, BitVec.toNat_sub, BitVec.toNat_ofNat, BitVec.toNat_ofNat]
  show (2 ^ 64 - 1 + m % 2 ^ 64) % 2 ^ 64 = (m - 1) % 2 ^ 64
  omega
theorem lN_0 {m : Nat} (hm : m < 2 ^ 64) : lN m = 0 ↔ m = 0 := by
  constructor
  · intro h
    have := congrArg (fun x => Int64.toBitVec x) h
    have h2 : (lN m).toBitVec.toNat = 0 := by show (lN m).toBitVec.toNat = _; rw [show (lN m).toBitVec = (0 : Int64).toBitVec from this]; rfl
    rw [wb_tn hm] at h2
    exact h2
  · intro h; rw [h]; rfl
theorem sw_swp {n R p : Nat} (hp : p + 1 < n) : sw n R p = swp n R (p + 1) p := by
  unfold sw swp
  have e : 10 ^ (n - 1 - p) = 10 * 10 ^ (n - 2 - p) := by rw [show n - 1 - p = n - 2 - p + 1 by omega, Nat.pow_succ, Nat.mul_comm]
  rw [show n - 1 - (p + 1) = n - 2 - p by omega, e]
  have h1 : dgt n R (p + 1) * (9 * 10 ^ (n - 2 - p)) = 9 * (dgt n R (p + 1) * 10 ^ (n - 2 - p)) := by rw [← Nat.mul_assoc, Nat.mul_comm _ 9, Nat.mul_assoc]
  have h2 : dgt n R p * (9 * 10 ^ (n - 2 - p)) = 9 * (dgt n R p * 10 ^ (n - 2 - p)) := by rw [← Nat.mul_assoc, Nat.mul_comm _ 9, Nat.mul_assoc]
  have h3 : dgt n R p * (10 * 10 ^ (n - 2 - p)) = 10 * (dgt n R p * 10 ^ (n - 2 - p)) := by rw [← Nat.mul_assoc, Nat.mul_comm _ 10, Nat.mul_assoc]
  have h4 : dgt n R (p + 1) * (10 * 10 ^ (n - 2 - p)) = 10 * (dgt n R (p + 1) * 10 ^ (n - 2 - p)) := by rw [← Nat.mul_assoc, Nat.mul_comm _ 10, Nat.mul_assoc]
  rw [h1, h2, h3, h4]
  omega
/-- two bytes changed -/
def chL (L : List Int32) (p q : Nat) : List Int32 := (L.set p (L.getD q 0)).set q (L.getD p 0)
theorem chL_len (L : List Int32) (p q : Nat) : (chL L p q).length = L.length := by unfold chL; rw [List.length_set, List.length_set]
theorem chL_at {L : List Int32} {p q i : Nat} (hp : p < L.length) (hq : q < L.length) : (chL L p q)[i]? = if i = q then some (L.getD p 0) else if i = p then some (L.getD q 0) else L[i]? := by
  unfold chL
  by_cases e : i = q
  · subst e; rw [if_pos rfl, List.getElem?_set_self (by rw [List.length_set]; exact hq)]
  · rw [if_neg e, List.getElem?_set_ne (fun h => e h.symm)]
    by_cases e2 : i = p
    · subst e2; rw [if_pos rfl, List.getElem?_set_self hp]
    · rw [if_neg e2, List.getElem?_set_ne (fun h => e2 h.symm)]
theorem rwL_sw {n R p : Nat} {L : List Int32} (hn : n < 7) (hr : R ∈ rws n) (hL : rwL n R L) (hp : p + 1 < n) : rwL n (sw n R p) (chL L p (p + 1)) := by
  have hl := hL.len (by omega)
  intro i hi
  rw [chL_at (by omega) (by omega), sw_swp hp, dgt_swp (f_tl n hn R hr) hp (by omega) hi]
  unfold swD
  by_cases e : i = p + 1
  · rw [if_pos e, if_pos e, x_getD (hL p (by omega))]
  · rw [if_neg e, if_neg e]
    by_cases e2 : i = p
    · rw [if_pos e2, if_pos e2, x_getD (hL (p + 1) hp)]
    · rw [if_neg e2, if_neg e2]; exact hL i hi
theorem f_id1 : ∀ n, n < 7 → 1 ≤ n → ∀ p, p < n → dgt n (rb n 0) p = p + 1 := by decide +kernel
