/-! ===== the class: a row out of a sheet; words ===== -/
set_option maxRecDepth 100000
/-- a digit's bit, if it may stand in a row -/
def bqD (n : Nat) (D : Nat → Int32) (p : Nat) : Nat := if inC (D p) 1 (nI n) then 2 ^ tn (D p) else 0
def seD (n : Nat) (D : Nat → Int32) : Nat := lpN (fun p s => s ||| bqD n D p) 0 n 0
def vD (D : Nat → Int32) (k : Nat) : Nat := lpN (fun p v => 10 * v + tn (D p)) 0 k 0
def w_rt (n : Nat) (D : Nat → Int32) : Int32 := if pc64 (seD n D) = n then nI (vD D n) else -3
theorem inC_d {x : Int32} {n : Nat} (hn : n < 7) (h : inC x 1 (nI n) = true) : ∃ k : Nat, 1 ≤ k ∧ k ≤ n ∧ x = nI k := by
  unfold inC at h
  rw [Bool.and_eq_true, decide_eq_true_iff, decide_eq_true_iff, Int32.le_iff_toInt_le, Int32.le_iff_toInt_le, nI_toInt (by omega)] at h
  have h1 : 1 ≤ x.toInt := h.1
  obtain ⟨t, h3, h4⟩ := i_nat (s := x) (Int32.not_lt.mpr (Int32.le_iff_toInt_le.mpr (by show (0 : Int) ≤ _; omega))) h.2
  subst h4
  rw [nI_toInt (by omega)] at h1
  exact ⟨t, by omega, h3, rfl⟩
theorem bqD_lt {n p : Nat} {D : Nat → Int32} (hn : n < 7) : bqD n D p < 2 ^ 7 := by
  unfold bqD
  by_cases h : inC (D p) 1 (nI n) = true
  · obtain ⟨k, h1, h2, h3⟩ := inC_d hn h
    rw [if_pos h, h3, show tn (nI k) = k from nI_clamp (by omega)]
    exact Nat.pow_lt_pow_right (by decide) (by omega)
  · rw [if_neg h]; decide
theorem pc_or1 : ∀ x, x < 128 → ∀ k, k < 7 → pc64 (x ||| 2 ^ k) ≤ pc64 x + 1 := by decide +kernel
theorem bq_pc {n p x : Nat} {D : Nat → Int32} (hn : n < 7) (hx : x < 2 ^ 7) : pc64 (x ||| bqD n D p) ≤ pc64 x + (if inC (D p) 1 (nI n) then 1 else 0) := by
  unfold bqD
  by_cases h : inC (D p) 1 (nI n) = true
  · obtain ⟨k, h1, h2, h3⟩ := inC_d hn h
    rw [if_pos h, if_pos h, h3, show tn (nI k) = k from nI_clamp (by omega)]
    exact pc_or1 x hx k (by omega)
  · rw [if_neg h, if_neg h, Nat.or_zero]; exact Nat.le_refl _
theorem se_cnt {n : Nat} {D : Nat → Int32} (hn : n < 7) : ∀ (k a x : Nat), x < 2 ^ 7 → pc64 (lpN (fun p s => s ||| bqD n D p) a k x) ≤ pc64 x + k ∧ (∀ p, a ≤ p → p < a + k → inC (D p) 1 (nI n) = false → pc64 (lpN (fun p s => s ||| bqD n D p) a k x) + 1 ≤ pc64 x + k) := by
  intro k
  induction k with
  | zero => intro a x _; exact ⟨Nat.le_refl _, fun p h1 h2 => by omega⟩
  | succ k ih =>
    intro a x hx
    have h1 := bq_pc (p := a) (D := D) hn hx
    have hlt := Nat.or_lt_two_pow hx (bqD_lt (p := a) (D := D) hn)
    obtain ⟨i1, i2⟩ := ih (a + 1) (x ||| bqD n D a) hlt
    have le1 : (if inC (D a) 1 (nI n) = true then 1 else 0) ≤ 1 := by split <;> decide
    refine ⟨?_, fun p p1 p2 p3 => ?_⟩
    · show pc64 (lpN _ (a + 1) k (x ||| bqD n D a)) ≤ _
      omega
    · show pc64 (lpN _ (a + 1) k (x ||| bqD n D a)) + 1 ≤ _
      by_cases e : p = a
      · subst e
        rw [p3, if_neg (by decide)] at h1
        omega
      · have := i2 p (by omega) (by omega) p3
        omega
theorem se_all {n : Nat} {D : Nat → Int32} (hn : n < 7) (h : pc64 (seD n D) = n) : ∀ p, p < n → inC (D p) 1 (nI n) = true := by
  intro p hp
  cases hb : inC (D p) 1 (nI n) with
  | true => rfl
  | false =>
    have := (se_cnt (D := D) hn n 0 0 (by decide)).2 p (Nat.zero_le _) (by omega) hb
    unfold seD at h
    rw [h] at this
    have z : pc64 0 = 0 := by decide +kernel
    omega
theorem vD_s (D : Nat → Int32) (k : Nat) : vD D (k + 1) = 10 * vD D k + tn (D k) := by unfold vD; rw [lpN_last, Nat.zero_add]
theorem vD_dg {D : Nat → Int32} : ∀ k, (∀ p, p < k → tn (D p) < 10) → vD D k < 10 ^ k ∧ ∀ p, p < k → dgt k (vD D k) p = tn (D p) := by
  intro k
  induction k with
  | zero => intro _; exact ⟨Nat.one_pos, fun p hp => absurd hp (Nat.not_lt_zero _)⟩
  | succ k ih =>
    intro h
    obtain ⟨i1, i2⟩ := ih (fun p hp => h p (by omega))
    have hk := h k (by omega)
    rw [vD_s]
    refine ⟨by rw [Nat.pow_succ]; omega, fun p hp => ?_⟩
    unfold dgt
    by_cases e : p = k
    · subst e
      rw [show p + 1 - 1 - p = 0 by omega, Nat.pow_zero, Nat.div_one]; omega
    · have h2 := i2 p (by omega)
      unfold dgt at h2
      rw [show k + 1 - 1 - p = (k - 1 - p) + 1 by omega, Nat.pow_succ', ← Nat.div_div_eq_div_mul, show (10 * vD D k + tn (D k)) / 10 = vD D k by omega]
      exact h2
theorem rwL_vD {n : Nat} {L : List Int32} {D : Nat → Int32} (hn : n < 7) (hL : ∀ p, p < n → L[p]? = some (D p)) (h : ∀ p, p < n → inC (D p) 1 (nI n) = true) : rwL n (vD D n) L ∧ vD D n < 10 ^ n := by
  have ht : ∀ p, p < n → tn (D p) < 10 := fun p hp => by
    obtain ⟨k, k1, k2, k3⟩ := inC_d hn (h p hp)
    rw [k3, show tn (nI k) = k from nI_clamp (by omega)]; omega
  obtain ⟨h1, h2⟩ := vD_dg n ht
  refine ⟨fun p hp => ?_, h1⟩
  rw [hL p hp, h2 p hp]
  obtain ⟨k, k1, k2, k3⟩ := inC_d hn (h p hp)
  rw [k3, show tn (nI k) = k from nI_clamp (by omega)]
theorem pc_full : ∀ n, n < 7 → ∀ m, m < 2 ^ n → (pc64 (2 * m) = n ↔ m = 2 ^ n - 1) := by decide +kernel
theorem mask_ltn {n R : Nat} : mask n R < 2 ^ n := lp_or_lt (fun p => mbit n (dgt n R p)) (fun p => by
  unfold mbit
  split
  · exact Nat.two_pow_pos _
  · split
    · exact Nat.two_pow_pos _
    · exact Nat.pow_lt_pow_right (by decide) (by omega)) n 0 0 (Nat.two_pow_pos _)
theorem se_mask {n R : Nat} {D : Nat → Int32} (hn : n < 7) (h : ∀ p, p < n → inC (D p) 1 (nI n) = true) (hd : ∀ p, p < n → dgt n R p = tn (D p)) : ∀ (k a x : Nat), a + k ≤ n → lpN (fun p s => s ||| bqD n D p) a k (2 * x) = 2 * lpN (fun p s => s ||| mbit n (dgt n R p)) a k x := by
  intro k
  induction k with
  | zero => intro a x _; rfl
  | succ k ih =>
    intro a x ha
    show lpN _ (a + 1) k (2 * x ||| bqD n D a) = 2 * lpN _ (a + 1) k (x ||| mbit n (dgt n R a))
    rw [← ih (a + 1) _ (by omega), two_or]
    congr 2
    obtain ⟨j, j1, j2, j3⟩ := inC_d hn (h a (by omega))
    rw [hd a (by omega)]
    unfold bqD mbit
    rw [if_pos (h a (by omega)), j3, show tn (nI j) = j from nI_clamp (by omega), if_neg (by omega), if_neg (by omega), ← Nat.pow_succ']
    congr 1
    omega
theorem rt_row {n : Nat} {D : Nat → Int32} (hn : n < 7) (h1 : 1 ≤ n) (h : ∀ p, p < n → inC (D p) 1 (nI n) = true) : w_rt n D = if rowB n (nI (vD D n)) then nI (vD D n) else -3 := by
  have ht : ∀ p, p < n → tn (D p) < 10 := fun p hp => by
    obtain ⟨k, k1, k2, k3⟩ := inC_d hn (h p hp)
    rw [k3, show tn (nI k) = k from nI_clamp (by omega)]; omega
  obtain ⟨v1, v2⟩ := vD_dg n ht
  have v31 : vD D n < 2 ^ 31 := by
    have : 10 ^ n ≤ 10 ^ 6 := Nat.pow_le_pow_right (by decide) (by omega)
    omega
  have hS : seD n D = 2 * mask n (vD D n) := se_mask hn h v2 n 0 0 (by omega)
  have hin : ∀ p, p < n → 1 ≤ dgt n (vD D n) p ∧ dgt n (vD D n) p ≤ n := fun p hp => by
    obtain ⟨k, k1, k2, k3⟩ := inC_d hn (h p hp)
    rw [v2 p hp, k3, show tn (nI k) = k from nI_clamp (by omega)]; exact ⟨k1, k2⟩
  have e := rowB_end hn h1 v31 hin
  rw [dsD_mask hin, Nat.div_eq_of_lt v1, decide_eq_true rfl, Bool.true_and] at e
  unfold w_rt
  rw [hS]
  have hf := pc_full n hn (mask n (vD D n)) mask_ltn
  have hp2 : 2 ^ (n + 1) = 2 * 2 ^ n := by rw [Nat.pow_succ]; omega
  have hpos := Nat.two_pow_pos n
  by_cases c : mask n (vD D n) = 2 ^ n - 1
  · rw [if_pos (hf.mpr c), e, decide_eq_true (by omega)]; rfl
  · rw [if_neg (fun q => c (hf.mp q)), e, decide_eq_false (by omega)]; rfl
/-- the class's answer is the reference's -/
theorem rt_law {n i : Nat} {xs : List Int64} {D : Nat → Int32} (hn : n < 7) (h1 : 1 ≤ n) (hx : ∀ p, p < n → (xs.getD (i + p) 0).toInt = (D p).toInt) : w_rt n D = rfF n xs n i 0 := by
  have inr : ∀ p, p < n → (inC (D p) 1 (nI n) = true ↔ (1 ≤ (xs.getD (i + p) 0).toInt ∧ (xs.getD (i + p) 0).toInt ≤ n)) := fun p hp => by
    unfold inC
    rw [Bool.and_eq_true, decide_eq_true_iff, decide_eq_true_iff, Int32.le_iff_toInt_le, Int32.le_iff_toInt_le, nI_toInt (by omega), hx p hp]
    exact Iff.rfl
  by_cases hall : ∀ p, p < n → inC (D p) 1 (nI n) = true
  · rw [rt_row hn h1 hall]
    have key : ∀ (k j : Nat), j + k = n → rfF n xs k (i + j) (vD D j) = if rowB n (nI (vD D n)) then nI (vD D n) else -3 := by
      intro k
      induction k with
      | zero => intro j hj; rw [show j = n by omega]; rfl
      | succ k ih =>
        intro j hj
        show (if 1 ≤ (xs.getD (i + j) 0).toInt ∧ (xs.getD (i + j) 0).toInt ≤ n then rfF n xs k (i + j + 1) (10 * vD D j + (xs.getD (i + j) 0).toInt.toNat) else -3) = _
        rw [if_pos ((inr j (by omega)).mp (hall j (by omega)))]
        have := ih (j + 1) (by omega)
        rw [vD_s] at this
        rw [← this]
        obtain ⟨q, q1, q2, q3⟩ := inC_d hn (hall j (by omega))
        rw [hx j (by omega), q3, nI_toInt (by omega), show tn (nI q) = q from nI_clamp (by omega)]
        rfl
    exact (key n 0 (by omega)).symm
  · have hw : w_rt n D = -3 := if_neg (fun q => hall (se_all hn q))
    rw [hw]
    have key : ∀ (k j r : Nat), j + k = n → (∃ p, j ≤ p ∧ p < n ∧ ¬ inC (D p) 1 (nI n) = true) → rfF n xs k (i + j) r = -3 := by
      intro k
      induction k with
      | zero => intro j r hj ⟨p, p1, p2, _⟩; omega
      | succ k ih =>
        intro j r hj ⟨p, p1, p2, p3⟩
        show (if 1 ≤ (xs.getD (i + j) 0).toInt ∧ (xs.getD (i + j) 0).toInt ≤ n then rfF n xs k (i + j + 1) (10 * r + (xs.getD (i + j) 0).toInt.toNat) else -3) = -3
        by_cases c : 1 ≤ (xs.getD (i + j) 0).toInt ∧ (xs.getD (i + j) 0).toInt ≤ n
        · rw [if_pos c]
          refine ih (j + 1) _ (by omega) ⟨p, ?_, p2, p3⟩
          have : p ≠ j := fun e => p3 (e ▸ (inr j (by omega)).mpr c)
          omega
        · rw [if_neg c]
    obtain ⟨p, hp⟩ := Classical.not_forall.mp hall
    obtain ⟨hp1, hp2⟩ := Classical.not_imp.mp hp
    exact (key n 0 0 (by omega) ⟨p, Nat.zero_le _, hp1, hp2⟩).symm
