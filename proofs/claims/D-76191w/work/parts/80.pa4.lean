/-! ===== the class: pairs closed, rows by their pairs ===== -/
set_option maxRecDepth 100000
def alP (n : Nat) : Nat := lpN (fun lo s => lpN (fun hi s => s ||| 2 ^ pr lo hi) (lo + 1) (n + 1 - (lo + 1)) s) 1 (n - 1) 0
theorem f_alP : ∀ n, n < 7 → alP n < 2 ^ 36 := by decide +kernel
def cpI (lo w m s : Nat) : Nat := s ||| (if s.testBit (pr lo m) && s.testBit (pr m (lo + w)) then 2 ^ pr lo (lo + w) else 0)
def cpM (w lo s : Nat) : Nat := lpN (cpI lo w) (lo + 1) (lo + w - (lo + 1)) s
def cpW (n w s : Nat) : Nat := lpN (cpM w) 1 (n + 1 - w - 1) s
/-- what follows from pairs -/
def cpN (n s : Nat) : Nat := lpN (cpW n) 2 (n - 2) s
theorem and_2p (s k : Nat) : s &&& 2 ^ k = if s.testBit k then 2 ^ k else 0 := by
  apply Nat.eq_of_testBit_eq
  intro i
  rw [Nat.testBit_and, Nat.testBit_two_pow]
  by_cases e : k = i
  · subst e
    cases h : s.testBit k
    · simp
    · simp [Nat.testBit_two_pow_self]
  · rw [decide_eq_false e, Bool.and_false]
    cases h : s.testBit k
    · simp
    · simp [Nat.testBit_two_pow, e]
theorem and_pow0 (s k : Nat) : s &&& 2 ^ k = 0 ↔ s.testBit k = false := by
  rw [and_2p]
  have : 0 < 2 ^ k := Nat.pow_pos (by decide)
  cases h : s.testBit k with
  | false => simp
  | true => rw [if_pos rfl]; exact ⟨fun q => by omega, fun q => by cases q⟩
theorem l_bitC {s k : Nat} (hs : s < 2 ^ 36) (hk : k < 36) : lg_cmp (lN s &&& lN (2 ^ k)) 0 = b1 (s.testBit k) := by
  have hp : 2 ^ k < 2 ^ 36 := Nat.pow_lt_pow_right (by decide) hk
  rw [wb_and (Nat.lt_trans hs (by decide)) (Nat.lt_trans hp (by decide))]
  have h0 := and_pow0 s k
  cases hb : s.testBit k with
  | false => rw [h0.mpr hb]; rfl
  | true =>
    have e : s &&& 2 ^ k = 2 ^ k := by rw [and_2p, hb]; rfl
    rw [e]
    have : ∀ j, j < 36 → lg_cmp (lN (2 ^ j)) 0 = 1 := by decide +kernel
    exact this k hk
theorem cpI_lt {lo w m s : Nat} (h : s < 2 ^ 36) (hp : pr lo (lo + w) < 36) : cpI lo w m s < 2 ^ 36 := Nat.or_lt_two_pow h (by split; exact Nat.pow_lt_pow_right (by decide) hp; decide)
theorem pr_lt {lo hi : Nat} (h1 : 1 ≤ lo) (h2 : lo < 7) (h3 : 1 ≤ hi) (h4 : hi < 7) : pr lo hi < 36 := (c_pr lo h2 hi h4 h1 h3).2
/-- w stands before v -/
def bfr (s w v : Nat) : Bool := if w < v then !s.testBit (pr w v) else (decide (v < w) && s.testBit (pr v w))
def cnB (n s v : Nat) : Nat := lpN (fun w c => c + (if bfr s w v then 1 else 0)) 1 n 0
def rbyC (n J : Nat) : Bool := fz (iv6 n J) fun s => (List.range n).all fun p => Nat.beq (cnB n s (dgt n J p)) p && fz (cnB n s (p + 1)) fun c => Nat.blt c n && Nat.beq (dgt n J c) (p + 1)
theorem f_rbyC : ∀ n, n < 7 → ∀ J ∈ rws n, rbyC n J = true := by decide +kernel
theorem rby_ok {n J p : Nat} (hn : n < 7) (hJ : J ∈ rws n) (hp : p < n) : cnB n (iv6 n J) (dgt n J p) = p ∧ cnB n (iv6 n J) (p + 1) < n ∧ dgt n J (cnB n (iv6 n J) (p + 1)) = p + 1 := by
  have h := f_rbyC n hn J hJ
  unfold rbyC at h
  rw [fz_eq] at h
  have h := List.all_eq_true.mp h p (List.mem_range.mpr hp)
  rw [fz_eq, Bool.and_eq_true, Bool.and_eq_true] at h
  exact ⟨Nat.eq_of_beq_eq_true h.1, blt_t h.2.1, Nat.eq_of_beq_eq_true h.2.2⟩
theorem rby_L {n J : Nat} {M : List Int32} (hn : n < 7) (hJ : J ∈ rws n) (h : ∀ v, v < n → M[cnB n (iv6 n J) (v + 1)]? = some (nI (v + 1))) : rwL n J M := by
  intro p hp
  have hd := f_dig n hn J hJ p hp
  have h2 := h (dgt n J p - 1) (by omega)
  rw [show dgt n J p - 1 + 1 = dgt n J p by omega, (rby_ok hn hJ hp).1] at h2
  exact h2
theorem cnB_lt (n s v : Nat) : ∀ (k a c : Nat), lpN (fun w c => c + (if bfr s w v then 1 else 0)) a k c ≤ c + k := by
  intro k
  induction k with
  | zero => intro a c; exact Nat.le_refl _
  | succ k ih =>
    intro a c
    rw [lpN_s]
    have h := ih (a + 1) (c + (if bfr s a v then 1 else 0))
    have h2 : (if bfr s a v then 1 else 0) ≤ 1 := by split <;> omega
    omega
theorem c_bf1 {s w v : Nat} (hw : w < 2 ^ 31) (hv : v < 2 ^ 31) (h : nI v ≤ nI w) : (if nI w ≤ nI v then (0 : Int32) else if b1 (s.testBit (pr v w)) = 0 then 0 else 1) = b1 (bfr s w v) := by
  have h1 := (nI_leI hv hw).mp h
  unfold bfr
  rw [c_le hw hv, if_neg (show ¬ w < v by omega)]
  by_cases e : w ≤ v
  · rw [if_pos e, decide_eq_false (by omega)]; rfl
  · rw [if_neg e, decide_eq_true (by omega), Bool.true_and]; cases s.testBit (pr v w) <;> rfl
theorem c_bf2 {s w v : Nat} (hw : w < 2 ^ 31) (hv : v < 2 ^ 31) (h : ¬ nI v ≤ nI w) (h2 : ¬ b1 (s.testBit (pr w v)) = 0) : (0 : Int32) = b1 (bfr s w v) := by
  have h1 : ¬ v ≤ w := fun q => h ((nI_leI hv hw).mpr q)
  unfold bfr
  rw [if_pos (by omega), b1_nz h2]; rfl
theorem c_bf3 {s w v : Nat} (hw : w < 2 ^ 31) (hv : v < 2 ^ 31) (h : ¬ nI v ≤ nI w) (h2 : b1 (s.testBit (pr w v)) = 0) : (1 : Int32) = b1 (bfr s w v) := by
  have h1 : ¬ v ≤ w := fun q => h ((nI_leI hv hw).mpr q)
  unfold bfr
  rw [if_pos (by omega), b1_z h2]; rfl
theorem c_bfr (t : Bool) : (if b1 t = 0 then (0 : Int32) else 1) = nI (if t then 1 else 0) := by cases t <;> rfl
