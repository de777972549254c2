/-! ===== plain law: stems of arcs; a row is the join of its arcs' stems ===== -/
set_option maxRecDepth 100000
def stT : Nat → List Nat
  | 2 => [21]
  | 3 => [213, 312, 231, 132]
  | 4 => [2134, 3124, 2314, 4123, 2413, 3412, 2341, 1324, 1423, 1342, 1243]
  | 5 => [21345, 31245, 23145, 41235, 24135, 34125, 23415, 51234, 25134, 35124, 23514, 45123, 24513, 34512, 23451, 13245, 14235, 13425, 15234, 13524, 14523, 13452, 12435, 12534, 12453, 12354]
  | 6 => [213456, 312456, 231456, 412356, 241356, 341256, 234156, 512346, 251346, 351246, 235146, 451236, 245136, 345126, 234516, 612345, 261345, 361245, 236145, 461235, 246135, 346125, 234615, 561234, 256134, 356124, 235614, 456123, 245613, 345612, 234561, 132456, 142356, 134256, 152346, 135246, 145236, 134526, 162345, 136245, 146235, 134625, 156234, 135624, 145623, 134562, 124356, 125346, 124536, 126345, 124635, 125634, 124563, 123546, 123645, 123564, 123465]
  | _ => []
def stm (n k : Nat) : Nat := (stT n).getD k 0
/-- how many left ones stand ahead of c -/
def lc (n k c : Nat) : Nat := lpN (fun c s => s + (if lft n k c then 1 else 0)) (aL n k + 1) (c - (aL n k + 1)) 0
theorem lc_s {n k c : Nat} (h : aL n k < c) : lc n k (c + 1) = lc n k c + (if lft n k c then 1 else 0) := by
  unfold lc
  rw [show c + 1 - (aL n k + 1) = (c - (aL n k + 1)) + 1 by omega, lpN_last, show aL n k + 1 + (c - (aL n k + 1)) = c by omega]
theorem lcz {n k : Nat} : lc n k (aL n k + 1) = 0 := by unfold lc; rw [Nat.sub_self]; rfl
theorem lc_le {n k : Nat} : ∀ c, aL n k < c → lc n k c ≤ c - (aL n k + 1) := by
  intro c
  induction c with
  | zero => intro h; omega
  | succ c ih =>
    intro h
    by_cases e : aL n k = c
    · rw [← e, lcz]; omega
    · rw [lc_s (by omega)]
      have := ih (by omega)
      split <;> omega
def stC (n k : Nat) : Bool := fz (stm n k) fun R => fz (aL n k) fun lo => fz (aH n k) fun hi => fz (lf n k) fun m =>
  (List.range n).all (fun q => !(Nat.blt q (lo - 1) || Nat.ble hi q) || Nat.beq (dgt n R q) (q + 1)) &&
  ((List.range hi).all (fun c => !Nat.blt lo c || (if lft n k c then Nat.beq (dgt n R (lo - 1 + lc n k c)) c else Nat.beq (dgt n R (lo - 1 + m + 2 + (c - (lo + 1) - lc n k c))) c)) &&
  (Nat.beq (dgt n R (lo - 1 + m)) hi && (Nat.beq (dgt n R (lo + m)) lo && (Nat.beq (lc n k hi) m && (Nat.blt R (10 ^ n) && Nat.beq (mask n R) (2 ^ n - 1))))))
theorem f_stC : ∀ n, n < 7 → ∀ k, k < na n → stC n k = true := by decide +kernel
theorem st_ok {n k : Nat} (hn : n < 7) (hk : k < na n) : (∀ q, q < n → (q < aL n k - 1 ∨ aH n k ≤ q) → dgt n (stm n k) q = q + 1) ∧ (∀ c, aL n k < c → c < aH n k → lft n k c = true → dgt n (stm n k) (aL n k - 1 + lc n k c) = c) ∧ (∀ c, aL n k < c → c < aH n k → lft n k c = false → dgt n (stm n k) (aL n k - 1 + lf n k + 2 + (c - (aL n k + 1) - lc n k c)) = c) ∧ dgt n (stm n k) (aL n k - 1 + lf n k) = aH n k ∧ dgt n (stm n k) (aL n k + lf n k) = aL n k ∧ lc n k (aH n k) = lf n k ∧ stm n k ∈ rws n := by
  have h := f_stC n hn k hk
  have h1n : 1 ≤ n := by have := f_ac n hn k hk; omega
  unfold stC at h
  simp only [fz_eq, Bool.and_eq_true] at h
  obtain ⟨h1, h2, h3, h4, h5, h6, h7⟩ := h
  refine ⟨fun q hq hc => ?_, fun c c1 c2 cl => ?_, fun c c1 c2 cl => ?_, Nat.eq_of_beq_eq_true h3, Nat.eq_of_beq_eq_true h4, Nat.eq_of_beq_eq_true h5, row_of hn h1n (Nat.le_of_ble_eq_true h6) (Nat.eq_of_beq_eq_true h7)⟩
  · have g := List.all_eq_true.mp h1 q (List.mem_range.mpr hq)
    have hb : (Nat.blt q (aL n k - 1) || Nat.ble (aH n k) q) = true := by
      rw [Bool.or_eq_true]
      rcases hc with h | h
      · exact Or.inl (Nat.ble_eq_true_of_le h)
      · exact Or.inr (Nat.ble_eq_true_of_le h)
    rw [hb] at g
    exact Nat.eq_of_beq_eq_true g
  · have g := List.all_eq_true.mp h2 c (List.mem_range.mpr c2)
    rw [show Nat.blt (aL n k) c = true from Nat.ble_eq_true_of_le c1, cl] at g
    exact Nat.eq_of_beq_eq_true g
  · have g := List.all_eq_true.mp h2 c (List.mem_range.mpr c2)
    rw [show Nat.blt (aL n k) c = true from Nat.ble_eq_true_of_le c1, cl] at g
    exact Nat.eq_of_beq_eq_true g
theorem stm_mem {n k : Nat} (hn : n < 7) (hk : k < na n) : stm n k ∈ rws n := (st_ok hn hk).2.2.2.2.2.2
/-- the least row with an arc is its stem -/
def swC1 (n R : Nat) : Bool := fz (pc64 (inv n R)) fun c => (List.range (n - 1)).all fun p => !isD n R p || fz (stm n (aa n R p)) fun S => fz (pc64 (inv n S)) fun m => Nat.blt m c || Nat.beq S R
theorem f_swC1 : ∀ n, n < 7 → ∀ R ∈ rws n, swC1 n R = true := by decide +kernel
def stD (n k : Nat) : Bool := (dgm n (stm n k)).testBit k && Nat.blt (pc64 (inv n (stm n k))) 99
theorem f_stD : ∀ n, n < 7 → ∀ k, k < na n → stD n k = true := by decide +kernel
theorem dgm_bit {n R a : Nat} : (dgm n R).testBit a = true ↔ ∃ p, p < n - 1 ∧ isD n R p = true ∧ aa n R p = a := by
  unfold dgm
  rw [lp_or_bit (fun p => if dgt n R (p + 1) < dgt n R p then 2 ^ aa n R p else 0)]
  constructor
  · rintro (h | ⟨p, h1, h2, h3⟩)
    · rw [Nat.zero_testBit] at h; cases h
    · by_cases hd : dgt n R (p + 1) < dgt n R p
      · rw [if_pos hd, Nat.testBit_two_pow] at h3
        exact ⟨p, by omega, decide_eq_true hd, of_decide_eq_true h3⟩
      · rw [if_neg hd, Nat.zero_testBit] at h3; cases h3
  · rintro ⟨p, h1, h2, h3⟩
    refine Or.inr ⟨p, Nat.zero_le _, by omega, ?_⟩
    rw [if_pos (of_decide_eq_true h2), Nat.testBit_two_pow, h3]
    exact decide_eq_true rfl
theorem st_min {n R a : Nat} (hn : n < 7) (hr : R ∈ rws n) (hb : (dgm n R).testBit a = true) : pc64 (inv n (stm n a)) < pc64 (inv n R) ∨ stm n a = R := by
  obtain ⟨p, p1, p2, p3⟩ := dgm_bit.mp hb
  have h := f_swC1 n hn R hr
  unfold swC1 at h
  rw [fz_eq] at h
  have g := List.all_eq_true.mp h p (List.mem_range.mpr p1)
  rw [p2, p3, fz_eq, fz_eq, Bool.not_true, Bool.false_or, Bool.or_eq_true] at g
  rcases g with g | g
  · exact Or.inl (Nat.le_of_ble_eq_true g)
  · exact Or.inr (Nat.eq_of_beq_eq_true g)
theorem lwF_inv {n a : Nat} (hn : n < 7) (h1 : 1 ≤ n) : ∀ (k i : Nat) (s : Nat × Nat), i + k ≤ wy n → (s = (0, 99) ∨ (s.1 ∈ rws n ∧ (dgm n s.1).testBit a = true ∧ s.2 = pc64 (inv n s.1))) → (lpN (lwF n a) i k s = (0, 99) ∨ ((lpN (lwF n a) i k s).1 ∈ rws n ∧ (dgm n (lpN (lwF n a) i k s).1).testBit a = true ∧ (lpN (lwF n a) i k s).2 = pc64 (inv n (lpN (lwF n a) i k s).1))) ∧ (lpN (lwF n a) i k s).2 ≤ s.2 ∧ ∀ j, i ≤ j → j < i + k → (dgm n (rb n j)).testBit a = true → (lpN (lwF n a) i k s).2 ≤ pc64 (inv n (rb n j)) := by
  intro k
  induction k with
  | zero => intro i s hi h; exact ⟨h, Nat.le_refl _, fun j h1 h2 => by omega⟩
  | succ k ih =>
    intro i s hi h
    rw [lpN_s]
    by_cases hc : (dgm n (rb n i)).testBit a = true ∧ pc64 (inv n (rb n i)) < s.2
    · have e : lwF n a i s = (rb n i, pc64 (inv n (rb n i))) := if_pos hc
      rw [e]
      obtain ⟨q1, q2, q3⟩ := ih (i + 1) (rb n i, pc64 (inv n (rb n i))) (by omega) (Or.inr ⟨rb_mem hn h1 (by omega), hc.1, rfl⟩)
      refine ⟨q1, Nat.le_trans q2 (Nat.le_of_lt hc.2), fun j j1 j2 hj => ?_⟩
      by_cases ej : j = i
      · rw [ej]; exact q2
      · exact q3 j (by omega) (by omega) hj
    · have e : lwF n a i s = s := if_neg hc
      rw [e]
      obtain ⟨q1, q2, q3⟩ := ih (i + 1) s (by omega) h
      refine ⟨q1, q2, fun j j1 j2 hj => ?_⟩
      by_cases ej : j = i
      · rw [ej] at hj ⊢
        exact Nat.le_trans q2 (Nat.le_of_not_lt fun q => hc ⟨hj, q⟩)
      · exact q3 j (by omega) (by omega) hj
theorem lwS_stm {n a : Nat} (hn : n < 7) (h1 : 1 ≤ n) (ha : a < na n) : lwS n a = stm n a := by
  have hS := stm_mem hn ha
  have hD := f_stD n hn a ha
  unfold stD at hD
  rw [Bool.and_eq_true] at hD
  obtain ⟨i, hi, ei⟩ := rb_ex hn h1 hS
  obtain ⟨q1, q2, q3⟩ := lwF_inv (a := a) hn h1 (wy n) 0 (0, 99) (by omega) (Or.inl rfl)
  have hle := q3 i (Nat.zero_le _) (by omega) (by rw [ei]; exact hD.1)
  rw [ei] at hle
  have h99 : pc64 (inv n (stm n a)) < 99 := Nat.le_of_ble_eq_true hD.2
  unfold lwS
  rcases q1 with q1 | ⟨r1, r2, r3⟩
  · rw [q1] at hle; exact absurd hle (by show ¬ 99 ≤ _; omega)
  · rcases st_min hn r1 r2 with h | h
    · rw [r3] at hle; omega
    · exact h.symm
/-! a row is the join of its stems -/
def jF (n : Nat) : Nat → Nat → Nat → Nat
  | 0, _, J => J
  | f + 1, x, J => if x = 0 then J else jF n f (x &&& (x - 1)) (jnS n (inv n J ||| inv n (stm n (lwb x))))
def jW (n : Nat) : Nat → Nat → Nat → Nat
  | 0, _, w => w
  | f + 1, x, w => if Nat.beq x 0 then w else fz (x &&& (x - 1)) fun y => fz (cpN n (w ||| iv6 n (stm n (lwb x)))) fun v => jW n f y v
def jwC (n R : Nat) : Bool := fz (dgm n R) fun x => Nat.beq (jW n 6 x 0) (iv6 n R)
theorem f_jwC : ∀ n, n < 7 → ∀ R ∈ rws n, jwC n R = true := by decide +kernel
theorem jF_ok {n : Nat} (hn : n < 7) (h1 : 1 ≤ n) : ∀ (f x J : Nat), x < 2 ^ na n → J ∈ rws n → jF n f x J ∈ rws n ∧ iv6 n (jF n f x J) = jW n f x (iv6 n J) := by
  intro f
  induction f with
  | zero => intro x J _ hJ; exact ⟨hJ, rfl⟩
  | succ f ih =>
    intro x J hx hJ
    have hna := na_lt n hn
    unfold jF jW
    by_cases e : x = 0
    · rw [if_pos e, if_pos (by rw [e]; rfl)]; exact ⟨hJ, rfl⟩
    · rw [if_neg e, if_neg (fun q => e (Nat.eq_of_beq_eq_true q)), fz_eq, fz_eq]
      obtain ⟨l1, l2, l3⟩ := lwb_ok (m := x) (by omega) (Nat.lt_of_lt_of_le hx (Nat.pow_le_pow_right (by decide) (by omega)))
      have hs := stm_mem hn (bit_lt hx l2)
      have hj := jn2_mem hn h1 hJ hs
      have := ih (x &&& (x - 1)) _ (Nat.lt_of_le_of_lt Nat.and_le_left hx) hj
      rw [← jn_law hn h1 hJ hs] at this
      exact this
theorem cv6_0 (n : Nat) : cv6 n 0 = 0 := by
  apply Nat.eq_of_testBit_eq
  intro i
  unfold cv6
  rw [orL_bit, Nat.zero_testBit, Bool.false_or]
  rw [List.any_eq_false]
  intro q _
  rw [Nat.zero_testBit, if_neg (by decide), Nat.zero_testBit]
  decide
theorem jF_row {n R : Nat} (hn : n < 7) (h1 : 1 ≤ n) (hr : R ∈ rws n) (hd : dgm n R < 2 ^ na n) : jF n 6 (dgm n R) (rb n 0) = R := by
  have h0 := rb_mem hn h1 (wy_in n hn).1
  obtain ⟨q1, q2⟩ := jF_ok hn h1 6 (dgm n R) (rb n 0) hd h0
  have e0 : iv6 n (rb n 0) = 0 := by rw [← (row_ok hn h0).1, f_id0 n hn h1]; exact cv6_0 n
  rw [e0] at q2
  have h := f_jwC n hn R hr
  unfold jwC at h
  rw [fz_eq] at h
  have e := Nat.eq_of_beq_eq_true h
  rw [e] at q2
  have e1 := Nat.eq_of_beq_eq_true (f_rwC n hn _ q1)
  have e2 := Nat.eq_of_beq_eq_true (f_rwC n hn R hr)
  exact e1.symm.trans ((congrArg (rwN n) q2).trans e2)
theorem dgm_na {n R : Nat} (hn : n < 7) (hr : R ∈ rws n) : dgm n R < 2 ^ na n := lp_or_lt2 (N := n - 1) _ (fun p hp => if_lt_pow (f_aa n hn R hr p hp).1) (n - 1) 0 0 (by omega) (Nat.two_pow_pos _)
/-- the whole join: any number of steps that is enough -/
theorem jF_fuel {n : Nat} : ∀ (f x J : Nat), pc64 x ≤ f → x < 2 ^ 64 → ∀ f2, pc64 x ≤ f2 → jF n f x J = jF n f2 x J := by
  intro f
  induction f with
  | zero =>
    intro x J h hx f2 _
    have : x = 0 := by
      apply Classical.byContradiction
      intro e
      have := pc64_pred x x (Nat.le_refl _) (by omega) hx
      omega
    subst this
    cases f2 with
    | zero => rfl
    | succ f2 => unfold jF; rfl
  | succ f ih =>
    intro x J h hx f2 h2
    by_cases e : x = 0
    · subst e
      cases f2 with
      | zero => unfold jF; rfl
      | succ f2 => unfold jF; rfl
    · have hp := pc64_pred x x (Nat.le_refl _) (by omega) hx
      cases f2 with
      | zero => omega
      | succ f2 =>
        unfold jF
        rw [if_neg e, if_neg e]
        exact ih _ _ (by omega) (Nat.lt_of_le_of_lt Nat.and_le_left hx) f2 (by omega)
def jfin (n S : Nat) : Nat := jF n 64 S (rb n 0)
def pcD (n R : Nat) : Bool := Nat.ble (pc64 (dgm n R)) 6
theorem f_pcD : ∀ n, n < 7 → ∀ R ∈ rws n, pcD n R = true := by decide +kernel
theorem jfin_row {n R : Nat} (hn : n < 7) (h1 : 1 ≤ n) (hr : R ∈ rws n) : jfin n (dgm n R) = R := by
  have hna := na_lt n hn
  unfold jfin
  rw [jF_fuel 64 _ _ (pc64_le _) (Nat.lt_of_lt_of_le (dgm_na hn hr) (Nat.pow_le_pow_right (by decide) (by omega))) 6 (Nat.le_of_ble_eq_true (f_pcD n hn R hr))]
  exact jF_row hn h1 hr (dgm_na hn hr)
theorem jfin_mem {n S : Nat} (hn : n < 7) (h1 : 1 ≤ n) (hS : S < 2 ^ na n) : jfin n S ∈ rws n := (jF_ok hn h1 64 S (rb n 0) hS (rb_mem hn h1 (wy_in n hn).1)).1
theorem roF_hit {n S R : Nat} (hn : n < 7) (h1 : 1 ≤ n) (hu : ∀ i, i < wy n → dgm n (rb n i) = S → rb n i = R) : ∀ (k i j : Nat), i ≤ j → j < i + k → i + k ≤ wy n → dgm n (rb n j) = S → roF n S k i = nI R := by
  intro k
  induction k with
  | zero => intro i j h1 h2; omega
  | succ k ih =>
    intro i j j1 j2 hk hj
    unfold roF
    by_cases e : dgm n (rb n i) = S
    · rw [if_pos e, hu i (by omega) e]
    · rw [if_neg e]
      have : i ≠ j := fun q => e (by rw [q]; exact hj)
      exact ih (i + 1) j (by omega) (by omega) (by omega) hj
theorem roF_no {n S : Nat} : ∀ (k i : Nat), (∀ j, i ≤ j → j < i + k → dgm n (rb n j) ≠ S) → roF n S k i = -3 := by
  intro k
  induction k with
  | zero => intro i _; rfl
  | succ k ih =>
    intro i h
    unfold roF
    rw [if_neg (h i (Nat.le_refl _) (by omega))]
    exact ih (i + 1) (fun j j1 j2 => h j (by omega) (by omega))
theorem rowOf_law {n S : Nat} (hn : n < 7) (h1 : 1 ≤ n) (hS : S < 2 ^ na n) : (if dgm n (jfin n S) = S then nI (jfin n S) else -3) = roF n S (wy n) 0 := by
  by_cases h : dgm n (jfin n S) = S
  · rw [if_pos h]
    obtain ⟨j, hj, ej⟩ := rb_ex hn h1 (jfin_mem hn h1 hS)
    refine (roF_hit (R := jfin n S) hn h1 (fun i hi e => ?_) (wy n) 0 j (Nat.zero_le _) (by omega) (by omega) (by rw [ej]; exact h)).symm
    have := jfin_row hn h1 (rb_mem hn h1 hi)
    rw [e] at this
    exact this.symm
  · rw [if_neg h]
    refine (roF_no (wy n) 0 (fun j _ j2 e => h ?_)).symm
    have hr := rb_mem hn h1 (show j < wy n by omega)
    have := jfin_row hn h1 hr
    rw [e] at this
    rw [this]
    exact e

