/-! ===== plain law: jumps ===== -/
set_option maxRecDepth 100000
/-- a digit behind a jump from p to t -/
def mvd (n R p t q : Nat) : Nat := if Nat.ble p t then (if Nat.blt q p then dgt n R q else if Nat.blt q t then dgt n R (q + 1) else if Nat.beq q t then dgt n R p else dgt n R q) else (if Nat.blt q t then dgt n R q else if Nat.beq q t then dgt n R p else if Nat.ble q p then dgt n R (q - 1) else dgt n R q)
def mvN (n R p t : Nat) : Nat := lpN (fun q v => 10 * v + mvd n R p t q) 0 n 0
/-- may what stands at p pass to t -/
def mpI (n R p : Nat) : Nat → Bool → Bool := fun q s => s && Nat.ble (dgt n R q) (dgt n R p)
def mpB (n R p t : Nat) : Bool := lpN (mpI n R p) (Nat.min p t) (Nat.max p t + 1 - Nat.min p t) true
def jmUN (n v : Nat) : Nat → Nat → Nat → Nat
  | 0, _, s => s
  | k + 1, p, s => if Nat.blt v (dgt n s (p + 1)) then 0 else jmUN n v k (p + 1) (sw n s p)
def jmDN (n v : Nat) : Nat → Nat → Nat → Nat
  | 0, _, s => s
  | k + 1, p, s => if Nat.blt v (dgt n s (p - 1)) then 0 else jmDN n v k (p - 1) (sw n s (p - 1))
def jC (n R : Nat) : Bool := (List.range n).all fun p => (List.range n).all fun t => fz (dgt n R p) fun v => fz (mvN n R p t) fun N => fz (if Nat.blt p t then jmUN n v (t - p) p R else jmDN n v (p - t) p R) fun X =>
  Nat.beq X (if mpB n R p t then N else 0) && (Nat.blt N (10 ^ n) && (Nat.beq (mask n N) (2 ^ n - 1) && (Nat.beq (plc n R v n 0) p && (List.range n).all fun q => Nat.beq (dgt n N q) (mvd n R p t q))))
theorem f_jC1 : ∀ n, n < 6 → ∀ R ∈ rws n, jC n R = true := by decide +kernel
theorem f_jC6_0 : ∀ i, i < 80 → jC 6 ((rws 6).getD (0 + i) 0) = true := by decide +kernel
theorem f_jC6_1 : ∀ i, i < 80 → jC 6 ((rws 6).getD (80 + i) 0) = true := by decide +kernel
theorem f_jC6_2 : ∀ i, i < 80 → jC 6 ((rws 6).getD (160 + i) 0) = true := by decide +kernel
theorem f_jC6_3 : ∀ i, i < 80 → jC 6 ((rws 6).getD (240 + i) 0) = true := by decide +kernel
theorem f_jC6_4 : ∀ i, i < 80 → jC 6 ((rws 6).getD (320 + i) 0) = true := by decide +kernel
theorem f_jC6_5 : ∀ i, i < 80 → jC 6 ((rws 6).getD (400 + i) 0) = true := by decide +kernel
theorem f_jC6_6 : ∀ i, i < 80 → jC 6 ((rws 6).getD (480 + i) 0) = true := by decide +kernel
theorem f_jC6_7 : ∀ i, i < 80 → jC 6 ((rws 6).getD (560 + i) 0) = true := by decide +kernel
theorem f_jC6_8 : ∀ i, i < 80 → jC 6 ((rws 6).getD (640 + i) 0) = true := by decide +kernel
theorem f_len6 : (rws 6).length = 720 := by decide +kernel
theorem f_jC6 : ∀ R ∈ rws 6, jC 6 R = true := by
  intro R hR
  obtain ⟨i, hi, e⟩ := List.getElem_of_mem hR
  rw [f_len6] at hi
  have e2 : (rws 6).getD i 0 = R := by rw [List.getD_eq_getElem?_getD, List.getElem?_eq_getElem (by rw [f_len6]; exact hi), e]; rfl
  rw [← e2]
  by_cases h0 : i < 80
  · have := f_jC6_0 (i - 0) (by omega)
    rwa [show 0 + (i - 0) = i by omega] at this
  by_cases h1 : i < 160
  · have := f_jC6_1 (i - 80) (by omega)
    rwa [show 80 + (i - 80) = i by omega] at this
  by_cases h2 : i < 240
  · have := f_jC6_2 (i - 160) (by omega)
    rwa [show 160 + (i - 160) = i by omega] at this
  by_cases h3 : i < 320
  · have := f_jC6_3 (i - 240) (by omega)
    rwa [show 240 + (i - 240) = i by omega] at this
  by_cases h4 : i < 400
  · have := f_jC6_4 (i - 320) (by omega)
    rwa [show 320 + (i - 320) = i by omega] at this
  by_cases h5 : i < 480
  · have := f_jC6_5 (i - 400) (by omega)
    rwa [show 400 + (i - 400) = i by omega] at this
  by_cases h6 : i < 560
  · have := f_jC6_6 (i - 480) (by omega)
    rwa [show 480 + (i - 480) = i by omega] at this
  by_cases h7 : i < 640
  · have := f_jC6_7 (i - 560) (by omega)
    rwa [show 560 + (i - 560) = i by omega] at this
  have := f_jC6_8 (i - 640) (by omega)
  rwa [show 640 + (i - 640) = i by omega] at this
theorem f_jC {n R : Nat} (hn : n < 7) (hr : R ∈ rws n) : jC n R = true := by
  by_cases h : n < 6
  · exact f_jC1 n h R hr
  · obtain rfl : n = 6 := by omega
    exact f_jC6 R hr
theorem mem_mask {n N : Nat} (hn : n < 7) (h1 : 1 ≤ n) (hl : N < 10 ^ n) (hm : mask n N = 2 ^ n - 1) : N ∈ rws n := by
  have h6 : 10 ^ n ≤ 10 ^ 6 := Nat.pow_le_pow_right (by decide) (by omega)
  have h31 : N < 2 ^ 31 := by omega
  have hb : rowB n (nI N) = true := by
    unfold rowB
    rw [decide_eq_false (fun h => by have := Int32.lt_iff_toInt_lt.mp h; rw [nI_toInt h31] at this; have z : (0 : Int32).toInt = 0 := rfl; omega), decide_eq_true (nI_lt hl (by omega)), show (nI N).toNatClampNeg = N from nI_clamp h31, hm]
    simp
  obtain ⟨R, hR, e⟩ := rowB_t hn h1 hb
  rw [(nI_eq h31 (R31 hn hR)).mp e]
  exact hR
theorem jm_ok {n R p t : Nat} (hn : n < 7) (h1 : 1 ≤ n) (hr : R ∈ rws n) (hp : p < n) (ht : t < n) : (if p < t then jmUN n (dgt n R p) (t - p) p R else jmDN n (dgt n R p) (p - t) p R) = (if mpB n R p t then mvN n R p t else 0) ∧ mvN n R p t ∈ rws n ∧ plc n R (dgt n R p) n 0 = p ∧ ∀ q, q < n → dgt n (mvN n R p t) q = mvd n R p t q := by
  have h := List.all_eq_true.mp (List.all_eq_true.mp (f_jC hn hr) p (List.mem_range.mpr hp)) t (List.mem_range.mpr ht)
  simp only [fz_eq, Bool.and_eq_true] at h
  obtain ⟨a1, a2, a3, a4, a5⟩ := h
  have e1 := Nat.eq_of_beq_eq_true a1
  refine ⟨?_, mem_mask hn h1 (blt_t a2) (Nat.eq_of_beq_eq_true a3), Nat.eq_of_beq_eq_true a4, fun q hq => Nat.eq_of_beq_eq_true (List.all_eq_true.mp a5 q (List.mem_range.mpr hq))⟩
  by_cases c : p < t
  · rw [if_pos (show Nat.blt p t = true from Nat.ble_eq_true_of_le c)] at e1
    rw [if_pos c]; exact e1
  · rw [if_neg (show ¬ Nat.blt p t = true from fun q => c (blt_t q))] at e1
    rw [if_neg c]; exact e1
theorem r_pos : ∀ n, n < 7 → 1 ≤ n → ∀ R ∈ rws n, R ≠ 0 := by decide +kernel
theorem blt_iff {a b : Nat} : Nat.blt a b = true ↔ a < b := ⟨blt_t, fun h => Nat.ble_eq_true_of_le h⟩
theorem jmU_N {n v : Nat} (hn : n < 7) (h1 : 1 ≤ n) : ∀ (k p s : Nat), s ∈ rws n → p + k ≤ n - 1 → jmU n v k p s = if jmUN n v k p s = 0 then -3 else nI (jmUN n v k p s) := by
  intro k
  induction k with
  | zero => intro p s hs _; show nI s = if s = 0 then _ else _; rw [if_neg (r_pos n hn h1 s hs)]; rfl
  | succ k ih =>
    intro p s hs hp
    show (if v < dgt n s (p + 1) then -3 else jmU n v k (p + 1) (sw n s p)) = if (if Nat.blt v (dgt n s (p + 1)) then 0 else jmUN n v k (p + 1) (sw n s p)) = 0 then -3 else nI (if Nat.blt v (dgt n s (p + 1)) then 0 else jmUN n v k (p + 1) (sw n s p))
    by_cases c : v < dgt n s (p + 1)
    · rw [if_pos c, if_pos (blt_iff.mpr c), if_pos rfl]
    · rw [if_neg c, if_neg (fun q => c (blt_iff.mp q))]
      exact ih (p + 1) _ (f_sw hn hs (by omega)) (by omega)
theorem jmD_N {n v : Nat} (hn : n < 7) (h1 : 1 ≤ n) : ∀ (k p s : Nat), s ∈ rws n → k ≤ p → p < n → jmD n v k p s = if jmDN n v k p s = 0 then -3 else nI (jmDN n v k p s) := by
  intro k
  induction k with
  | zero => intro p s hs _ _; show nI s = if s = 0 then _ else _; rw [if_neg (r_pos n hn h1 s hs)]; rfl
  | succ k ih =>
    intro p s hs hp hpn
    show (if v < dgt n s (p - 1) then -3 else jmD n v k (p - 1) (sw n s (p - 1))) = if (if Nat.blt v (dgt n s (p - 1)) then 0 else jmDN n v k (p - 1) (sw n s (p - 1))) = 0 then -3 else nI (if Nat.blt v (dgt n s (p - 1)) then 0 else jmDN n v k (p - 1) (sw n s (p - 1)))
    by_cases c : v < dgt n s (p - 1)
    · rw [if_pos c, if_pos (blt_iff.mpr c), if_pos rfl]
    · rw [if_neg c, if_neg (fun q => c (blt_iff.mp q))]
      exact ih (p - 1) _ (f_sw hn hs (by omega)) (by omega) (by omega)
theorem jmp_in {n R p t : Nat} {D : Int32} (hn : n < 7) (h1 : 1 ≤ n) (hr : R ∈ rws n) (hp : p < n) (ht : t < n) (hD : (p : Int) + D.toInt = t) : o_jumped n R (dgt n R p) D = if mpB n R p t then nI (mvN n R p t) else -3 := by
  obtain ⟨e1, e2, e3, -⟩ := jm_ok hn h1 hr hp ht
  have hx := r_pos n hn h1 _ e2
  have key : ∀ X : Nat, X = (if mpB n R p t then mvN n R p t else 0) → (if X = 0 then (-3 : Int32) else nI X) = if mpB n R p t then nI (mvN n R p t) else -3 := fun X hX => by
    subst hX
    by_cases c : mpB n R p t = true
    · rw [if_pos c, if_pos c, if_neg hx]
    · rw [if_neg c, if_neg c, if_pos rfl]
  unfold o_jumped
  rw [e3, if_pos (by omega)]
  by_cases c : p < t
  · rw [if_pos (by omega), show D.toInt.toNat = t - p by omega, jmU_N hn h1 _ _ _ hr (by omega)]
    rw [if_pos c] at e1
    exact key _ e1
  · rw [if_neg (by omega), show (-D.toInt).toNat = p - t by omega, jmD_N hn h1 _ _ _ hr (by omega) hp]
    rw [if_neg c] at e1
    exact key _ e1
theorem jmp_out {n R p : Nat} {D : Int32} (hn : n < 7) (h1 : 1 ≤ n) (hr : R ∈ rws n) (hp : p < n) (h : ¬ (0 ≤ (p : Int) + D.toInt ∧ (p : Int) + D.toInt < n)) : o_jumped n R (dgt n R p) D = -3 := by
  unfold o_jumped
  rw [(jm_ok hn h1 hr hp hp).2.2.1, if_neg h]
