/-! ===== lots ===== -/
set_option maxRecDepth 100000
def lq (z : Int32) : Nat := z.toUInt32.toNat / 65536
theorem lq_lt (z : Int32) : lq z < 65536 := by
  have := z.toUInt32.toNat_lt
  unfold lq; omega
theorem ushr16 (z : Int32) : (z.toUInt32 >>> ((16 : Int32).toUInt32 &&& Int32.toUInt32 31)).toInt32 = nI (lq z) := by
  apply Int32.toBitVec_inj.mp
  apply BitVec.eq_of_toNat_eq
  have h := lq_lt z
  show (z.toUInt32 >>> (16 : UInt32)).toNat = (BitVec.ofNat 32 (lq z)).toNat
  rw [BitVec.toNat_ofNat, Nat.mod_eq_of_lt (by omega), UInt32.toNat_shiftRight]
  show z.toUInt32.toNat >>> 16 = _
  rw [Nat.shiftRight_eq_div_pow]; rfl
def lot (z : Int32) : Int32 := z * 1103515245 + 12345
/-- digits of two places changed -/
def swp (n R p q : Nat) : Nat := R + dgt n R q * 10 ^ (n - 1 - p) + dgt n R p * 10 ^ (n - 1 - q) - dgt n R p * 10 ^ (n - 1 - p) - dgt n R q * 10 ^ (n - 1 - q)
/-- the number of the first digits -/
def mkN (d : Nat → Nat) : Nat → Nat
  | 0 => 0
  | p + 1 => 10 * mkN d p + d p
theorem mkN_dgt {n R : Nat} (hR : R < 10 ^ n) : mkN (dgt n R) n = R := by
  have key : ∀ p, p ≤ n → mkN (dgt n R) p = R / 10 ^ (n - p) := by
    intro p
    induction p with
    | zero => intro _; rw [Nat.sub_zero, Nat.div_eq_of_lt hR]; rfl
    | succ p ih =>
      intro hp
      show 10 * mkN (dgt n R) p + dgt n R p = _
      rw [ih (by omega)]
      unfold dgt
      rw [show n - 1 - p = n - (p + 1) by omega, show n - p = n - (p + 1) + 1 by omega]
      exact dig_step R _
  have := key n (Nat.le_refl _)
  rw [Nat.sub_self, Nat.pow_zero, Nat.div_one] at this
  exact this
theorem mkN_lt {d : Nat → Nat} : ∀ n, (∀ p, p < n → d p < 10) → mkN d n < 10 ^ n := by
  intro n
  induction n with
  | zero => intro _; exact Nat.one_pos
  | succ n ih =>
    intro h
    have h1 := ih (fun p hp => h p (by omega))
    have h2 := h n (by omega)
    show 10 * mkN d n + d n < 10 ^ (n + 1)
    rw [Nat.pow_succ]; omega
theorem mkN_div {d : Nat → Nat} : ∀ (k p : Nat), (∀ i, i < p + k → d i < 10) → mkN d (p + k) / 10 ^ k = mkN d p := by
  intro k
  induction k with
  | zero => intro p _; rw [Nat.pow_zero, Nat.div_one]; rfl
  | succ k ih =>
    intro p h
    rw [Nat.pow_succ, Nat.mul_comm, ← Nat.div_div_eq_div_mul]
    have : mkN d (p + (k + 1)) / 10 = mkN d (p + k) := by
      show (10 * mkN d (p + k) + d (p + k)) / 10 = _
      have := h (p + k) (by omega)
      omega
    rw [this]
    exact ih p (fun i hi => h i (by omega))
theorem dgt_mkN {d : Nat → Nat} {n p : Nat} (h : ∀ i, i < n → d i < 10) (hp : p < n) : dgt n (mkN d n) p = d p := by
  unfold dgt
  have h1 := mkN_div (d := d) (n - 1 - p) (p + 1) (fun i hi => h i (by omega))
  rw [show p + 1 + (n - 1 - p) = n by omega] at h1
  rw [h1]
  show (10 * mkN d p + d p) % 10 = d p
  have := h p hp
  omega
theorem mkN_congr {d d' : Nat → Nat} : ∀ n, (∀ p, p < n → d p = d' p) → mkN d n = mkN d' n := by
  intro n
  induction n with
  | zero => intro _; rfl
  | succ n ih =>
    intro h
    show 10 * mkN d n + d n = 10 * mkN d' n + d' n
    rw [ih (fun p hp => h p (by omega)), h n (by omega)]
theorem mkN_upd {d : Nat → Nat} {p x : Nat} : ∀ n, p < n → mkN (fun i => if i = p then x else d i) n + d p * 10 ^ (n - 1 - p) = mkN d n + x * 10 ^ (n - 1 - p) := by
  intro n
  induction n with
  | zero => intro h; omega
  | succ n ih =>
    intro h
    show 10 * mkN (fun i => if i = p then x else d i) n + (if n = p then x else d n) + _ = 10 * mkN d n + d n + _
    by_cases e : n = p
    · subst e
      rw [if_pos rfl, show n + 1 - 1 - n = 0 by omega, Nat.pow_zero, mkN_congr (d' := d) n (fun i hi => if_neg (by omega))]
      omega
    · rw [if_neg e, show n + 1 - 1 - p = (n - 1 - p) + 1 by omega, Nat.pow_succ]
      have := ih (by omega)
      rw [show d p * (10 ^ (n - 1 - p) * 10) = 10 * (d p * 10 ^ (n - 1 - p)) by rw [← Nat.mul_assoc, Nat.mul_comm], show x * (10 ^ (n - 1 - p) * 10) = 10 * (x * 10 ^ (n - 1 - p)) by rw [← Nat.mul_assoc, Nat.mul_comm]]
      omega
theorem lp_or_bit (f : Nat → Nat) (i : Nat) : ∀ (m a s : Nat), (lpN (fun p s => s ||| f p) a m s).testBit i = true ↔ s.testBit i = true ∨ ∃ p, a ≤ p ∧ p < a + m ∧ (f p).testBit i = true := by
  intro m
  induction m with
  | zero => intro a s; exact ⟨Or.inl, fun h => h.elim id (fun ⟨p, h1, h2, _⟩ => by omega)⟩
  | succ m ih =>
    intro a s
    rw [lpN_s, ih (a + 1) (s ||| f a), Nat.testBit_or, Bool.or_eq_true]
    constructor
    · rintro ((h | h) | ⟨p, h1, h2, h3⟩)
      · exact Or.inl h
      · exact Or.inr ⟨a, Nat.le_refl _, by omega, h⟩
      · exact Or.inr ⟨p, by omega, by omega, h3⟩
    · rintro (h | ⟨p, h1, h2, h3⟩)
      · exact Or.inl (Or.inl h)
      · by_cases e : p = a
        · subst e; exact Or.inl (Or.inr h3)
        · exact Or.inr ⟨p, by omega, by omega, h3⟩
theorem mbit_ltn {n d : Nat} : mbit n d < 2 ^ n := by
  unfold mbit
  split
  · exact Nat.two_pow_pos n
  · split
    · exact Nat.two_pow_pos n
    · exact Nat.pow_lt_pow_right (by decide) (by omega)
/-- digits that are those of a row, in another order, make a row -/
theorem row_perm {n R : Nat} {d : Nat → Nat} (hn : n < 7) (h1 : 1 ≤ n) (hr : R ∈ rws n) (hd : ∀ p, p < n → d p < 10) (hc : ∀ p, p < n → ∃ q, q < n ∧ d q = dgt n R p) : mkN d n ∈ rws n := by
  refine mask_row hn h1 (mkN_lt n hd) ?_
  apply Nat.eq_of_testBit_eq
  intro i
  rw [Nat.testBit_two_pow_sub_one]
  by_cases hi : i < n
  · rw [decide_eq_true hi]
    have hf : (mask n R).testBit i = true := by rw [f_full n hn R hr, Nat.testBit_two_pow_sub_one, decide_eq_true hi]
    have h2 := (lp_or_bit (fun p => mbit n (dgt n R p)) i n 0 0).mp hf
    rcases h2 with h2 | ⟨p, _, hp, h3⟩
    · rw [Nat.zero_testBit] at h2; cases h2
    · obtain ⟨q, hq, e⟩ := hc p (by omega)
      exact (lp_or_bit (fun p => mbit n (dgt n (mkN d n) p)) i n 0 0).mpr (Or.inr ⟨q, Nat.zero_le _, by omega, by rw [dgt_mkN hd hq, e]; exact h3⟩)
  · rw [decide_eq_false hi]
    apply Nat.testBit_lt_two_pow
    refine Nat.lt_of_lt_of_le (lp_or_lt (k := n) (fun p => mbit n (dgt n (mkN d n) p)) (fun p => mbit_ltn) n 0 0 (Nat.two_pow_pos n)) (Nat.pow_le_pow_right (by decide) (by omega))
theorem dg_le {R P Q : Nat} (hP : 0 < P) (hQ : 10 * P ∣ Q) : R / P % 10 * P + R / Q % 10 * Q ≤ R := by
  have h1 : R / P % 10 * P ≤ R % Q := by
    have e1 : R % (P * 10) = R % P + P * (R / P % 10) := Nat.mod_mul
    have e2 : R % Q % (10 * P) = R % (10 * P) := Nat.mod_mod_of_dvd R hQ
    have e3 : R % Q % (10 * P) ≤ R % Q := Nat.mod_le _ _
    rw [Nat.mul_comm 10 P] at e2 e3
    rw [Nat.mul_comm]
    omega
  have h2 : R / Q % 10 * Q ≤ R / Q * Q := Nat.mul_le_mul_right Q (Nat.mod_le _ _)
  have h3 : R / Q * Q + R % Q = R := by rw [Nat.mul_comm]; exact Nat.div_add_mod R Q
  omega
theorem swp_le {n R p q : Nat} (hp : p < n) (hq : q < p + 1) : dgt n R p * 10 ^ (n - 1 - p) + dgt n R q * 10 ^ (n - 1 - q) ≤ R + dgt n R q * 10 ^ (n - 1 - p) + dgt n R p * 10 ^ (n - 1 - q) := by
  by_cases e : q = p
  · subst e; omega
  · have h := dg_le (R := R) (P := 10 ^ (n - 1 - p)) (Q := 10 ^ (n - 1 - q)) (Nat.pow_pos (by decide)) (by rw [show n - 1 - q = (n - 1 - p) + 1 + (p - q - 1) by omega, Nat.pow_add, Nat.pow_succ, Nat.mul_comm 10]; exact Nat.dvd_mul_right _ _)
    unfold dgt
    omega
theorem i32_ring (r a b p q : Int32) : r + (a - b) * (p - q) = r + a * p + b * q - b * p - a * q := by grind
theorem f_swpI {n R p q : Nat} (hp : p < n) (hq : q < p + 1) : nI R + (nI (dgt n R q) - nI (dgt n R p)) * (nI (10 ^ (n - 1 - p)) - nI (10 ^ (n - 1 - q))) = nI (swp n R p q) := by
  have h := swp_le (R := R) hp hq
  unfold swp
  rw [i32_ring, ← pk_sub (by omega), ← pk_sub (by omega), ← nI_add, ← nI_add]
  rw [show nI (dgt n R q * 10 ^ (n - 1 - p)) = nI (dgt n R q) * nI (10 ^ (n - 1 - p)) from Int32.ofNat_mul _ _, show nI (dgt n R p * 10 ^ (n - 1 - q)) = nI (dgt n R p) * nI (10 ^ (n - 1 - q)) from Int32.ofNat_mul _ _, show nI (dgt n R p * 10 ^ (n - 1 - p)) = nI (dgt n R p) * nI (10 ^ (n - 1 - p)) from Int32.ofNat_mul _ _, show nI (dgt n R q * 10 ^ (n - 1 - q)) = nI (dgt n R q) * nI (10 ^ (n - 1 - q)) from Int32.ofNat_mul _ _]
def swD (n R p q : Nat) : Nat → Nat := fun i => if i = p then dgt n R q else if i = q then dgt n R p else dgt n R i
theorem swp_mk {n R p q : Nat} (hR : R < 10 ^ n) (hp : p < n) (hq : q < p + 1) : swp n R p q = mkN (swD n R p q) n := by
  have hle := swp_le (R := R) hp hq
  by_cases e : q = p
  · subst e
    have h1 : mkN (swD n R q q) n = mkN (dgt n R) n := mkN_congr n (fun i _ => by unfold swD; by_cases h : i = q <;> simp [h])
    rw [h1, mkN_dgt hR]
    unfold swp; omega
  · have h1 := mkN_upd (d := fun i => if i = q then dgt n R p else dgt n R i) (p := p) (x := dgt n R q) n hp
    have h2 := mkN_upd (d := dgt n R) (p := q) (x := dgt n R p) n (by omega)
    rw [mkN_dgt hR] at h2
    have h1' : mkN (swD n R p q) n + (if p = q then dgt n R p else dgt n R p) * 10 ^ (n - 1 - p) = mkN (fun i => if i = q then dgt n R p else dgt n R i) n + dgt n R q * 10 ^ (n - 1 - p) := h1
    rw [ite_self] at h1'
    unfold swp
    omega
theorem swD_lt {n R p q : Nat} : ∀ i, swD n R p q i < 10 := by
  intro i
  unfold swD
  split
  · exact dgt_lt _ _ _
  · split
    · exact dgt_lt _ _ _
    · exact dgt_lt _ _ _
theorem f_swp {n : Nat} (hn : n < 7) {R : Nat} (hr : R ∈ rws n) {p q : Nat} (hp : p < n) (hq : q < p + 1) : swp n R p q ∈ rws n := by
  rw [swp_mk (f_tl n hn R hr) hp hq]
  refine row_perm hn (by omega) hr (fun i _ => swD_lt i) (fun i hi => ?_)
  by_cases e1 : i = p
  · subst e1
    refine ⟨q, by omega, ?_⟩
    unfold swD
    by_cases e : q = i
    · rw [if_pos e, e]
    · rw [if_neg e, if_pos rfl]
  · by_cases e2 : i = q
    · subst e2; exact ⟨p, hp, by unfold swD; rw [if_pos rfl]⟩
    · exact ⟨i, hi, by unfold swD; rw [if_neg e1, if_neg e2]⟩
theorem dgt_swp {n R p q i : Nat} (hR : R < 10 ^ n) (hp : p < n) (hq : q < p + 1) (hi : i < n) : dgt n (swp n R p q) i = swD n R p q i := by
  rw [swp_mk hR hp hq, dgt_mkN (fun i _ => swD_lt i) hi]
/-- the seed behind k lots -/
def ltK (z : Int32) : Nat → Int32
  | 0 => z
  | k + 1 => lot (ltK z k)
theorem ltK_s (z : Int32) (k : Nat) : ltK z (k + 1) = lot (ltK z k) := rfl
theorem ltK_add (z : Int32) (a : Nat) : ∀ b, ltK z (a + b) = ltK (ltK z a) b := by
  intro b
  induction b with
  | zero => rfl
  | succ b ih => rw [← Nat.add_assoc, ltK_s, ltK_s, ih]
/-- a row by lot -/
def lrF (n : Nat) (z : Int32) : Nat → Nat → Nat := fun k r => swp n r (n - 1 - k) (lq (ltK z (k + 1)) % (n - k))
def lotR (n : Nat) (z : Int32) : Nat := lpN (lrF n z) 0 (n - 1) (rb n 0)
theorem lrF_mem {n : Nat} {z : Int32} (hn : n < 7) : ∀ (m k r : Nat), k + m ≤ n - 1 → r ∈ rws n → lpN (lrF n z) k m r ∈ rws n := by
  intro m
  induction m with
  | zero => intro k r _ h; exact h
  | succ m ih =>
    intro k r hk h
    rw [lpN_s]
    refine ih (k + 1) _ (by omega) ?_
    unfold lrF
    refine f_swp hn h (by omega) ?_
    have := Nat.mod_lt (lq (ltK z (k + 1))) (show 0 < n - k by omega)
    omega
/-- drawn: how many rows are least -/
def drF (n g : Nat) (z : Int32) : Nat → Nat → Nat := fun k s => s + (if lst n g (lotR n (ltK z ((n - 1) * k))) then 1 else 0)
def o_drawn (n g : Nat) (z x : Int32) : Int32 := if in1 x 60 then nI (lpN (drF n g z) 0 (tn x) 0) else -1
def s_drawn (n : Nat) (z x : Int32) : Int32 := if in1 x 60 then ltK z ((n - 1) * tn x) else z
def o_many (n g : Nat) (mk st tp tr : Nat) (x : Int32) : Int32 := if x = 0 then nI n else if x = 1 then nI (na n) else if x = 2 then nI (pc64 g) else if x = 3 then nI (mnC n g false) else if x = 4 then nI (mnC n g true) else if x = 5 then nI mk else if x = 6 then nI st else if x = 7 then nI tp else if x = 8 then nI tr else -1
