/-! ===== the class: rows turned, rows in their order, rows read ===== -/
set_option maxRecDepth 100000
def trnC (n R : Nat) : Bool := fz (trn n R n 0) fun S => Nat.blt S (10 ^ n) && (List.range n).all fun p => Nat.beq (dgt n S p) (dgt n R (n - 1 - p))
theorem f_trnC : ∀ n, n < 7 → ∀ R ∈ rws n, trnC n R = true := by decide +kernel
theorem blt_t {a b : Nat} (h : Nat.blt a b = true) : a < b := Nat.lt_of_succ_le (Nat.le_of_ble_eq_true h)
theorem trn_ok {n R : Nat} (hn : n < 7) (hr : R ∈ rws n) : trn n R n 0 < 10 ^ n ∧ ∀ p, p < n → dgt n (trn n R n 0) p = dgt n R (n - 1 - p) := by
  have h := f_trnC n hn R hr
  unfold trnC at h
  rw [fz_eq, Bool.and_eq_true] at h
  exact ⟨blt_t h.1, fun p hp => Nat.eq_of_beq_eq_true (List.all_eq_true.mp h.2 p (List.mem_range.mpr hp))⟩
/-- the first n hold digits -/
def dgL (n : Nat) (L : List Int32) : Prop := ∀ p, p < n → ∃ k, k < 10 ∧ L[p]? = some (nI k)
theorem rwL.dg {n R : Nat} {L : List Int32} (h : rwL n R L) : dgL n L := fun p hp => ⟨_, dgt_lt n R p, h p hp⟩
theorem dgL.len {n : Nat} {L : List Int32} (h : dgL n L) (h1 : 1 ≤ n) : n ≤ L.length := by
  obtain ⟨k, _, hk⟩ := h (n - 1) (by omega)
  have := (List.getElem?_eq_some_iff.mp hk).1
  omega
/-- what stands between i and j is not turned yet -/
def tnL (n f i j : Nat) (L M : List Int32) : Prop := M.length = L.length ∧ ∀ p, p < n → M[p]? = if f ≤ p ∧ (p < i ∨ j < p) then L[f + n - 1 - p]? else L[p]?
theorem tnL_0 {n f : Nat} {L : List Int32} : tnL n f f (n - 1) L L := ⟨rfl, fun p hp => by rw [if_neg (by omega)]⟩
theorem tnL_s {n f i j : Nat} {L M : List Int32} (h : tnL n f i j L M) (hl : n ≤ L.length) (hij : i + j = f + n - 1) (hi : f ≤ i) (hlt : i < j) (hj : j < n) : tnL n f (i + 1) (j - 1) L (chL M i j) := by
  obtain ⟨h1, h2⟩ := h
  refine ⟨by rw [chL_len, h1], fun p hp => ?_⟩
  rw [chL_at (by omega) (by omega)]
  have gi : M[i]? = L[i]? := by rw [h2 i (by omega), if_neg (by omega)]
  have gj : M[j]? = L[j]? := by rw [h2 j (by omega), if_neg (by omega)]
  by_cases e : p = j
  · rw [if_pos e, if_pos (by omega), ← gD_at (by omega), gi, show f + n - 1 - p = i by omega]
  · rw [if_neg e]
    by_cases e2 : p = i
    · rw [if_pos e2, if_pos (by omega), ← gD_at (by omega), gj, show f + n - 1 - p = j by omega]
    · rw [if_neg e2, h2 p hp]
      by_cases c : f ≤ p ∧ (p < i ∨ j < p)
      · rw [if_pos c, if_pos (by omega)]
      · rw [if_neg c, if_neg (by omega)]
theorem tnL_e {n f i j : Nat} {L M : List Int32} (h : tnL n f i j L M) (hij : i + j = f + n - 1) (hi : f ≤ i) (hge : j ≤ i) (hj : j < n) (hf : f < n) : M.length = L.length ∧ ∀ p, p < n → M[p]? = if f ≤ p then L[f + n - 1 - p]? else L[p]? := by
  obtain ⟨h1, h2⟩ := h
  refine ⟨h1, fun p hp => ?_⟩
  rw [h2 p hp]
  by_cases c : f ≤ p
  · rw [if_pos c]
    by_cases c2 : p < i ∨ j < p
    · rw [if_pos (by omega)]
    · rw [if_neg (by omega), show f + n - 1 - p = p by omega]
  · rw [if_neg c, if_neg (by omega)]
theorem tnL_b {n f i j p : Nat} {L M : List Int32} (h : tnL n f i j L M) (hd : dgL n L) (hp : p < n) (hf : f < n) : (M.getD p 0).toInt8.toInt32 = M.getD p 0 := by
  have h2 := h.2 p hp
  by_cases c : f ≤ p ∧ (p < i ∨ j < p)
  · rw [if_pos c] at h2
    obtain ⟨k, hk, hk2⟩ := hd (f + n - 1 - p) (by omega)
    rw [hk2] at h2
    rw [x_getD h2]; exact c_b8 k hk
  · rw [if_neg c] at h2
    obtain ⟨k, hk, hk2⟩ := hd _ hp
    rw [hk2] at h2
    rw [x_getD h2]; exact c_b8 k hk
/-- the next row -/
def lsd (n R : Nat) : Nat → Nat
  | 0 => 0
  | q + 1 => if isD n R q then lsd n R q else q + 1
def ltd (n R q : Nat) : Nat → Nat
  | 0 => 0
  | t + 1 => if dgt n R t < dgt n R q then ltd n R q t else t
def nxD (n R q t p : Nat) : Nat := if p ≤ q then (if p = q then dgt n R t else dgt n R p) else (if q + n - p = t then dgt n R q else dgt n R (q + n - p))
def nxC (n i R : Nat) : Bool := match lsd n R (n - 1) with
  | 0 => Nat.beq (i + 1) (wy n)
  | q + 1 => fz (ltd n R q n) fun t => fz (rb n (i + 1)) fun S => Nat.blt (i + 1) (wy n) && (Nat.blt q t && (Nat.blt t n && (List.range n).all fun p => Nat.beq (dgt n S p) (nxD n R q t p)))
theorem f_nxC : ∀ n, n < 7 → 1 ≤ n → ∀ i, i < wy n → fz (rb n i) (fun R => nxC n i R) = true := by decide +kernel
theorem nx_0 {n i : Nat} (hn : n < 7) (h1 : 1 ≤ n) (hi : i < wy n) (h : lsd n (rb n i) (n - 1) = 0) : i + 1 = wy n := by
  have := f_nxC n hn h1 i hi
  rw [fz_eq] at this
  unfold nxC at this
  rw [h] at this
  exact Nat.eq_of_beq_eq_true this
theorem nx_s {n i q : Nat} (hn : n < 7) (h1 : 1 ≤ n) (hi : i < wy n) (h : lsd n (rb n i) (n - 1) = q + 1) : i + 1 < wy n ∧ q < ltd n (rb n i) q n ∧ ltd n (rb n i) q n < n ∧ ∀ p, p < n → dgt n (rb n (i + 1)) p = nxD n (rb n i) q (ltd n (rb n i) q n) p := by
  have := f_nxC n hn h1 i hi
  rw [fz_eq] at this
  unfold nxC at this
  rw [h] at this
  simp only [fz_eq, Bool.and_eq_true] at this
  obtain ⟨h1, h2, h3, h4⟩ := this
  exact ⟨blt_t h1, blt_t h2, blt_t h3, fun p hp => Nat.eq_of_beq_eq_true (List.all_eq_true.mp h4 p (List.mem_range.mpr hp))⟩
def nxR (n i : Nat) : Nat := if i + 1 < wy n then rb n (i + 1) else rb n i
theorem nxL {n i q t : Nat} {L M : List Int32} (h1 : q < t) (h2 : t < n) (hL : rwL n (rb n i) L) (hs : ∀ p, p < n → dgt n (rb n (i + 1)) p = nxD n (rb n i) q t p) (hi : i + 1 < wy n)
    (hM : ∀ p, p < n → M[p]? = if q + 1 ≤ p then (chL L q t)[q + 1 + n - 1 - p]? else (chL L q t)[p]?) : rwL n (nxR n i) M := by
  have hl := hL.len (by omega)
  intro p hp
  unfold nxR
  rw [if_pos hi, hM p hp, hs p hp]
  unfold nxD
  by_cases c : q + 1 ≤ p
  · rw [if_pos c, if_neg (by omega), chL_at (by omega) (by omega), show q + 1 + n - 1 - p = q + n - p by omega]
    by_cases e : q + n - p = t
    · rw [if_pos e, if_pos e, x_getD (hL q (by omega))]
    · rw [if_neg e, if_neg e, if_neg (by omega)]; exact hL _ (by omega)
  · rw [if_neg c, if_pos (by omega), chL_at (by omega) (by omega), if_neg (by omega)]
    by_cases e : p = q
    · rw [if_pos e, if_pos e, x_getD (hL t (by omega))]
    · rw [if_neg e, if_neg e]; exact hL _ (by omega)
/-- the digits of the row by its rank -/
theorem f_rbd : ∀ n, n < 7 → ∀ i, i < wy n → fz (rb n i) (fun R => (List.range n).all fun p => Nat.beq (dgt n R p) (rbD n p (rbZ n i p))) = true := by decide +kernel
theorem rb_d {n i p : Nat} (hn : n < 7) (hi : i < wy n) (hp : p < n) : dgt n (rb n i) p = rbD n p (rbZ n i p) := by
  have h := f_rbd n hn i hi
  rw [fz_eq] at h
  exact Nat.eq_of_beq_eq_true (List.all_eq_true.mp h p (List.mem_range.mpr hp))
theorem f_wyd : ∀ n, n < 7 → ∀ p, p < n → wy (n - p) / (n - p) = wy (n - 1 - p) := by decide
theorem c_bitI : ∀ u, u < 128 → ∀ k, k < 10 → (nI u >>> (nI k &&& 31)) &&& 1 = b1 (u.testBit k) := by decide +kernel
/-- reading: the digits' bits from behind -/
def dsD (n R : Nat) : Nat → Nat
  | 0 => 0
  | j + 1 => dsD n R j ||| 2 ^ dgt n R (n - 1 - j)
theorem two_or (a b : Nat) : 2 * (a ||| b) = 2 * a ||| 2 * b := by
  apply Nat.eq_of_testBit_eq
  intro i
  cases i with
  | zero => simp [Nat.testBit_or]
  | succ i => rw [Nat.testBit_or, Nat.testBit_succ, Nat.testBit_succ, Nat.testBit_succ, Nat.mul_div_cancel_left _ (show 0 < 2 by decide), Nat.mul_div_cancel_left _ (show 0 < 2 by decide), Nat.mul_div_cancel_left _ (show 0 < 2 by decide), Nat.testBit_or]
theorem dsD_mask {n R : Nat} (h : ∀ p, p < n → 1 ≤ dgt n R p ∧ dgt n R p ≤ n) : dsD n R n = 2 * mask n R := by
  have key : ∀ j m, j + m = n → dsD n R j ||| 2 * lpN (fun p s => s ||| mbit n (dgt n R p)) 0 m 0 = 2 * mask n R := by
    intro j
    induction j with
    | zero => intro m hm; rw [show m = n by omega]; show 0 ||| _ = _; rw [Nat.zero_or]; rfl
    | succ j ih =>
      intro m hm
      rw [← ih (m + 1) (by omega), lpN_last]
      show (dsD n R j ||| 2 ^ dgt n R (n - 1 - j)) ||| _ = _
      have hd := h m (by omega)
      rw [show n - 1 - j = m by omega, two_or, Nat.zero_add, show 2 * mbit n (dgt n R m) = 2 ^ dgt n R m by
        unfold mbit
        rw [if_neg (by omega), if_neg (by omega), Nat.mul_comm, ← Nat.pow_succ, show (dgt n R m - 1).succ = dgt n R m by omega]]
      rw [Nat.or_assoc, Nat.or_comm (2 ^ dgt n R m)]
  have := key n 0 (by omega)
  rw [← this]
  show _ = dsD n R n ||| 0
  rw [Nat.or_zero]
theorem rd_neg {x : Int32} (h : x < 0) : ∃ k, k < 10 ∧ x - x / 10 * 10 = - nI k := by
  have h1 : x.toInt < 0 := Int32.lt_iff_toInt_lt.mp h
  have h3 : Int.tmod x.toInt 10 = - ((-x.toInt).toNat % 10 : Nat) := by
    have : x.toInt = - (((-x.toInt).toNat : Nat) : Int) := by omega
    generalize (-x.toInt).toNat = y at this ⊢
    rw [this, Int.neg_tmod, show (10 : Int) = ((10 : Nat) : Int) from rfl, ← Int.ofNat_tmod]
  have h2 : (x - x / 10 * 10).toInt = Int.tmod x.toInt 10 := by
    rw [Int32.toInt_sub, Int32.toInt_mul, Int32.toInt_div, show (10 : Int32).toInt = 10 from rfl]
    rw [Int.bmod_mul_bmod, Int.sub_bmod_bmod]
    have e : x.toInt - x.toInt.tdiv 10 * 10 = x.toInt.tmod 10 := by
      have := Int.tmod_add_mul_tdiv x.toInt 10
      omega
    rw [e, h3]
    apply Int.bmod_eq_of_le <;> omega
  refine ⟨(-x.toInt).toNat % 10, Nat.mod_lt _ (by decide), ?_⟩
  have e : ∀ k, k < 10 → (- nI k).toInt = - (k : Int) := by decide +kernel
  apply Int32.toInt_inj.mp
  rw [h2, h3, e _ (Nat.mod_lt _ (by decide))]
theorem rd_negC : ∀ k, k < 10 → ∀ n, n < 7 → inC (- nI k).toInt8.toInt32 1 (nI n) = false := by decide +kernel
theorem c_in1 : ∀ k, k < 10 → ∀ n, n < 7 → inC (nI k) 1 (nI n) = decide (1 ≤ k ∧ k ≤ n) := by decide +kernel
theorem c_full1 : ∀ n, n < 7 → (1 : Int32) <<< ((nI n + 1) &&& 31) - 2 = nI (2 ^ (n + 1) - 2) := by decide +kernel
theorem rowB_bad {n R p : Nat} (hn : n < 7) (h1 : 1 ≤ n) (hR : R < 2 ^ 31) (hp : p < n) (h : ¬ (1 ≤ dgt n R p ∧ dgt n R p ≤ n)) : rowB n (nI R) = false := by
  cases hb : rowB n (nI R) with
  | false => rfl
  | true =>
    obtain ⟨S, hS, e⟩ := rowB_t hn h1 hb
    have := (nI_eq hR (R31 hn hS)).mp e
    subst this
    exact absurd (f_dig n hn _ hS p hp) h
theorem rowB_end {n R : Nat} (hn : n < 7) (h1 : 1 ≤ n) (hR : R < 2 ^ 31) (h : ∀ p, p < n → 1 ≤ dgt n R p ∧ dgt n R p ≤ n) : rowB n (nI R) = (decide (R / 10 ^ n = 0) && decide (dsD n R n = 2 ^ (n + 1) - 2)) := by
  have hp : (10 : Nat) ^ n < 2 ^ 31 := Nat.lt_of_le_of_lt (Nat.pow_le_pow_right (by decide) (show n ≤ 6 by omega)) (by decide)
  have h2 : 1 ≤ 2 ^ n := Nat.one_le_two_pow
  by_cases hb : R < 10 ^ n
  · rw [rowB_in hR (nI_lt hb hp), Nat.div_eq_of_lt hb, dsD_mask h, decide_eq_true rfl, Bool.true_and, Nat.pow_succ]
    by_cases e : mask n R = 2 ^ n - 1
    · rw [e, beq_self_eq_true, decide_eq_true (by omega)]
    · rw [beq_eq_false_iff_ne.mpr e, decide_eq_false (by omega)]
  · rw [rowB_big (fun q => hb ((nI_ltI hR hp).mp q)), decide_eq_false (by
      have := Nat.div_pos (Nat.le_of_not_lt hb) (Nat.pow_pos (by decide : 0 < 10)); omega), Bool.false_and]
theorem dsD_lt {n R : Nat} (j : Nat) : dsD n R j < 2 ^ 31 := by
  induction j with
  | zero => show 0 < _; decide
  | succ j ih => exact Nat.or_lt_two_pow ih (Nat.pow_lt_pow_right (by decide) (Nat.lt_trans (dgt_lt _ _ _) (by decide)))
theorem pw_31 (n : Nat) (hn : n < 7) : 2 ^ (n + 1) - 2 < 2 ^ 31 := Nat.lt_of_le_of_lt (Nat.sub_le _ _) (Nat.pow_lt_pow_right (by decide) (by omega))
theorem rd_negB : ∀ k, k < 10 → (- nI k).toInt8.toInt32.toInt8.toInt32 = (- nI k).toInt8.toInt32 := by decide +kernel
