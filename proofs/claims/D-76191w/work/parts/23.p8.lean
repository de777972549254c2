/-! ===== a number with a full mask is a row; going down and up ===== -/
set_option maxRecDepth 100000
def pcs (m : Nat) : Nat := m % 2 + m / 2 % 2 + m / 4 % 2 + m / 8 % 2 + m / 16 % 2 + m / 32 % 2
def okM (n : Nat) : Nat → Nat → Nat → Bool
  | 0, m0, w => m0 != 2 ^ n - 1 || decide ((rws n)[rk n w]? = some w)
  | k + 1, m0, w => if pcs m0 + (k + 1) < n then true else (List.range 10).all (fun d => fz (m0 ||| mbit n d) (fun m => fz (10 * w + d) (fun v => okM n k m v)))
theorem f_okM : ∀ n, n < 7 → 1 ≤ n → okM n n 0 0 = true := by decide +kernel
theorem f_pcs : ∀ n, n < 7 → ∀ s, s < 64 → ∀ d, d < 10 → pcs (s ||| mbit n d) ≤ pcs s + 1 := by decide +kernel
theorem f_pcf : ∀ n, n < 7 → pcs (2 ^ n - 1) = n := by decide +kernel
theorem pcs_lp {n : Nat} (hn : n < 7) (R : Nat) : ∀ (m a s : Nat), s < 64 → pcs (lpN (fun p s => s ||| mbit n (dgt n R p)) a m s) ≤ pcs s + m := by
  intro m
  induction m with
  | zero => intro a s _; exact Nat.le_refl _
  | succ m ih =>
    intro a s hs
    refine Nat.le_trans (ih (a + 1) _ (Nat.or_lt_two_pow (n := 6) hs (mbit_lt (by omega) _))) ?_
    have := f_pcs n hn s hs _ (dgt_lt n R a)
    show pcs (s ||| mbit n (dgt n R a)) + m ≤ _
    omega
theorem lpN_add {α : Type} (f : Nat → α → α) : ∀ (k m a : Nat) (x : α), lpN f a (k + m) x = lpN f (a + k) m (lpN f a k x) := by
  intro k
  induction k with
  | zero => intro m a x; rw [Nat.zero_add, Nat.add_zero]; rfl
  | succ k ih =>
    intro m a x
    rw [show k + 1 + m = (k + m) + 1 by omega, lpN_s, ih, lpN_s, show a + 1 + k = a + (k + 1) by omega]
theorem lpN_last {α : Type} (f : Nat → α → α) (k a : Nat) (x : α) : lpN f a (k + 1) x = f (a + k) (lpN f a k x) := lpN_add f k 1 a x
theorem dig_step (R m : Nat) : 10 * (R / 10 ^ (m + 1)) + R / 10 ^ m % 10 = R / 10 ^ m := by
  rw [Nat.pow_succ, ← Nat.div_div_eq_div_mul]
  exact Nat.div_add_mod (R / 10 ^ m) 10
theorem mask_row {n R : Nat} (hn : n < 7) (h1 : 1 ≤ n) (hR : R < 10 ^ n) (hm : mask n R = 2 ^ n - 1) : R ∈ rws n := by
  have key : ∀ p, p ≤ n → okM n (n - p) (lpN (fun p s => s ||| mbit n (dgt n R p)) 0 p 0) (R / 10 ^ (n - p)) = true := by
    intro p
    induction p with
    | zero =>
      intro _
      rw [Nat.sub_zero, Nat.div_eq_of_lt hR]
      exact f_okM n hn h1
    | succ p ih =>
      intro hp
      have h := ih (by omega)
      have hk : n - p = (n - (p + 1)) + 1 := by omega
      have hms : lpN (fun p s => s ||| mbit n (dgt n R p)) 0 p 0 < 64 := lp_or_lt (k := 6) (fun p => mbit n (dgt n R p)) (fun p => mbit_lt (by omega) _) p 0 0 (by decide)
      have hfull : n ≤ pcs (lpN (fun p s => s ||| mbit n (dgt n R p)) 0 p 0) + (n - p) := by
        have h2 := pcs_lp hn R (n - p) p _ hms
        have h3 := lpN_add (fun p s => s ||| mbit n (dgt n R p)) p (n - p) 0 0
        rw [Nat.zero_add, show p + (n - p) = n by omega] at h3
        rw [← h3] at h2
        have h4 : lpN (fun p s => s ||| mbit n (dgt n R p)) 0 n 0 = 2 ^ n - 1 := hm
        rw [h4, f_pcf n hn] at h2
        exact h2
      rw [hk] at h hfull
      unfold okM at h
      rw [if_neg (by omega)] at h
      have h5 := List.all_eq_true.mp h (dgt n R p) (List.mem_range.mpr (dgt_lt n R p))
      rw [fz_eq, fz_eq, dgt, show n - 1 - p = n - (p + 1) by omega, dig_step] at h5
      rw [lpN_last, Nat.zero_add]
      rw [dgt, show n - 1 - p = n - (p + 1) by omega]
      exact h5
  have h := key n (Nat.le_refl _)
  rw [Nat.sub_self, Nat.pow_zero, Nat.div_one, show lpN (fun p s => s ||| mbit n (dgt n R p)) 0 n 0 = 2 ^ n - 1 from hm] at h
  simp only [okM, bne_self_eq_false, Bool.false_or, decide_eq_true_eq] at h
  exact List.mem_of_getElem? h
theorem f_full : ∀ n, n < 7 → ∀ R ∈ rws n, mask n R = 2 ^ n - 1 := by decide +kernel
theorem rowB_t {n : Nat} (hn : n < 7) (h1 : 1 ≤ n) {x : Int32} (h : rowB n x = true) : ∃ R, R ∈ rws n ∧ x = nI R := by
  have h0 : ¬ x < 0 := fun q => by rw [rowB_neg q] at h; cases h
  obtain ⟨R, hR, rfl⟩ := nI_of h0
  have hb : nI R < nI (10 ^ n) := Classical.byContradiction fun q => by rw [rowB_big q] at h; cases h
  rw [rowB_in hR hb, beq_iff_eq] at h
  have hp := (p10_in (k := n) (by omega)).2
  exact ⟨R, mask_row hn h1 ((nI_ltI hR hp).mp hb) h, rfl⟩
theorem rowB_of {n : Nat} (hn : n < 7) {R : Nat} (hr : R ∈ rws n) : rowB n (nI R) = true := by
  have hp := (p10_in (k := n) (by omega)).2
  rw [rowB_in (R31 hn hr) ((nI_ltI (R31 hn hr) hp).mpr (f_tl n hn R hr)), f_full n hn R hr, beq_self_eq_true]
/-! going down and up -/
def icnt (n r : Nat) : Nat := lpN (fun p s => lpN (fun q s => s + (if dgt n r q < dgt n r p then 1 else 0)) (p + 1) (n - (p + 1)) s) 0 n 0
theorem f_icnt : ∀ n, n < 7 → ∀ r ∈ rws n, icnt n r ≤ 15 := by decide +kernel
theorem f_icsw : ∀ n, n < 7 → ∀ r ∈ rws n, ∀ p, p < n - 1 → icnt n (sw n r p) = if dgt n r (p + 1) < dgt n r p then icnt n r - 1 else icnt n r + 1 := by decide +kernel
theorem f_icpos : ∀ n, n < 7 → ∀ r ∈ rws n, ∀ p, p < n - 1 → dgt n r (p + 1) < dgt n r p → 0 < icnt n r := by decide +kernel
def isD (n r p : Nat) : Bool := decide (dgt n r (p + 1) < dgt n r p)
/-- the first place of a drop (or rise) whose arc is in S -/
def pin (n r : Nat) (t : Bool) (S : Nat) : Nat → Nat → Option Nat
  | 0, _ => none
  | k + 1, p => if isD n r p == t && S.testBit (aa n r p) then some p else pin n r t S k (p + 1)
def gosF (n : Nat) (t : Bool) (S : Nat) : Nat → Nat → Nat
  | 0, r => r
  | f + 1, r => match pin n r t S (n - 1) 0 with
    | none => r
    | some p => gosF n t S f (sw n r p)
def gos (n : Nat) (t : Bool) (S r : Nat) : Nat := gosF n t S 16 r
def gmu (n : Nat) (t : Bool) (r : Nat) : Nat := if t then icnt n r else 15 - icnt n r
theorem pin_some {n r : Nat} {t : Bool} {S : Nat} : ∀ (k p q : Nat), pin n r t S k p = some q → p ≤ q ∧ q < p + k ∧ isD n r q = t ∧ S.testBit (aa n r q) = true := by
  intro k
  induction k with
  | zero => intro p q h; cases h
  | succ k ih =>
    intro p q h
    unfold pin at h
    split at h
    · next hc =>
      cases h
      rw [Bool.and_eq_true, beq_iff_eq] at hc
      exact ⟨Nat.le_refl _, by omega, hc.1, hc.2⟩
    · obtain ⟨h1, h2, h3⟩ := ih _ _ h
      exact ⟨by omega, by omega, h3⟩
theorem gmu_step {n r p : Nat} {t : Bool} (hn : n < 7) (hr : r ∈ rws n) (hp : p < n - 1) (hd : isD n r p = t) : gmu n t (sw n r p) < gmu n t r := by
  have h1 := f_icsw n hn r hr p hp
  have h2 := f_icpos n hn r hr p hp
  have h3 := f_icnt n hn r hr
  have h4 := f_icnt n hn _ (f_sw hn hr hp)
  unfold gmu
  cases t with
  | true =>
    have hd := of_decide_eq_true hd
    rw [if_pos hd] at h1
    have := h2 hd
    rw [if_pos rfl, if_pos rfl]
    omega
  | false =>
    have hd := of_decide_eq_false hd
    rw [if_neg hd] at h1
    show 15 - icnt n (sw n r p) < 15 - icnt n r
    omega
theorem gosF_fuel {n : Nat} (hn : n < 7) {t : Bool} {S : Nat} : ∀ (f g r : Nat), r ∈ rws n → gmu n t r < f → gmu n t r < g → gosF n t S f r = gosF n t S g r := by
  intro f
  induction f with
  | zero => intro g r _ h; exact absurd h (Nat.not_lt_zero _)
  | succ f ih =>
    intro g r hr hf hg
    cases g with
    | zero => exact absurd hg (Nat.not_lt_zero _)
    | succ g =>
      unfold gosF
      cases hp : pin n r t S (n - 1) 0 with
      | none => rfl
      | some p =>
        obtain ⟨-, h2, h3, -⟩ := pin_some _ _ _ hp
        have hlt := gmu_step hn hr (by omega) h3
        exact ih g _ (f_sw hn hr (by omega)) (by omega) (by omega)
theorem gmu_lt {n r : Nat} {t : Bool} (hn : n < 7) (hr : r ∈ rws n) : gmu n t r < 16 := by
  have := f_icnt n hn r hr
  unfold gmu
  split <;> omega
theorem gos_none {n r : Nat} {t : Bool} {S : Nat} (h : pin n r t S (n - 1) 0 = none) : gos n t S r = r := by
  unfold gos gosF
  rw [h]
theorem gos_some {n r p : Nat} {t : Bool} {S : Nat} (hn : n < 7) (hr : r ∈ rws n) (h : pin n r t S (n - 1) 0 = some p) : gos n t S r = gos n t S (sw n r p) := by
  obtain ⟨-, h2, h3, -⟩ := pin_some _ _ _ h
  have hlt := gmu_step hn hr (by omega) h3
  have hr' := f_sw hn hr (p := p) (by omega)
  have h16 := gmu_lt (t := t) hn hr
  show gosF n t S (15 + 1) r = _
  unfold gosF
  rw [h]
  exact gosF_fuel hn 15 16 _ hr' (by omega) (by omega)
theorem gos_mem {n : Nat} {t : Bool} {S : Nat} (hn : n < 7) : ∀ (K r : Nat), gmu n t r < K → r ∈ rws n → gos n t S r ∈ rws n := by
  intro K
  induction K with
  | zero => intro r h; exact absurd h (Nat.not_lt_zero _)
  | succ K ih =>
    intro r hK hr
    cases hp : pin n r t S (n - 1) 0 with
    | none => rw [gos_none hp]; exact hr
    | some p =>
      obtain ⟨-, h2, h3, -⟩ := pin_some _ _ _ hp
      have hlt := gmu_step hn hr (by omega) h3
      rw [gos_some hn hr hp]
      exact ih _ (by omega) (f_sw hn hr (by omega))
def plI : Option Nat → Int32
  | none => -1
  | some p => nI p
