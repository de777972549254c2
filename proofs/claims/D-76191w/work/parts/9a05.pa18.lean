/-! ===== the class: arcs; plain words of them ===== -/
set_option maxRecDepth 100000
theorem K6 : xcls 6 RX6 TX6 12 tyX6 := ⟨rfl, in_X6, tyX6_ok, nmX6⟩
/-- addresses of what is made as it is wanted -/
def dyn (a : Nat) : Prop := 42 ≤ a ∧ (a < 54 ∨ 82 < a)
/-- a cell that isn't an array of numbers -/
def ncI : xC → Prop
  | some (.inl _) => False
  | some (.inr (.inl _)) => False
  | none => False
  | _ => True
/-- an arc's fields -/
def aFs (n k : Nat) (w : Nat → Value) : List Value := [.int (nI k), .int (nI (aL n k)), .int (nI (aH n k)), .int (nI (aF n k)), w 0, w 1, w 2, w 3, w 4, w 5, .long (lN (fo n k)), .long (lN (fcr n k))]
def aTb (n ar : Nat) (G : xH) : Prop := ∃ L : List Value, G[ar]? = some (cR 5 L) ∧ L.length = na n ∧ ∀ k, k < na n → ∃ (a : Nat) (w : Nat → Value), dyn a ∧ L[k]? = some (.ref a) ∧ G[a]? = some (cO 6 (aFs n k w))
/-- the class's arcs -/
def cA (d : Nat → Value) (n : Nat) (G : xH) : Prop := ∃ ar, d 3 = .ref ar ∧ dyn ar ∧ aTb n ar G
/-- cells that are kept: those of objects and of references, made as they are wanted -/
def kpt (G G' : xH) : Prop := ∀ (i : Nat) (x : xC), dyn i → G[i]? = some x → ncI x → G'[i]? = some x
theorem kpt.refl {G : xH} : kpt G G := fun _ _ _ h _ => h
theorem kpt.trans {G H K : xH} (h1 : kpt G H) (h2 : kpt H K) : kpt G K := fun i x hi hx hn => h2 i x hi (h1 i x hi hx hn) hn
theorem gfa.kpt {W : List Nat} {G G' : xH} (h : gfa W G G') (hW : ∀ i ∈ W, i < 42) : kpt G G' := fun i x hi hx _ => by
  have hl := (List.getElem?_eq_some_iff.mp hx).1
  rw [h.2 i hl (fun q => by have := hW i q; have := hi.1; omega)]; exact hx
theorem kpt.set {G H : xH} {r : Nat} {x : xC} (h : kpt G H) (hr : r < 42) : kpt G (H.set r x) := fun i y hi hy hn => by
  rw [gset (by have := hi.1; omega)]; exact h i y hi hy hn
theorem aTb.mv {n ar : Nat} {G G' : xH} (h : aTb n ar G) (har : dyn ar) (hk : kpt G G') : aTb n ar G' := by
  obtain ⟨L, h1, h2, h3⟩ := h
  refine ⟨L, hk _ _ har h1 trivial, h2, fun k hk' => ?_⟩
  obtain ⟨a, w, q1, q2, q3⟩ := h3 k hk'
  exact ⟨a, w, q1, q2, hk _ _ q1 q3 trivial⟩
theorem cA.mv {d d' : Nat → Value} {n : Nat} {G G' : xH} (h : cA d n G) (hd : d' 3 = d 3) (hk : kpt G G') : cA d' n G' := by
  obtain ⟨ar, h1, h2, h3⟩ := h
  exact ⟨ar, hd.trans h1, h2, h3.mv h2 hk⟩
/-- the lowest one taken away -/
theorem lw_bit : ∀ (k m : Nat), m.testBit k = true → (∀ i, i < k → m.testBit i = false) → ∀ i, (m &&& (m - 1)).testBit i = (m.testBit i && decide (i ≠ k)) := by
  intro k
  induction k with
  | zero =>
    intro m h1 _ i
    rw [Nat.testBit_zero] at h1
    have hm : m % 2 = 1 := of_decide_eq_true h1
    rcases and_pred (m := m) (by omega) with ⟨_, e⟩ | ⟨e0, _⟩
    · rw [e]
      cases i with
      | zero => rw [Nat.testBit_zero, show (m - 1) % 2 = 0 by omega]; simp
      | succ i => rw [Nat.testBit_succ, Nat.testBit_succ, show (m - 1) / 2 = m / 2 by omega]; simp
    · omega
  | succ k ih =>
    intro m h1 h2 i
    have h0 := h2 0 (by omega)
    rw [Nat.testBit_zero] at h0
    have hm2 : m % 2 = 0 := by have := of_decide_eq_false h0; omega
    have hpos : 0 < m := by
      rcases Nat.eq_zero_or_pos m with h | h
      · subst h; rw [Nat.zero_testBit] at h1; cases h1
      · exact h
    rcases and_pred hpos with ⟨e0, _⟩ | ⟨_, e⟩
    · omega
    · rw [e]
      cases i with
      | zero => rw [Nat.testBit_zero, Nat.mul_mod_right, Nat.testBit_zero, hm2]; rfl
      | succ i =>
        rw [Nat.testBit_succ, Nat.mul_div_cancel_left _ (by decide), ih (m / 2) (by rw [← Nat.testBit_succ]; exact h1) (fun j hj => by rw [← Nat.testBit_succ]; exact h2 (j + 1) (by omega)) i, Nat.testBit_succ]
        congr 1
        simp
theorem clo_bit {n S i : Nat} : (clo n S).testBit i = true ↔ ∃ p, p < na n ∧ S.testBit p = true ∧ (fo n p).testBit i = true := by
  unfold clo
  rw [lp_or_bit (fun x => if S.testBit x then fo n x else 0)]
  constructor
  · rintro (h | ⟨p, h1, h2, h3⟩)
    · rw [Nat.zero_testBit] at h; cases h
    · refine ⟨p, by omega, ?_⟩
      by_cases hs : S.testBit p = true
      · rw [if_pos hs] at h3; exact ⟨hs, h3⟩
      · rw [if_neg hs, Nat.zero_testBit] at h3; cases h3
  · rintro ⟨p, h1, h2, h3⟩
    exact Or.inr ⟨p, Nat.zero_le _, by omega, by rw [if_pos h2]; exact h3⟩
theorem clo_step {n m k : Nat} (hk : k < na n) (h1 : m.testBit k = true) (h2 : ∀ i, i < k → m.testBit i = false) : clo n m = fo n k ||| clo n (m &&& (m - 1)) := by
  apply Nat.eq_of_testBit_eq
  intro i
  rw [Bool.eq_iff_iff, Nat.testBit_or, Bool.or_eq_true, clo_bit, clo_bit]
  constructor
  · rintro ⟨p, q1, q2, q3⟩
    by_cases e : p = k
    · subst e; exact Or.inl q3
    · exact Or.inr ⟨p, q1, by rw [lw_bit k m h1 h2, q2, decide_eq_true e]; rfl, q3⟩
  · rintro (h | ⟨p, q1, q2, q3⟩)
    · exact ⟨k, hk, h1, h⟩
    · rw [lw_bit k m h1 h2, Bool.and_eq_true] at q2
      exact ⟨p, q1, q2.1, q3⟩
theorem clo_0 {n : Nat} : clo n 0 = 0 := by
  apply Nat.eq_of_testBit_eq
  intro i
  rw [Nat.zero_testBit]
  cases h : (clo n 0).testBit i with
  | false => rfl
  | true =>
    obtain ⟨p, _, q2, _⟩ := clo_bit.mp h
    rw [Nat.zero_testBit] at q2; cases q2
theorem bit_lt {m k i : Nat} (hm : m < 2 ^ k) (h : m.testBit i = true) : i < k := by
  apply Nat.lt_of_not_le
  intro hk
  rw [Nat.testBit_lt_two_pow (Nat.lt_of_lt_of_le hm (Nat.pow_le_pow_right (by decide) hk))] at h
  cases h
/-! one step up -/
def swsC (n R : Nat) : Bool := (List.range (n - 1)).all fun p => fz (sw n R p) fun S => Nat.beq (sw n S p) R && Nat.beq (aa n S p) (aa n R p)
theorem f_swsC : ∀ n, n < 7 → ∀ R ∈ rws n, swsC n R = true := by decide +kernel
theorem f_sws {n R p : Nat} (hn : n < 7) (hr : R ∈ rws n) (hp : p < n - 1) : sw n (sw n R p) p = R ∧ aa n (sw n R p) p = aa n R p := by
  have h := List.all_eq_true.mp (f_swsC n hn R hr) p (List.mem_range.mpr hp)
  rw [fz_eq, Bool.and_eq_true] at h
  exact ⟨Nat.eq_of_beq_eq_true h.1, Nat.eq_of_beq_eq_true h.2⟩
theorem upL_st {n r t p : Nat} (hp : p < n - 1) (h : ¬ (isD n r p = false ∧ subB n (sw n r p) t = true)) (hs : upL n r t (n - 1 - p) p = upP n r t) (hlt : upP n r t < n - 1) : upL n r t (n - 1 - (p + 1)) (p + 1) = upP n r t ∧ p + 1 < n - 1 := by
  rw [show n - 1 - p = (n - 1 - (p + 1)) + 1 by omega] at hs
  have hs : (if isD n r p = false ∧ subB n (sw n r p) t = true then p else upL n r t (n - 1 - (p + 1)) (p + 1)) = upP n r t := hs
  rw [if_neg h] at hs
  refine ⟨hs, ?_⟩
  apply Classical.byContradiction
  intro hc
  rw [show n - 1 - (p + 1) = 0 by omega] at hs
  have : p + 1 = upP n r t := hs
  omega
theorem upL_hit {n r t p : Nat} (hp : p < n - 1) (h : isD n r p = false ∧ subB n (sw n r p) t = true) (hs : upL n r t (n - 1 - p) p = upP n r t) : upP n r t = p := by
  rw [show n - 1 - p = (n - 1 - (p + 1)) + 1 by omega] at hs
  have hs : (if isD n r p = false ∧ subB n (sw n r p) t = true then p else upL n r t (n - 1 - (p + 1)) (p + 1)) = upP n r t := hs
  rw [if_pos h] at hs
  exact hs.symm
/-- behind a call that changes what is kept now: cell 4, and scratch -/
def cPn (d e' : Nat → Value) (G G' : xH) : Prop := ∃ d', (∀ i, i ∉ [18, 19, 22, 28] → d' i = d i) ∧ sIn d' ∧ G'[0]? = some (cO 0 (cFs d')) ∧ scr G' ∧ gfa (4 :: WS) G G' ∧ G'[4]? = some (cO 3 (oFs e'))
theorem scr.oth {G : xH} {r : Nat} {x : xC} (h : scr G) (hr : r < 11) : scr (G.set r x) := by
  obtain ⟨q1, q2, q3, q4⟩ := h
  refine ⟨q1.oth (Or.inl hr) (by omega), fun i i1 i2 => ?_, ?_, ?_⟩
  · rw [gset (by omega)]; exact q2 i i1 i2
  · rw [gset (by omega)]; exact q3
  · rw [gset (by omega)]; exact q4
theorem gfa.mono {W V : List Nat} {G H : xH} (h : gfa W G H) (hs : ∀ i ∈ W, i ∈ V) : gfa V G H := ⟨h.1, fun i hl hi => h.2 i hl (fun q => hi (hs i q))⟩
theorem cPo.now {d e' : Nat → Value} {G H : xH} (h : cPo d G H) {y : xC} (h4 : H[4]? = some y) : cPn d e' G (H.set 4 (cO 3 (oFs e'))) := by
  obtain ⟨d', p1, p2, p3, p4, p5⟩ := h
  exact ⟨d', p1, p2, by rw [gset (by decide)]; exact p3, p4.oth (by decide), (p5.mono (fun i hi => List.mem_cons_of_mem _ hi)).set List.mem_cons_self, gset_self h4⟩
theorem cPo.same {d e : Nat → Value} {G H : xH} (h : cPo d G H) (h4 : H[4]? = some (cO 3 (oFs e))) : cPn d e G H := by
  obtain ⟨d', p1, p2, p3, p4, p5⟩ := h
  exact ⟨d', p1, p2, p3, p4, p5.mono (fun i hi => List.mem_cons_of_mem _ hi), h4⟩
