/-! ===== plain law: pairs; what follows from pairs of rows is a row's ===== -/
set_option maxRecDepth 100000
def sbs (A B : Nat) : Prop := ∀ i, A.testBit i = true → B.testBit i = true
theorem sbs_and {A B : Nat} : A &&& B = A ↔ sbs A B := by
  constructor
  · intro h i hi
    have := congrArg (fun x => Nat.testBit x i) h
    simp only [Nat.testBit_and, hi, Bool.true_and] at this
    exact this
  · intro h
    apply Nat.eq_of_testBit_eq
    intro i
    rw [Nat.testBit_and]
    cases ha : A.testBit i with
    | false => rfl
    | true => rw [h i ha]; rfl
theorem sbs.trans {A B C : Nat} (h1 : sbs A B) (h2 : sbs B C) : sbs A C := fun i hi => h2 i (h1 i hi)
theorem sbs.anti {A B : Nat} (h1 : sbs A B) (h2 : sbs B A) : A = B := by
  apply Nat.eq_of_testBit_eq
  intro i
  cases ha : A.testBit i with
  | true => rw [h1 i ha]
  | false =>
    cases hb : B.testBit i with
    | false => rfl
    | true => rw [h2 i hb] at ha; cases ha
theorem sbs_or {A B C : Nat} : sbs (A ||| B) C ↔ sbs A C ∧ sbs B C := by
  constructor
  · intro h
    exact ⟨fun i hi => h i (by rw [Nat.testBit_or, hi]; rfl), fun i hi => h i (by rw [Nat.testBit_or, hi, Bool.or_true])⟩
  · rintro ⟨h1, h2⟩ i hi
    rw [Nat.testBit_or, Bool.or_eq_true] at hi
    exact hi.elim (h1 i) (h2 i)
theorem pc_mono : ∀ (k A B : Nat), B < 2 ^ k → k ≤ 64 → A < 2 ^ 64 → sbs A B → pc64 A ≤ pc64 B ∧ (pc64 B ≤ pc64 A → A = B) := by
  intro k
  induction k with
  | zero =>
    intro A B hB _ _ h
    have h0 : B = 0 := by omega
    subst h0
    have : A = 0 := Nat.eq_of_testBit_eq fun i => by
      rw [Nat.zero_testBit]
      cases ha : A.testBit i with
      | false => rfl
      | true => have := h i ha; rw [Nat.zero_testBit] at this; cases this
    subst this
    exact ⟨Nat.le_refl _, fun _ => rfl⟩
  | succ k ih =>
    intro A B hB hk hA h
    have hB64 : B < 2 ^ 64 := Nat.lt_of_lt_of_le hB (Nat.pow_le_pow_right (by decide) hk)
    have hpk : 2 ^ (k + 1) = 2 ^ k * 2 := Nat.pow_succ _ _
    obtain ⟨q1, q2⟩ := ih (A / 2) (B / 2) (by omega) (by omega) (by omega) (fun i hi => by
      rw [← Nat.testBit_succ] at hi ⊢; exact h (i + 1) hi)
    have hb : A % 2 ≤ B % 2 := by
      have h0 := h 0
      rw [Nat.testBit_zero, Nat.testBit_zero] at h0
      rcases Nat.mod_two_eq_zero_or_one A with a | a
      · omega
      · have := of_decide_eq_true (h0 (decide_eq_true a)); omega
    rw [pc64_half hA, pc64_half hB64]
    refine ⟨by omega, fun q => ?_⟩
    have := q2 (by omega)
    omega
/-- both ways to write pairs -/
def pls (n : Nat) : List (Nat × Nat) := (List.range n).flatMap fun a => (List.range a).map fun b => (b + 1, a + 1)
def orL {α : Type} (f : α → Nat) : List α → Nat → Nat
  | [], s => s
  | q :: l, s => orL f l (s ||| f q)
theorem orL_bit {α : Type} (f : α → Nat) (i : Nat) : ∀ (l : List α) (s : Nat), (orL f l s).testBit i = (s.testBit i || l.any fun q => (f q).testBit i) := by
  intro l
  induction l with
  | nil => intro s; show s.testBit i = (s.testBit i || false); rw [Bool.or_false]
  | cons q l ih =>
    intro s
    show (orL f l (s ||| f q)).testBit i = _
    rw [ih, Nat.testBit_or, List.any_cons, Bool.or_assoc]
def cv6 (n A : Nat) : Nat := orL (fun q : Nat × Nat => if A.testBit (tri q.2 q.1) then 2 ^ pr q.1 q.2 else 0) (pls n) 0
def vc6 (n A : Nat) : Nat := orL (fun q : Nat × Nat => if A.testBit (pr q.1 q.2) then 2 ^ tri q.2 q.1 else 0) (pls n) 0
theorem orL_mono {α : Type} {f g : α → Nat} (h : ∀ q, sbs (f q) (g q)) (l : List α) : sbs (orL f l 0) (orL g l 0) := by
  intro i hi
  rw [orL_bit, Nat.zero_testBit, Bool.false_or, List.any_eq_true] at hi ⊢
  obtain ⟨q, hq, hb⟩ := hi
  exact ⟨q, hq, h q i hb⟩
theorem if_sbs {A B k m : Nat} (h : sbs A B) : sbs (if A.testBit k then 2 ^ m else 0) (if B.testBit k then 2 ^ m else 0) := by
  intro i hi
  cases ha : A.testBit k with
  | true => rw [ha] at hi; rw [h k ha]; exact hi
  | false => rw [ha, if_neg (by decide), Nat.zero_testBit] at hi; cases hi
theorem cv6_mono {n A B : Nat} (h : sbs A B) : sbs (cv6 n A) (cv6 n B) := orL_mono (fun _ => if_sbs h) _
theorem vc6_mono {n A B : Nat} (h : sbs A B) : sbs (vc6 n A) (vc6 n B) := orL_mono (fun _ => if_sbs h) _
/-- triples: places of (low, high), (low, mid), (mid, high) -/
def tls (n : Nat) : List (Nat × Nat × Nat) := (pls n).flatMap fun q => ((List.range n).filter fun m => Nat.blt q.1 (m + 1) && Nat.blt (m + 1) q.2).map fun m => (pr q.1 q.2, pr q.1 (m + 1), pr (m + 1) q.2)
def cotr (l : List (Nat × Nat × Nat)) (s : Nat) : Bool := l.all fun q => !s.testBit q.1 || (s.testBit q.2.1 || s.testBit q.2.2)
def trs (l : List (Nat × Nat × Nat)) (s : Nat) : Bool := l.all fun q => s.testBit q.1 || !(s.testBit q.2.1 && s.testBit q.2.2)
def rowC (n R : Nat) : Bool := fz (iv6 n R) fun t => fz (inv n R) fun v => Nat.beq (cv6 n v) t && (Nat.beq (vc6 n t) v && (cotr (tls n) t && (trs (tls n) t && (Nat.beq (t &&& alP n) t && Nat.beq (pc64 t) (pc64 v)))))
theorem f_rowC : ∀ n, n < 7 → ∀ R ∈ rws n, rowC n R = true := by decide +kernel
theorem row_ok {n R : Nat} (hn : n < 7) (hr : R ∈ rws n) : cv6 n (inv n R) = iv6 n R ∧ vc6 n (iv6 n R) = inv n R ∧ cotr (tls n) (iv6 n R) = true ∧ trs (tls n) (iv6 n R) = true ∧ iv6 n R &&& alP n = iv6 n R ∧ pc64 (iv6 n R) = pc64 (inv n R) := by
  have h := f_rowC n hn R hr
  unfold rowC at h
  simp only [fz_eq, Bool.and_eq_true] at h
  obtain ⟨h1, h2, h3, h4, h5, h6⟩ := h
  exact ⟨Nat.eq_of_beq_eq_true h1, Nat.eq_of_beq_eq_true h2, h3, h4, Nat.eq_of_beq_eq_true h5, Nat.eq_of_beq_eq_true h6⟩
theorem iv_sbs {n a b : Nat} (hn : n < 7) (ha : a ∈ rws n) (hb : b ∈ rws n) : sbs (iv6 n a) (iv6 n b) ↔ sbs (inv n a) (inv n b) := by
  have h1 := row_ok hn ha
  have h2 := row_ok hn hb
  constructor
  · intro h; rw [← h1.2.1, ← h2.2.1]; exact vc6_mono h
  · intro h; rw [← h1.1, ← h2.1]; exact cv6_mono h
theorem sub6_subB {n a b : Nat} (hn : n < 7) (ha : a ∈ rws n) (hb : b ∈ rws n) : sub6 n a b = subB n a b := by
  have h := iv_sbs hn ha hb
  rw [← sbs_and, ← sbs_and] at h
  unfold sub6 subB
  rw [Bool.eq_iff_iff, beq_iff_eq, beq_iff_eq]
  exact h
/-- the row of pairs -/
def rwN (n t : Nat) : Nat := lpN (fun v s => s + v * 10 ^ (n - 1 - cnB n t v)) 1 n 0
def clP (n : Nat) (l : List (Nat × Nat × Nat)) (s : Nat) : Bool := if cotr l s then fz (cpN n s) (fun t => fz (rwN n t) fun R => Nat.blt R (10 ^ n) && (Nat.beq (mask n R) (2 ^ n - 1) && Nat.beq (iv6 n R) t)) else true
def allS (P : Nat → Bool) : List Nat → Nat → Bool
  | [], s => P s
  | b :: l, s => allS P l s && fz (s ||| 2 ^ b) (fun t => allS P l t)
theorem allS_ok {P : Nat → Bool} : ∀ (l : List Nat) (s0 s : Nat), allS P l s0 = true → sbs s0 s → (∀ i, s.testBit i = true → s0.testBit i = true ∨ i ∈ l) → P s = true := by
  intro l
  induction l with
  | nil =>
    intro s0 s h h1 h2
    have : s0 = s := h1.anti (fun i hi => (h2 i hi).elim id (fun q => absurd q (List.not_mem_nil)))
    rw [← this]; exact h
  | cons b l ih =>
    intro s0 s h h1 h2
    unfold allS at h
    rw [fz_eq, Bool.and_eq_true] at h
    cases hb : s.testBit b with
    | true =>
      refine ih (s0 ||| 2 ^ b) s h.2 (sbs_or.mpr ⟨h1, fun i hi => ?_⟩) (fun i hi => ?_)
      · rw [Nat.testBit_two_pow] at hi
        rw [← of_decide_eq_true hi]; exact hb
      · rcases h2 i hi with q | q
        · left; rw [Nat.testBit_or, q]; rfl
        · rcases List.mem_cons.mp q with e | q
          · left; rw [e, Nat.testBit_or, Nat.testBit_two_pow_self, Bool.or_true]
          · exact Or.inr q
    | false =>
      refine ih s0 s h.1 h1 (fun i hi => ?_)
      rcases h2 i hi with q | q
      · exact Or.inl q
      · rcases List.mem_cons.mp q with e | q
        · rw [e, hb] at hi; cases hi
        · exact Or.inr q
