/-! ===== the class: stairs judged ===== -/
set_option maxRecDepth 100000
def dfC (n R : Nat) : Bool := (List.range (n - 1)).all fun p => (List.range p).all fun q => !(isD n R p && isD n R q) || !Nat.beq (aa n R p) (aa n R q)
theorem f_dfC : ∀ n, n < 7 → ∀ R ∈ rws n, dfC n R = true := by decide +kernel
theorem aa_df {n R p q : Nat} (hn : n < 7) (hr : R ∈ rws n) (hp : p < n - 1) (hq : q < p) (h1 : isD n R p = true) (h2 : isD n R q = true) : aa n R p ≠ aa n R q := by
  have h := List.all_eq_true.mp (List.all_eq_true.mp (f_dfC n hn R hr) p (List.mem_range.mpr hp)) q (List.mem_range.mpr hq)
  intro e
  rw [h1, h2, e, Nat.beq_refl] at h
  cases h
/-- the first drop of the arc decides -/
def rgC (n g r : Nat) (s : Int32 × Int32) : Nat → Nat → Option Nat
  | 0, _ => none
  | k + 1, p => if isD n r p = true ∧ nI (aa n r p) = s.2 ∧ g.testBit (aa n r p) = true then some p else rgC n g r s k (p + 1)
theorem rgB_no {n g r : Nat} {s : Int32 × Int32} : ∀ (k p : Nat), (∀ q, p ≤ q → q < p + k → ¬ (isD n r q = true ∧ nI (aa n r q) = s.2)) → rgB n g r s k p = false := by
  intro k
  induction k with
  | zero => intro p _; rfl
  | succ k ih =>
    intro p h
    unfold rgB
    rw [if_neg (fun c => h p (Nat.le_refl _) (by omega) ⟨c.1, c.2.2.1⟩)]
    exact ih (p + 1) (fun q q1 q2 => h q (by omega) (by omega))
theorem rgC_ok {n g r : Nat} {s : Int32 × Int32} (hn : n < 7) (hr : r ∈ rws n) : ∀ (k p : Nat), p + k = n - 1 → rgB n g r s k p = (match rgC n g r s k p with | none => false | some q => decide (nI (sw n r q) = s.1)) := by
  intro k
  induction k with
  | zero => intro p _; rfl
  | succ k ih =>
    intro p hk
    unfold rgB rgC
    by_cases c : isD n r p = true ∧ nI (aa n r p) = s.2 ∧ g.testBit (aa n r p) = true
    · rw [if_pos c]
      by_cases c2 : nI (sw n r p) = s.1
      · rw [if_pos ⟨c.1, c2, c.2⟩]; exact (decide_eq_true c2).symm
      · rw [if_neg (fun q => c2 q.2.1)]
        show _ = decide (nI (sw n r p) = s.1)
        rw [decide_eq_false c2]
        refine rgB_no k (p + 1) (fun q q1 q2 hq => ?_)
        have ha := (f_aa n hn r hr q (by omega)).1
        have hb := (f_aa n hn r hr p (by omega)).1
        have hna := na_lt n hn
        exact aa_df hn hr (by omega) (by omega) hq.1 c.1 ((nI_eq (by omega) (by omega)).mp (hq.2.trans c.2.1.symm))
    · rw [if_neg c, if_neg (fun q => c ⟨q.1, q.2.2⟩)]
      exact ih (p + 1) (by omega)
theorem rgC_some {n g r : Nat} {s : Int32 × Int32} : ∀ (k p q : Nat), rgC n g r s k p = some q → p ≤ q ∧ q < p + k := by
  intro k
  induction k with
  | zero => intro p q h; cases h
  | succ k ih =>
    intro p q h
    unfold rgC at h
    split at h
    · cases h; exact ⟨Nat.le_refl _, by omega⟩
    · have := ih _ _ h; exact ⟨by omega, by omega⟩
