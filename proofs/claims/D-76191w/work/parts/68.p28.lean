/-! ===== the text: codes are well formed; stacks ===== -/
set_option maxRecDepth 100000
/-- how deep the stack is behind codes -/
def dp : List Int32 → Nat → Option Nat
  | [], d => some d
  | v :: c, d => if -6 < v then dp c (d + 1) else if v = -9 then (if 1 ≤ d then dp c d else none) else (if 2 ≤ d then dp c (d - 1) else none)
theorem dp_app : ∀ (c1 c2 : List Int32) (d : Nat), dp (c1 ++ c2) d = (dp c1 d).bind (fun d1 => dp c2 d1) := by
  intro c1
  induction c1 with
  | nil => intro c2 d; rfl
  | cons v c ih =>
    intro c2 d
    show (if -6 < v then dp (c ++ c2) (d + 1) else if v = -9 then (if 1 ≤ d then dp (c ++ c2) d else none) else (if 2 ≤ d then dp (c ++ c2) (d - 1) else none)) = (if -6 < v then dp c (d + 1) else if v = -9 then (if 1 ≤ d then dp c d else none) else (if 2 ≤ d then dp c (d - 1) else none)).bind _
    by_cases h1 : -6 < v
    · rw [if_pos h1, if_pos h1, ih]
    · rw [if_neg h1, if_neg h1]
      by_cases h2 : v = -9
      · rw [if_pos h2, if_pos h2]
        by_cases h3 : 1 ≤ d
        · rw [if_pos h3, if_pos h3, ih]
        · rw [if_neg h3, if_neg h3]; rfl
      · rw [if_neg h2, if_neg h2]
        by_cases h3 : 2 ≤ d
        · rw [if_pos h3, if_pos h3, ih]
        · rw [if_neg h3, if_neg h3]; rfl
def dpk (c : List Int32) : Prop := ∀ d, dp c d = some (d + 1)
theorem dgF_lt {tp : List Nat} : ∀ (k p v j : Nat), (∀ i, p ≤ i → i < p + k → tp.getD i 0 ≤ 57) → v < 10 ^ j → dgF tp k p v < 10 ^ (j + k) := by
  intro k
  induction k with
  | zero => intro p v j _ h; exact h
  | succ k ih =>
    intro p v j hd h
    have h1 := hd p (Nat.le_refl _) (by omega)
    have h2 : 10 ^ (j + 1) = 10 * 10 ^ j := by rw [Nat.pow_succ, Nat.mul_comm]
    have := ih (p + 1) (10 * v + (tp.getD p 0 - 48)) (j + 1) (fun i h3 h4 => hd i (by omega) (by omega)) (by omega)
    rwa [show j + 1 + k = j + (k + 1) by omega] at this
theorem numB_lt {tp : List Nat} {e : Nat} (h : numB tp e = true) : pNum tp e < 10000 := by
  have h0 := h
  unfold numB at h
  rw [Bool.and_eq_true, Bool.and_eq_true, decide_eq_true_eq, decide_eq_true_eq] at h
  have he : e ≤ tp.length := by
    apply Classical.byContradiction
    intro q
    have h1 : nxF tp e = e := by unfold nxF; rw [show tp.length - e = 0 by omega]; rfl
    omega
  have hb := nxT_b he
  have := dgF_lt (tp := tp) (nxT tp e - nxF tp e) (nxF tp e) 0 0 (fun i h1 h2 => (dgs_dig he h0 h1 (by omega)).2) (by decide)
  unfold pNum
  refine Nat.lt_of_lt_of_le this ?_
  show 10 ^ (0 + (nxT tp e - nxF tp e)) ≤ 10 ^ 4
  exact Nat.pow_le_pow_right (by decide) (by omega)
theorem pVal_v {tp : List Nat} {e : Nat} {q : Int32 × Nat} (h : pVal tp e = .inr q) : -6 < q.1 := by
  unfold pVal at h
  split at h
  · rename_i hc
    cases h
    show -6 < fct tp e
    unfold fct
    split
    · decide
    · split
      · decide
      · split
        · decide
        · split
          · decide
          · split <;> decide
  · split at h
    · rename_i hc hn
      cases h
      have hb := numB_lt hn
      show -6 < nI (pNum tp e)
      rw [Int32.lt_iff_toInt_lt, nI_toInt (by omega)]
      have : (-6 : Int32).toInt = -6 := rfl
      omega
    · cases h
theorem sgn_v {tp : List Nat} {e : Nat} (h : ¬ sgn tp e = 0) : sgn tp e = -6 ∨ sgn tp e = -7 ∨ sgn tp e = -8 := by
  unfold sgn at h ⊢
  split
  · exact Or.inl rfl
  · rename_i h1
    rw [if_neg h1] at h
    split
    · exact Or.inr (Or.inl rfl)
    · rename_i h2
      rw [if_neg h2] at h
      split
      · exact Or.inr (Or.inr rfl)
      · rename_i h3
        rw [if_neg h3] at h
        exact absurd rfl h
theorem dpk_cmp {tp : List Nat} {e : Nat} {q : List Int32 × Nat} (h : pCmp tp e = .inr q) : dpk q.1 := by
  unfold pCmp at h
  cases h1 : pVal tp e with
  | inl p => rw [h1] at h; cases h
  | inr q1 =>
    rw [h1] at h
    have h : (if sgn tp q1.2 = 0 then .inl (nxF tp q1.2) else match pVal tp (nxT tp q1.2) with | .inl p => .inl p | .inr q2 => .inr ([q1.1, q2.1, sgn tp q1.2], q2.2)) = (Sum.inr q : Nat ⊕ (List Int32 × Nat)) := h
    split at h
    · cases h
    · rename_i hz
      cases h2 : pVal tp (nxT tp q1.2) with
      | inl p => rw [h2] at h; cases h
      | inr q2 =>
        rw [h2] at h
        cases h
        intro d
        have v1 := pVal_v h1
        have v2 := pVal_v h2
        show (if -6 < q1.1 then (if -6 < q2.1 then (if -6 < sgn tp q1.2 then some (d + 1 + 1 + 1) else if sgn tp q1.2 = -9 then (if 1 ≤ d + 1 + 1 then some (d + 1 + 1) else none) else (if 2 ≤ d + 1 + 1 then some (d + 1 + 1 - 1) else none)) else _) else _) = _
        rw [if_pos v1, if_pos v2]
        rcases sgn_v hz with h3 | h3 | h3 <;> rw [h3, if_neg (by decide), if_neg (by decide), if_pos (by omega)] <;> rfl
theorem dpk_not {c : List Int32} (h : dpk c) : dpk (c ++ [-9]) := by
  intro d
  rw [dp_app, h d]
  show dp [-9] (d + 1) = some (d + 1)
  unfold dp
  rw [if_neg (by decide), if_pos rfl, if_pos (by omega)]
  rfl
theorem dpk_two {c1 c2 : List Int32} {v : Int32} (h1 : dpk c1) (h2 : dpk c2) (hv : ¬ -6 < v) (hv9 : ¬ v = -9) : dpk (c1 ++ c2 ++ [v]) := by
  intro d
  rw [dp_app, dp_app, h1 d]
  show (dp c2 (d + 1)).bind _ = _
  rw [h2 (d + 1)]
  show dp [v] (d + 1 + 1) = some (d + 1)
  unfold dp
  rw [if_neg hv, if_neg hv9, if_pos (by omega)]
  rfl
theorem prs_dpk {tp : List Nat} : ∀ (f m o : Nat) (acc : List Int32) (e : Nat) (q : List Int32 × Nat), prs tp f m o acc e = some (.inr q) → (m = 0 ∨ m = 1 ∨ m = 3 ∨ dpk acc) → dpk q.1 := by
  intro f
  induction f with
  | zero => intro m o acc e q h; cases h
  | succ f ih =>
    intro m o acc e q h hm
    unfold prs at h
    split at h
    · split at h
      · rcases bnd_some h with ⟨p, h1, h2⟩ | ⟨q1, h1, h2⟩
        · cases h2
        · cases h2
          exact dpk_not (ih 0 o [] _ q1 h1 (Or.inl rfl))
      · split at h
        · split at h
          · cases h
          · rcases bnd_some h with ⟨p, h1, h2⟩ | ⟨q1, h1, h2⟩
            · cases h2
            · split at h2
              · cases h2; exact ih 3 (o + 1) [] _ q1 h1 (Or.inr (Or.inr (Or.inl rfl)))
              · cases h2
        · exact dpk_cmp (Option.some.inj h)
    · split at h
      · rcases bnd_some h with ⟨p, h1, h2⟩ | ⟨q1, h1, h2⟩
        · cases h2
        · exact ih 2 o q1.1 q1.2 q h2 (Or.inr (Or.inr (Or.inr (ih 0 o [] e q1 h1 (Or.inl rfl)))))
      · rename_i hm0 hm1
        split at h
        · rename_i hm2
          have hacc : dpk acc := by rcases hm with h | h | h | h <;> first | omega | exact h
          split at h
          · rcases bnd_some h with ⟨p, h1, h2⟩ | ⟨q1, h1, h2⟩
            · cases h2
            · exact ih 2 o _ q1.2 q h2 (Or.inr (Or.inr (Or.inr (dpk_two hacc (ih 0 o [] _ q1 h1 (Or.inl rfl)) (by decide) (by decide)))))
          · cases h; exact hacc
        · rename_i hm2
          split at h
          · rcases bnd_some h with ⟨p, h1, h2⟩ | ⟨q1, h1, h2⟩
            · cases h2
            · exact ih 4 o q1.1 q1.2 q h2 (Or.inr (Or.inr (Or.inr (ih 1 o [] e q1 h1 (Or.inr (Or.inl rfl))))))
          · rename_i hm3
            have hacc : dpk acc := by rcases hm with h | h | h | h <;> first | omega | exact h
            split at h
            · rcases bnd_some h with ⟨p, h1, h2⟩ | ⟨q1, h1, h2⟩
              · cases h2
              · exact ih 4 o _ q1.2 q h2 (Or.inr (Or.inr (Or.inr (dpk_two hacc (ih 1 o [] _ q1 h1 (Or.inr (Or.inl rfl))) (by decide) (by decide)))))
            · cases h; exact hacc
/-- the array's first places hold the stack, its top last -/
def stL (S st : List Int32) : Prop := S.length = 200 ∧ st.length ≤ 200 ∧ ∀ (i : Nat) (x : Int32), st[i]? = some x → S[st.length - 1 - i]? = some x
theorem stL_push {S st : List Int32} {x : Int32} (h : stL S st) (hl : st.length < 200) : stL (S.set st.length x) (x :: st) := by
  obtain ⟨h1, h2, h3⟩ := h
  refine ⟨by rw [List.length_set, h1], by rw [List.length_cons]; omega, fun i y hy => ?_⟩
  rw [List.length_cons]
  cases i with
  | zero =>
    cases hy
    rw [show st.length + 1 - 1 - 0 = st.length by omega]
    exact List.getElem?_set_self (by omega)
  | succ i =>
    have hy : st[i]? = some y := by simpa using hy
    have := (List.getElem?_eq_some_iff.mp hy).1
    rw [show st.length + 1 - 1 - (i + 1) = st.length - 1 - i by omega, List.getElem?_set_ne (by omega)]
    exact h3 i y hy
theorem stL_tl {S st : List Int32} {x : Int32} (h : stL S (x :: st)) : stL S st := by
  obtain ⟨h1, h2, h3⟩ := h
  rw [List.length_cons] at h2
  refine ⟨h1, by omega, fun i y hy => ?_⟩
  have := h3 (i + 1) y (by simpa using hy)
  rwa [List.length_cons, show st.length + 1 - 1 - (i + 1) = st.length - 1 - i by omega] at this
theorem stL_top {S st : List Int32} {x : Int32} (h : stL S (x :: st)) : S[st.length]? = some x := by
  have := h.2.2 0 x rfl
  rwa [List.length_cons, show st.length + 1 - 1 - 0 = st.length by omega] at this
theorem stL_put {S st : List Int32} {x y : Int32} (h : stL S (x :: st)) : stL (S.set st.length y) (y :: st) := stL_push (stL_tl h) (by have := h.2.1; rw [List.length_cons] at this; omega)
