/-! ===== the text: how far the parser goes ===== -/
set_option maxRecDepth 100000
theorem bnd_some {r : Option (Nat ⊕ (List Int32 × Nat))} {k : List Int32 → Nat → Option (Nat ⊕ (List Int32 × Nat))} {x : Nat ⊕ (List Int32 × Nat)} (h : bnd r k = some x) : (∃ p, r = some (.inl p) ∧ x = .inl p) ∨ ∃ q, r = some (.inr q) ∧ k q.1 q.2 = some x := by
  match r, h with
  | some (.inl p), h => exact Or.inl ⟨p, rfl, (Option.some.inj h).symm⟩
  | some (.inr q), h => exact Or.inr ⟨q, rfl, h⟩
theorem isW_lt {tp : List Nat} {e k : Nat} (he : e ≤ tp.length) (hk : k < 13) (hw : isW tp e k = true) : e ≤ nxF tp e ∧ nxT tp e = nxF tp e + (wrd k).length ∧ nxT tp e ≤ tp.length ∧ nxF tp e < nxT tp e := by
  have h1 := isW_len he hw
  have h2 := (f_wl k hk).2
  have h3 := nxT_b he
  have h4 := nxF_b he
  omega
theorem pCmp_b {tp : List Nat} {e : Nat} {q : List Int32 × Nat} (he : e ≤ tp.length) (h : pCmp tp e = .inr q) : q.1.length = 3 ∧ e + 3 ≤ q.2 ∧ q.2 ≤ tp.length := by
  unfold pCmp at h
  cases h1 : pVal tp e with
  | inl p => rw [h1] at h; cases h
  | inr q1 =>
    rw [h1] at h
    have h : (if sgn tp q1.2 = 0 then .inl (nxF tp q1.2) else match pVal tp (nxT tp q1.2) with | .inl p => .inl p | .inr q2 => .inr ([q1.1, q2.1, sgn tp q1.2], q2.2)) = (Sum.inr q : Nat ⊕ (List Int32 × Nat)) := h
    split at h
    · cases h
    · rename_i hz
      cases h2 : pVal tp (nxT tp q1.2) with
      | inl p => rw [h2] at h; cases h
      | inr q2 =>
        rw [h2] at h
        cases h
        have b1' := pVal_b h1
        have b2' := pVal_b h2
        have n1 := nxF_b he
        have n2 := nxT_b he
        have n3 := nxT_lt b1'.2
        have n4 := nxF_b (tp := tp) (e := q1.2) (by omega)
        have n5 := nxT_b (tp := tp) (e := q1.2) (by omega)
        have n6 := nxT_lt (sgn_lt (tp := tp) (e := q1.2) (by omega) hz)
        have n7 := nxF_b (tp := tp) (e := nxT tp q1.2) (by omega)
        have n8 := nxT_b (tp := tp) (e := nxT tp q1.2) (by omega)
        have n9 := nxT_lt b2'.2
        exact ⟨rfl, by show e + 3 ≤ q2.2; omega, by show q2.2 ≤ _; omega⟩
theorem prs_b {tp : List Nat} : ∀ (f m o : Nat) (acc : List Int32) (e : Nat) (q : List Int32 × Nat), e ≤ tp.length → prs tp f m o acc e = some (.inr q) → (m = 2 ∨ m = 4 ∨ 4 < m ∨ acc = []) → e ≤ q.2 ∧ q.2 ≤ tp.length ∧ q.1.length + e ≤ q.2 + acc.length := by
  intro f
  induction f with
  | zero => intro m o acc e q _ h; cases h
  | succ f ih =>
    intro m o acc e q he h hm
    unfold prs at h
    split at h
    · rename_i hm0
      subst hm0
      have hacc : acc = [] := by rcases hm with h | h | h | h <;> first | omega | exact h
      subst hacc
      split at h
      · rename_i hw
        have w := isW_lt he (by decide) hw
        rcases bnd_some h with ⟨p, h1, h2⟩ | ⟨q1, h1, h2⟩
        · cases h2
        · have := ih 0 o [] (nxT tp e) q1 (by omega) h1 (Or.inr (Or.inr (Or.inr rfl)))
          cases h2
          rw [List.length_append, List.length_singleton]
          simp only [List.length_nil] at this ⊢
          omega
      · split at h
        · rename_i hw
          have w := isW_lt he (by decide) hw
          split at h
          · cases h
          · rcases bnd_some h with ⟨p, h1, h2⟩ | ⟨q1, h1, h2⟩
            · cases h2
            · have := ih 3 (o + 1) [] (nxT tp e) q1 (by omega) h1 (Or.inr (Or.inr (Or.inr rfl)))
              split at h2
              · rename_i hw2
                have w2 := isW_lt (tp := tp) (e := q1.2) (by omega) (by decide) hw2
                cases h2
                simp only [List.length_nil] at this ⊢
                omega
              · cases h2
        · have h2 := pCmp_b he (Option.some.inj h)
          simp only [List.length_nil]
          omega
    · split at h
      · rename_i hm1
        subst hm1
        have hacc : acc = [] := by rcases hm with h | h | h | h <;> first | omega | exact h
        subst hacc
        rcases bnd_some h with ⟨p, h1, h2⟩ | ⟨q1, h1, h2⟩
        · cases h2
        · have i1 := ih 0 o [] e q1 he h1 (Or.inr (Or.inr (Or.inr rfl)))
          have i2 := ih 2 o q1.1 q1.2 q (by omega) h2 (Or.inl rfl)
          simp only [List.length_nil] at i1 ⊢
          omega
      · split at h
        · split at h
          · rename_i hw
            have w := isW_lt he (by decide) hw
            have hl : (wrd 8).length = 3 := rfl
            rcases bnd_some h with ⟨p, h1, h2⟩ | ⟨q1, h1, h2⟩
            · cases h2
            · have i1 := ih 0 o [] (nxT tp e) q1 (by omega) h1 (Or.inr (Or.inr (Or.inr rfl)))
              have i2 := ih 2 o _ q1.2 q (by omega) h2 (Or.inl rfl)
              rw [List.length_append, List.length_append, List.length_singleton] at i2
              simp only [List.length_nil] at i1
              omega
          · cases h
            exact ⟨Nat.le_refl _, he, by show acc.length + e ≤ e + acc.length; omega⟩
        · split at h
          · rename_i hm3
            subst hm3
            have hacc : acc = [] := by rcases hm with h | h | h | h <;> first | omega | exact h
            subst hacc
            rcases bnd_some h with ⟨p, h1, h2⟩ | ⟨q1, h1, h2⟩
            · cases h2
            · have i1 := ih 1 o [] e q1 he h1 (Or.inr (Or.inr (Or.inr rfl)))
              have i2 := ih 4 o q1.1 q1.2 q (by omega) h2 (Or.inr (Or.inl rfl))
              simp only [List.length_nil] at i1 ⊢
              omega
          · split at h
            · rename_i hw
              have w := isW_lt he (by decide) hw
              have hl : (wrd 9).length = 2 := rfl
              rcases bnd_some h with ⟨p, h1, h2⟩ | ⟨q1, h1, h2⟩
              · cases h2
              · have i1 := ih 1 o [] (nxT tp e) q1 (by omega) h1 (Or.inr (Or.inr (Or.inr rfl)))
                have i2 := ih 4 o _ q1.2 q (by omega) h2 (Or.inr (Or.inl rfl))
                rw [List.length_append, List.length_append, List.length_singleton] at i2
                simp only [List.length_nil] at i1
                omega
            · cases h
              exact ⟨Nat.le_refl _, he, by show acc.length + e ≤ e + acc.length; omega⟩
def ntA (j : Nat) (r : Nat ⊕ (List Int32 × Nat)) : Nat ⊕ (List Int32 × Nat) := match r with
  | .inl p => .inl p
  | .inr q => .inr (q.1 ++ List.replicate j (-9), q.2)
theorem prs_not {tp : List Nat} {f o e : Nat} {r : Nat ⊕ (List Int32 × Nat)} (h : prs tp (f + 1) 0 o [] e = some r) (hw : isW tp e 5 = true) (j : Nat) : ∃ r1, prs tp f 0 o [] (nxT tp e) = some r1 ∧ ntA j r = ntA (j + 1) r1 := by
  unfold prs at h
  rw [if_pos rfl, if_pos hw] at h
  rcases bnd_some h with ⟨p, h1, h2⟩ | ⟨q1, h1, h2⟩
  · exact ⟨_, h1, by rw [h2]; rfl⟩
  · refine ⟨_, h1, ?_⟩
    cases h2
    show Sum.inr (q1.1 ++ [-9] ++ List.replicate j (-9), q1.2) = Sum.inr (q1.1 ++ List.replicate (j + 1) (-9), q1.2)
    rw [List.append_assoc]; rfl
theorem prs_cmp {tp : List Nat} {f o e : Nat} {r : Nat ⊕ (List Int32 × Nat)} (h : prs tp (f + 1) 0 o [] e = some r) (hw : isW tp e 5 = false) (hw6 : isW tp e 6 = false) : r = pCmp tp e := by
  unfold prs at h
  rw [if_pos rfl, if_neg (by rw [hw]; decide), if_neg (by rw [hw6]; decide)] at h
  exact (Option.some.inj h).symm
theorem prs_par {tp : List Nat} {f o e : Nat} {r : Nat ⊕ (List Int32 × Nat)} (h : prs tp (f + 1) 0 o [] e = some r) (hw : isW tp e 5 = false) (hw6 : isW tp e 6 = true) : (o = 3 ∧ r = .inl (nxF tp e)) ∨ (o ≠ 3 ∧ ∃ r1, prs tp f 3 (o + 1) [] (nxT tp e) = some r1 ∧ ((∃ p, r1 = .inl p ∧ r = .inl p) ∨ ∃ q, r1 = .inr q ∧ r = if isW tp q.2 7 then .inr (q.1, nxT tp q.2) else .inl (nxF tp q.2))) := by
  unfold prs at h
  rw [if_pos rfl, if_neg (by rw [hw]; decide), if_pos hw6] at h
  by_cases ho : o = 3
  · rw [if_pos ho] at h
    exact Or.inl ⟨ho, (Option.some.inj h).symm⟩
  · rw [if_neg ho] at h
    refine Or.inr ⟨ho, ?_⟩
    rcases bnd_some h with ⟨p, h1, h2⟩ | ⟨q1, h1, h2⟩
    · exact ⟨_, h1, Or.inl ⟨p, rfl, h2⟩⟩
    · refine ⟨_, h1, Or.inr ⟨q1, rfl, ?_⟩⟩
      split at h2
      · rename_i hc; rw [if_pos hc]; exact (Option.some.inj h2).symm
      · rename_i hc; rw [if_neg hc]; exact (Option.some.inj h2).symm
theorem prs_1 {tp : List Nat} {f o e : Nat} {r : Nat ⊕ (List Int32 × Nat)} (h : prs tp (f + 1) 1 o [] e = some r) : (∃ p, prs tp f 0 o [] e = some (.inl p) ∧ r = .inl p) ∨ ∃ q, prs tp f 0 o [] e = some (.inr q) ∧ prs tp f 2 o q.1 q.2 = some r := by
  unfold prs at h
  rw [if_neg (by decide), if_pos rfl] at h
  exact bnd_some h
theorem prs_3 {tp : List Nat} {f o e : Nat} {r : Nat ⊕ (List Int32 × Nat)} (h : prs tp (f + 1) 3 o [] e = some r) : (∃ p, prs tp f 1 o [] e = some (.inl p) ∧ r = .inl p) ∨ ∃ q, prs tp f 1 o [] e = some (.inr q) ∧ prs tp f 4 o q.1 q.2 = some r := by
  unfold prs at h
  rw [if_neg (by decide), if_neg (by decide), if_neg (by decide), if_pos rfl] at h
  exact bnd_some h
theorem prs_2t {tp : List Nat} {f o e : Nat} {acc : List Int32} {r : Nat ⊕ (List Int32 × Nat)} (h : prs tp (f + 1) 2 o acc e = some r) (hw : isW tp e 8 = true) : (∃ p, prs tp f 0 o [] (nxT tp e) = some (.inl p) ∧ r = .inl p) ∨ ∃ q, prs tp f 0 o [] (nxT tp e) = some (.inr q) ∧ prs tp f 2 o (acc ++ q.1 ++ [-10]) q.2 = some r := by
  unfold prs at h
  rw [if_neg (by decide), if_neg (by decide), if_pos rfl, if_pos hw] at h
  exact bnd_some h
theorem prs_2f {tp : List Nat} {f o e : Nat} {acc : List Int32} {r : Nat ⊕ (List Int32 × Nat)} (h : prs tp (f + 1) 2 o acc e = some r) (hw : isW tp e 8 = false) : r = .inr (acc, e) := by
  unfold prs at h
  rw [if_neg (by decide), if_neg (by decide), if_pos rfl, if_neg (by rw [hw]; decide)] at h
  exact (Option.some.inj h).symm
theorem prs_4t {tp : List Nat} {f o e : Nat} {acc : List Int32} {r : Nat ⊕ (List Int32 × Nat)} (h : prs tp (f + 1) 4 o acc e = some r) (hw : isW tp e 9 = true) : (∃ p, prs tp f 1 o [] (nxT tp e) = some (.inl p) ∧ r = .inl p) ∨ ∃ q, prs tp f 1 o [] (nxT tp e) = some (.inr q) ∧ prs tp f 4 o (acc ++ q.1 ++ [-11]) q.2 = some r := by
  unfold prs at h
  rw [if_neg (by decide), if_neg (by decide), if_neg (by decide), if_neg (by decide), if_pos hw] at h
  exact bnd_some h
theorem prs_4f {tp : List Nat} {f o e : Nat} {acc : List Int32} {r : Nat ⊕ (List Int32 × Nat)} (h : prs tp (f + 1) 4 o acc e = some r) (hw : isW tp e 9 = false) : r = .inr (acc, e) := by
  unfold prs at h
  rw [if_neg (by decide), if_neg (by decide), if_neg (by decide), if_neg (by decide), if_neg (by rw [hw]; decide)] at h
  exact (Option.some.inj h).symm
