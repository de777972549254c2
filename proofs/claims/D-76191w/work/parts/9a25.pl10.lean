/-! ===== plain law: the text is gone through with the fuel that is there ===== -/
set_option maxRecDepth 100000
theorem bnd_ex {a : Option (Nat ⊕ (List Int32 × Nat))} {k : List Int32 → Nat → Option (Nat ⊕ (List Int32 × Nat))} (h : ∃ r, a = some r) (hk : ∀ q, a = some (.inr q) → ∃ r, k q.1 q.2 = some r) : ∃ r, bnd a k = some r := by
  obtain ⟨r, rfl⟩ := h
  cases r with
  | inl p => exact ⟨_, rfl⟩
  | inr q => exact hk q rfl
def cmF (m : Nat) : Nat := if m = 1 then 2 else if m = 3 then 3 else 1
theorem prs_fuel {tp : List Nat} : ∀ (f m o : Nat) (acc : List Int32) (e : Nat), e ≤ tp.length → (m = 2 ∨ m = 4 ∨ acc = []) → m < 5 → 3 * (tp.length - e) + cmF m ≤ f → ∃ r, prs tp f m o acc e = some r := by
  intro f
  induction f with
  | zero => intro m o acc e _ _ _ h; exfalso; unfold cmF at h; split at h <;> (try split at h) <;> omega
  | succ f ih =>
    intro m o acc e he hacc hm hf
    have nx : ∀ k, k < 13 → isW tp e k = true → nxT tp e ≤ tp.length ∧ e < nxT tp e := fun k hk hw => by
      have := isW_lt he hk hw
      omega
    match m, hm with
    | 0, _ =>
      have hf : 3 * (tp.length - e) + 1 ≤ f + 1 := hf
      show ∃ r, (if isW tp e 5 then bnd (prs tp f 0 o [] (nxT tp e)) (fun c e1 => some (.inr (c ++ [-9], e1))) else if isW tp e 6 then (if o = 3 then some (.inl (nxF tp e)) else bnd (prs tp f 3 (o + 1) [] (nxT tp e)) (fun c e1 => if isW tp e1 7 then some (.inr (c, nxT tp e1)) else some (.inl (nxF tp e1)))) else some (pCmp tp e)) = some r
      by_cases h5 : isW tp e 5 = true
      · rw [if_pos h5]
        have := nx 5 (by decide) h5
        exact bnd_ex (ih 0 o [] _ this.1 (Or.inr (Or.inr rfl)) (by decide) (by show _ + 1 ≤ f; omega)) (fun q _ => ⟨_, rfl⟩)
      · rw [if_neg h5]
        by_cases h6 : isW tp e 6 = true
        · rw [if_pos h6]
          have := nx 6 (by decide) h6
          by_cases h3 : o = 3
          · rw [if_pos h3]; exact ⟨_, rfl⟩
          · rw [if_neg h3]
            refine bnd_ex (ih 3 (o + 1) [] _ this.1 (Or.inr (Or.inr rfl)) (by decide) (by show _ + 3 ≤ f; omega)) (fun q _ => ?_)
            by_cases h7 : isW tp q.2 7 = true
            · simp only [if_pos h7]; exact ⟨_, rfl⟩
            · simp only [if_neg h7]; exact ⟨_, rfl⟩
        · rw [if_neg h6]; exact ⟨_, rfl⟩
    | 1, _ =>
      have hf : 3 * (tp.length - e) + 2 ≤ f + 1 := hf
      show ∃ r, bnd (prs tp f 0 o [] e) (fun c e1 => prs tp f 2 o c e1) = some r
      refine bnd_ex (ih 0 o [] e he (Or.inr (Or.inr rfl)) (by decide) (by show _ + 1 ≤ f; omega)) (fun q hq => ?_)
      have hb := prs_b f 0 o [] e q he hq (Or.inr (Or.inr (Or.inr rfl)))
      exact ih 2 o q.1 q.2 hb.2.1 (Or.inl rfl) (by decide) (by show _ + 1 ≤ f; have := hb.1; omega)
    | 2, _ =>
      have hf : 3 * (tp.length - e) + 1 ≤ f + 1 := hf
      show ∃ r, (if isW tp e 8 then bnd (prs tp f 0 o [] (nxT tp e)) (fun c e1 => prs tp f 2 o (acc ++ c ++ [-10]) e1) else some (.inr (acc, e))) = some r
      by_cases h8 : isW tp e 8 = true
      · rw [if_pos h8]
        have := nx 8 (by decide) h8
        refine bnd_ex (ih 0 o [] _ this.1 (Or.inr (Or.inr rfl)) (by decide) (by show _ + 1 ≤ f; omega)) (fun q hq => ?_)
        have hb := prs_b f 0 o [] _ q this.1 hq (Or.inr (Or.inr (Or.inr rfl)))
        exact ih 2 o _ q.2 hb.2.1 (Or.inl rfl) (by decide) (by show _ + 1 ≤ f; have := hb.1; omega)
      · rw [if_neg h8]; exact ⟨_, rfl⟩
    | 3, _ =>
      have hf : 3 * (tp.length - e) + 3 ≤ f + 1 := hf
      show ∃ r, bnd (prs tp f 1 o [] e) (fun c e1 => prs tp f 4 o c e1) = some r
      refine bnd_ex (ih 1 o [] e he (Or.inr (Or.inr rfl)) (by decide) (by show _ + 2 ≤ f; omega)) (fun q hq => ?_)
      have hb := prs_b f 1 o [] e q he hq (Or.inr (Or.inr (Or.inr rfl)))
      exact ih 4 o q.1 q.2 hb.2.1 (Or.inr (Or.inl rfl)) (by decide) (by show _ + 1 ≤ f; have := hb.1; omega)
    | 4, _ =>
      have hf : 3 * (tp.length - e) + 1 ≤ f + 1 := hf
      show ∃ r, (if isW tp e 9 then bnd (prs tp f 1 o [] (nxT tp e)) (fun c e1 => prs tp f 4 o (acc ++ c ++ [-11]) e1) else some (.inr (acc, e))) = some r
      by_cases h9 : isW tp e 9 = true
      · rw [if_pos h9]
        have := nx 9 (by decide) h9
        refine bnd_ex (ih 1 o [] _ this.1 (Or.inr (Or.inr rfl)) (by decide) (by show _ + 2 ≤ f; omega)) (fun q hq => ?_)
        have hb := prs_b f 1 o [] _ q this.1 hq (Or.inr (Or.inr (Or.inr rfl)))
        exact ih 4 o _ q.2 hb.2.1 (Or.inr (Or.inl rfl)) (by decide) (by show _ + 1 ≤ f; have := hb.1; omega)
      · rw [if_neg h9]; exact ⟨_, rfl⟩
theorem prs_ok {tp : List Nat} (h : tp.length ≤ 200) : ∃ r, prs tp 1000 3 0 [] 0 = some r := prs_fuel 1000 3 0 [] 0 (Nat.zero_le _) (Or.inr (Or.inr rfl)) (by decide) (by show _ + 3 ≤ 1000; omega)
