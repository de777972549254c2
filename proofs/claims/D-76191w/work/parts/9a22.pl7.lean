/-! ===== plain law: a least row is right above a lesser one; the ways up reach all ===== -/
set_option maxRecDepth 100000
theorem goP_opp {n g r p : Nat} {t : Bool} (hn : n < 7) (hr : r ∈ rws n) (h : goP n g t r p) : goP n g (!t) (sw n r p) p := by
  obtain ⟨h1, h2, h3⟩ := h
  exact ⟨h1, isD_not hn hr h1 h2, by rw [(f_sws hn hr h1).2]; exact h3⟩
theorem gos_any {n g r p : Nat} {t : Bool} (s : Bool) (hn : n < 7) (hc : cls n g) (hr : r ∈ rws n) (h : goP n g t r p) : gos n s g (sw n r p) = gos n s g r := by
  by_cases e : s = t
  · subst e; exact gos_go hn hc hr h
  · have e2 : s = !t := by cases s <;> cases t <;> first | rfl | exact absurd rfl e
    subst e2
    have h2 := gos_go hn hc (f_sw hn hr h.1) (goP_opp hn hr h)
    rw [(f_sws hn hr h.1).1] at h2
    exact h2.symm
/-- a row below one of a class: so is the greatest of its own class -/
theorem up_cov {n g B : Nat} (hn : n < 7) (hc : cls n g) : ∀ (K x : Nat), gmu n false x < K → x ∈ rws n → gos n true g x ≠ B → (∃ p, p < n - 1 ∧ isD n x p = false ∧ gos n true g (sw n x p) = B) →
    ∃ p, p < n - 1 ∧ isD n (gos n false g x) p = false ∧ gos n true g (sw n (gos n false g x) p) = B := by
  intro K
  induction K with
  | zero => intro x h; exact absurd h (Nat.not_lt_zero _)
  | succ K ih =>
    intro x hK hx hne hcov
    cases h0 : pin n x false g (n - 1) 0 with
    | none => rw [gos_none h0]; exact hcov
    | some q =>
      obtain ⟨-, q1, q2, q3⟩ := pin_some _ _ _ h0
      have hq : goP n g false x q := ⟨by omega, q2, q3⟩
      obtain ⟨p, p1, p2, p3⟩ := hcov
      have hxq := f_sw hn hx hq.1
      have mq := gmu_step hn hx hq.1 q2
      have hpq : p ≠ q := by
        intro e
        subst e
        exact hne ((gos_any true hn hc hx hq).symm.trans p3)
      have far : ∀ (_ : sw n (sw n x q) p = sw n (sw n x p) q) (_ : aa n (sw n x p) q = aa n x q) (_ : isD n (sw n x p) q = isD n x q) (_ : isD n (sw n x q) p = isD n x p), ∃ p, p < n - 1 ∧ isD n (gos n false g x) p = false ∧ gos n true g (sw n (gos n false g x) p) = B := by
        intro e1 e2 e3 e4
        have hy := f_sw hn hx p1
        have hgy : goP n g false (sw n x p) q := ⟨hq.1, by rw [e3]; exact q2, by rw [e2]; exact q3⟩
        rw [← gos_any false hn hc hx hq]
        refine ih (sw n x q) (by omega) hxq (by rw [gos_any true hn hc hx hq]; exact hne) ⟨p, p1, by rw [e4]; exact p2, ?_⟩
        rw [e1, gos_any true hn hc hy hgy]
        exact p3
      rcases Nat.lt_trichotomy p q with h | h | h
      · by_cases e : p + 1 < q
        · obtain ⟨s1, s2, s3, s4, s5⟩ := f_sq hn hx e hq.1
          exact far s1.symm s2 s4 s5
        · obtain rfl : q = p + 1 := by omega
          obtain ⟨⟨h1, h2, h3, h4, h5⟩, h6, h7, h8, h9, h10, h11⟩ := f_hx hn hx hq.1 (by rw [p2, q2])
          have hy := (f_aa n hn x hx (p + 1) hq.1).1
          have hA := f_sw hn hx p1
          have hA2 := f_sw hn hA hq.1
          have hB2 := f_sw hn hxq p1
          have gA : goP n g false (sw n x p) (p + 1) := ⟨hq.1, by rw [h2]; exact p2, hc.fob hn hy q3 h9⟩
          have gA2 : goP n g false (sw n (sw n x p) (p + 1)) p := ⟨p1, by rw [h3]; exact p2, by rw [h6]; exact q3⟩
          have gB : goP n g false (sw n x (p + 1)) p := ⟨p1, by rw [h4]; exact p2, hc.fob hn hy q3 h11⟩
          have mB := gmu_step hn hxq gB.1 gB.2.1
          rw [← gos_any false hn hc hx hq, ← gos_any false hn hc hxq gB]
          refine ih _ (by omega) hB2 (by rw [gos_any true hn hc hxq gB, gos_any true hn hc hx hq]; exact hne) ⟨p + 1, hq.1, by rw [h5]; exact p2, ?_⟩
          rw [← h1, gos_any true hn hc hA2 gA2, gos_any true hn hc hA gA]
          exact p3
      · exact absurd h hpq
      · by_cases e : q + 1 < p
        · obtain ⟨s1, s2, s3, s4, s5⟩ := f_sq hn hx e p1
          exact far s1 s3 s5 s4
        · obtain rfl : p = q + 1 := by omega
          obtain ⟨⟨h1, h2, h3, h4, h5⟩, h6, h7, h8, h9, h10, h11⟩ := f_hx hn hx p1 (by rw [p2, q2])
          have hy := (f_aa n hn x hx q hq.1).1
          have hA := f_sw hn hx p1
          have hA2 := f_sw hn hA hq.1
          have hB2 := f_sw hn hxq p1
          have gA : goP n g false (sw n x (q + 1)) q := ⟨hq.1, by rw [h4]; exact q2, hc.fob hn hy q3 h10⟩
          have gA2 : goP n g false (sw n (sw n x (q + 1)) q) (q + 1) := ⟨p1, by rw [h5]; exact q2, by rw [h7]; exact q3⟩
          have gB : goP n g false (sw n x q) (q + 1) := ⟨p1, by rw [h2]; exact q2, hc.fob hn hy q3 h8⟩
          have mB := gmu_step hn hxq gB.1 gB.2.1
          rw [← gos_any false hn hc hx hq, ← gos_any false hn hc hxq gB]
          refine ih _ (by omega) hB2 (by rw [gos_any true hn hc hxq gB, gos_any true hn hc hx hq]; exact hne) ⟨q, hq.1, by rw [h3]; exact q2, ?_⟩
          rw [h1, gos_any true hn hc hA2 gA2, gos_any true hn hc hA gA]
          exact p3
theorem mem_insE {l : List Nat} {v x : Nat} : x ∈ insE l v ↔ x = v ∨ x ∈ l := by
  unfold insE
  rw [List.mem_append, List.mem_cons]
  constructor
  · rintro (h | h | h)
    · exact Or.inr (List.mem_of_mem_take h)
    · exact Or.inl h
    · exact Or.inr (List.mem_of_mem_drop h)
  · rintro (h | h)
    · exact Or.inr (Or.inl h)
    · rw [← List.take_append_drop (insPos l v l.length) l, List.mem_append] at h
      rcases h with h | h
      · exact Or.inl h
      · exact Or.inr (Or.inr h)
theorem mem_rot {n g r v : Nat} {t : Bool} : v ∈ rot n g r t ↔ ∃ p, p < n - 1 ∧ isD n (gos n t g r) p = t ∧ v = gos n true g (sw n (gos n t g r) p) := by
  have key : ∀ (k p : Nat) (l : List Nat), v ∈ lpN (rotF n g (gos n t g r) t) p k l ↔ v ∈ l ∨ ∃ q, p ≤ q ∧ q < p + k ∧ isD n (gos n t g r) q = t ∧ v = gos n true g (sw n (gos n t g r) q) := by
    intro k
    induction k with
    | zero => intro p l; exact ⟨Or.inl, fun h => h.elim id (fun ⟨q, h1, h2, _⟩ => by omega)⟩
    | succ k ih =>
      intro p l
      show v ∈ lpN _ (p + 1) k _ ↔ _
      rw [ih]
      unfold rotF
      by_cases hd : isD n (gos n t g r) p = t
      · rw [if_pos (by rw [hd]; exact beq_self_eq_true _), mem_insE]
        constructor
        · rintro ((h | h) | ⟨q, h1, h2, h3⟩)
          · exact Or.inr ⟨p, Nat.le_refl _, by omega, hd, h⟩
          · exact Or.inl h
          · exact Or.inr ⟨q, by omega, by omega, h3⟩
        · rintro (h | ⟨q, h1, h2, h3⟩)
          · exact Or.inl (Or.inr h)
          · by_cases e : q = p
            · subst e; exact Or.inl (Or.inl h3.2)
            · exact Or.inr ⟨q, by omega, by omega, h3⟩
      · rw [if_neg (fun h => hd (eq_of_beq h))]
        constructor
        · rintro (h | ⟨q, h1, h2, h3⟩)
          · exact Or.inl h
          · exact Or.inr ⟨q, by omega, by omega, h3⟩
        · rintro (h | ⟨q, h1, h2, h3⟩)
          · exact Or.inl h
          · by_cases e : q = p
            · subst e; exact absurd h3.1 hd
            · exact Or.inr ⟨q, by omega, by omega, h3⟩
  unfold rot
  rw [key]
  constructor
  · rintro (h | ⟨q, _, h2, h3⟩)
    · cases h
    · exact ⟨q, by omega, h3⟩
  · rintro ⟨q, h2, h3⟩
    exact Or.inr ⟨q, Nat.zero_le _, by omega, h3⟩
theorem lst_gos {n g r : Nat} (h : lst n g r = true) : gos n true g r = r := by
  unfold lst at h
  exact gos_none (Option.isNone_iff_eq_none.mp h)
theorem gos_lst {n g r : Nat} (hn : n < 7) (hr : r ∈ rws n) : lst n g (gos n true g r) = true := by
  unfold lst
  rw [gos_end hn 16 r (gmu_lt hn hr) hr]; rfl
/-- all that is found by a rotation is least of itself -/
theorem rot_lst {n g r v : Nat} {t : Bool} (hn : n < 7) (hr : r ∈ rws n) (h : v ∈ rot n g r t) : lst n g v = true ∧ v ∈ rws n := by
  obtain ⟨p, p1, _, rfl⟩ := mem_rot.mp h
  have := f_sw hn (gos_mem' (g := g) (t := t) hn hr) p1
  exact ⟨gos_lst hn this, gos_mem' hn this⟩
def fdC (n R : Nat) : Bool := Nat.beq R (rb n 0) || (List.range (n - 1)).any fun p => isD n R p
theorem f_fdC : ∀ n, n < 7 → ∀ R ∈ rws n, fdC n R = true := by decide +kernel
def icC (n R : Nat) : Bool := Nat.beq (icnt n R) (pc64 (inv n R))
theorem f_icC : ∀ n, n < 7 → ∀ R ∈ rws n, icC n R = true := by decide +kernel
theorem ic_pc {n R : Nat} (hn : n < 7) (hr : R ∈ rws n) : icnt n R = pc64 (inv n R) := Nat.eq_of_beq_eq_true (f_icC n hn R hr)
theorem inv_15 : ∀ n, n < 7 → ∀ R ∈ rws n, inv n R < 2 ^ 15 := by decide +kernel
theorem sub_pc {n a b : Nat} (hn : n < 7) (ha : a ∈ rws n) (hb : b ∈ rws n) (h : subB n a b = true) : pc64 (inv n a) ≤ pc64 (inv n b) := (pc_mono 15 _ _ (inv_15 n hn b hb) (by decide) (Nat.lt_trans (inv_15 n hn a ha) (by decide)) (subB_iff.mp h)).1
/-- a step up to every least row but the first -/
theorem up_to {n g b : Nat} (hn : n < 7) (hc : cls n g) (hb : b ∈ rws n) (hl : lst n g b = true) (hne : b ≠ rb n 0) : ∃ c, c ∈ rws n ∧ lst n g c = true ∧ pc64 (inv n c) < pc64 (inv n b) ∧ b ∈ rot n g c false ∧ ∃ p, p < n - 1 ∧ isD n b p = true ∧ c = gos n true g (sw n b p) := by
  have h0 := f_fdC n hn b hb
  unfold fdC at h0
  rw [Bool.or_eq_true] at h0
  rcases h0 with h0 | h0
  · exact absurd (Nat.eq_of_beq_eq_true h0) hne
  · obtain ⟨p, hp, hd⟩ := List.any_eq_true.mp h0
    have hp : p < n - 1 := List.mem_range.mp hp
    have hx := f_sw hn hb hp
    have hs := f_sws hn hb hp
    have hdx := isD_not hn hb hp hd
    have m1 := gmu_step hn hb hp hd
    have m2 : pc64 (inv n (sw n b p)) < pc64 (inv n b) := by
      have : icnt n (sw n b p) < icnt n b := m1
      rwa [ic_pc hn hx, ic_pc hn hb] at this
    have m3 := sub_pc hn (gos_mem' (g := g) (t := true) hn hx) hx (gos_dn (g := g) hn hx)
    have hneq : gos n true g (sw n b p) ≠ b := fun e => by rw [e] at m3; omega
    obtain ⟨q, q1, q2, q3⟩ := up_cov (B := b) hn hc 16 (sw n b p) (gmu_lt hn hx) hx hneq ⟨p, hp, hdx, by rw [hs.1]; exact lst_gos hl⟩
    have hud : gos n false g (gos n true g (sw n b p)) = gos n false g (sw n b p) := gos_ud hn hc 16 _ true (gmu_lt hn hx) hx
    refine ⟨gos n true g (sw n b p), gos_mem' hn hx, gos_lst hn hx, by omega, mem_rot.mpr ⟨q, q1, ?_, ?_⟩, p, hp, hd, rfl⟩
    · rw [hud]; exact q2
    · rw [hud]; exact q3.symm
