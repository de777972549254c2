/-! ===== the class: conditions parsed (1) ===== -/
set_option maxRecDepth 100000

def cnd (G : xH) : Nat → Nat → List Int32 → Prop
  | 0, _, _ => False
  | k + 1, a, c => (∃ x y s v1 v2 sg, G[a]? = some (cO 17 [.ref x, .ref y, .int s]) ∧ G[x]? = some (cO 16 (vFs v1)) ∧ G[y]? = some (cO 16 (vFs v2)) ∧ (((s = 60 ∧ sg = -6) ∨ (s = 61 ∧ sg = -7) ∨ (s = 62 ∧ sg = -8)) ∧ -6 < v1 ∧ -6 < v2) ∧ c = [v1, v2, sg])
    ∨ (∃ x c1, G[a]? = some (cO 15 [.ref x]) ∧ cnd G k x c1 ∧ c = c1 ++ [-9])
    ∨ (∃ x y c1 c2, G[a]? = some (cO 18 [.ref x, .ref y]) ∧ cnd G k x c1 ∧ cnd G k y c2 ∧ c = c1 ++ c2 ++ [-10])
    ∨ (∃ x y c1 c2, G[a]? = some (cO 19 [.ref x, .ref y]) ∧ cnd G k x c1 ∧ cnd G k y c2 ∧ c = c1 ++ c2 ++ [-11])
theorem cnd.up {G : xH} : ∀ {k a : Nat} {c : List Int32}, cnd G k a c → ∀ {k2 : Nat}, k ≤ k2 → cnd G k2 a c := by
  intro k
  induction k with
  | zero => intro a c h; exact h.elim
  | succ k ih =>
    intro a c h k2 hk
    obtain ⟨k2, rfl⟩ : ∃ j, k2 = j + 1 := ⟨k2 - 1, by omega⟩
    rcases h with h | ⟨x, c1, h1, h2, h3⟩ | ⟨x, y, c1, c2, h1, h2, h3, h4⟩ | ⟨x, y, c1, c2, h1, h2, h3, h4⟩
    · exact Or.inl h
    · exact Or.inr (Or.inl ⟨x, c1, h1, ih h2 (by omega), h3⟩)
    · exact Or.inr (Or.inr (Or.inl ⟨x, y, c1, c2, h1, ih h2 (by omega), ih h3 (by omega), h4⟩))
    · exact Or.inr (Or.inr (Or.inr ⟨x, y, c1, c2, h1, ih h2 (by omega), ih h3 (by omega), h4⟩))
/-- cells that a tree stands on -/
def cdC (x : xC) : Prop := (∃ a, x = cO 15 [.ref a]) ∨ (∃ v, x = cO 16 (vFs v)) ∨ (∃ a b s, x = cO 17 [.ref a, .ref b, .int s]) ∨ (∃ a b, x = cO 18 [.ref a, .ref b]) ∨ ∃ a b, x = cO 19 [.ref a, .ref b]
theorem cnd.mv {G H : xH} (hm : ∀ (i : Nat) (x : xC), G[i]? = some x → cdC x → H[i]? = some x) : ∀ {k a : Nat} {c : List Int32}, cnd G k a c → cnd H k a c := by
  intro k
  induction k with
  | zero => intro a c h; exact h.elim
  | succ k ih =>
    intro a c h
    rcases h with ⟨x, y, s, v1, v2, sg, h1, h2, h3, h4, h5⟩ | ⟨x, c1, h1, h2, h3⟩ | ⟨x, y, c1, c2, h1, h2, h3, h4⟩ | ⟨x, y, c1, c2, h1, h2, h3, h4⟩
    · exact Or.inl ⟨x, y, s, v1, v2, sg, hm _ _ h1 (Or.inr (Or.inr (Or.inl ⟨_, _, _, rfl⟩))), hm _ _ h2 (Or.inr (Or.inl ⟨_, rfl⟩)), hm _ _ h3 (Or.inr (Or.inl ⟨_, rfl⟩)), h4, h5⟩
    · exact Or.inr (Or.inl ⟨x, c1, hm _ _ h1 (Or.inl ⟨_, rfl⟩), ih h2, h3⟩)
    · exact Or.inr (Or.inr (Or.inl ⟨x, y, c1, c2, hm _ _ h1 (Or.inr (Or.inr (Or.inr (Or.inl ⟨_, _, rfl⟩)))), ih h2, ih h3, h4⟩))
    · exact Or.inr (Or.inr (Or.inr ⟨x, y, c1, c2, hm _ _ h1 (Or.inr (Or.inr (Or.inr (Or.inr ⟨_, _, rfl⟩)))), ih h2, ih h3, h4⟩))
theorem cdC_0 {fs : List Value} : ¬ cdC (cO 0 fs) := by
  rintro (⟨a, h⟩ | ⟨v, h⟩ | ⟨a, b, s, h⟩ | ⟨a, b, h⟩ | ⟨a, b, h⟩) <;> simp [cO] at h
theorem cdC_15 : ¬ cdC (cO 15 [.null]) := by
  rintro (⟨a, h⟩ | ⟨v, h⟩ | ⟨a, b, s, h⟩ | ⟨a, b, h⟩ | ⟨a, b, h⟩) <;> simp [cO] at h
theorem cdC_18 : ¬ cdC (cO 18 [.null, .null]) := by
  rintro (⟨a, h⟩ | ⟨v, h⟩ | ⟨a, b, s, h⟩ | ⟨a, b, h⟩ | ⟨a, b, h⟩) <;> simp [cO] at h
theorem cdC_19 : ¬ cdC (cO 19 [.null, .null]) := by
  rintro (⟨a, h⟩ | ⟨v, h⟩ | ⟨a, b, s, h⟩ | ⟨a, b, h⟩ | ⟨a, b, h⟩) <;> simp [cO] at h
/-- a tree stays when only the object moved -/
theorem cnd.gfa {G H : xH} {k a : Nat} {c : List Int32} {fs : List Value} (h : cnd G k a c) (hf : gfa [0] G H) (h0 : G[0]? = some (cO 0 fs)) : cnd H k a c :=
  cnd.mv (fun i x hx hc => by
    by_cases e : i = 0
    · subst e; rw [h0] at hx; cases hx; exact absurd hc cdC_0
    · exact (hf.2 i (List.getElem?_eq_some_iff.mp hx).1 (by simp [e])).trans hx) h
/-- nor by the writing of an unfinished cell -/
theorem cnd.put {G : xH} {k a b : Nat} {c : List Int32} {x y : xC} (h : cnd G k a c) (hb : G[b]? = some x) (hx : ¬ cdC x) : cnd (G.set b y) k a c :=
  cnd.mv (fun i z hz hc => by
    by_cases e : b = i
    · subst e; rw [hb] at hz; cases hz; exact absurd hc hx
    · rw [gset e]; exact hz) h
def tpV (d r : Nat → Value) (tp : List Nat) (LT : List Int32) (e : Nat) (G : xH) : Prop := G[0]? = some (cO 0 (cFs (dT d (nxF tp e) (nxT tp e)))) ∧ d 17 = .int (nI tp.length) ∧ G[19]? = some (cI 1 LT) ∧ tpB LT tp ∧ G[18]? = some (cR 9 [.float 0, .float 1, .float 2, .float 3, .float 4]) ∧ ∃ fv, G[2]? = some (cO 2 (rFs r (.int fv)))
theorem tpV.mv {d r : Nat → Value} {tp : List Nat} {LT : List Int32} {e e2 : Nat} {G H : xH} (h : tpV d r tp LT e G) (hf : gfa [0] G H) (h0 : H[0]? = some (cO 0 (cFs (dT d (nxF tp e2) (nxT tp e2))))) : tpV d r tp LT e2 H := by
  obtain ⟨p1, p2, p3, p4, p5, fv, p6⟩ := h
  exact ⟨h0, p2, (hf.2 19 (List.getElem?_eq_some_iff.mp p3).1 (by decide)).trans p3, p4, (hf.2 18 (List.getElem?_eq_some_iff.mp p5).1 (by decide)).trans p5, fv, (hf.2 2 (List.getElem?_eq_some_iff.mp p6).1 (by decide)).trans p6⟩
def vPo (d : Nat → Value) (tp : List Nat) (q : Int32 × Nat) (G : xH) : xOut → xH → Prop := xre (fun v_ G' => v_ = some (.ref G.length) ∧ G'.length = G.length + 1 ∧ gfa [0] G G' ∧ G'[0]? = some (cO 0 (cFs (dT d (nxF tp q.2) (nxT tp q.2)))) ∧ G'[G.length]? = some (cO 16 (vFs q.1)))
def pPy (d : Nat → Value) (tp : List Nat) (q : List Int32 × Nat) (G : xH) : xOut → xH → Prop := xre (fun v_ G' => ∃ a, v_ = some (.ref a) ∧ cnd G' q.1.length a q.1 ∧ gfa [0] G G' ∧ G'[0]? = some (cO 0 (cFs (dT d (nxF tp q.2) (nxT tp q.2)))))
def pPn (d r : Nat → Value) (p : Nat) (G : xH) : xOut → xH → Prop := xth "CoarserOrders$Fault" (some (.ref 2)) (fun G' => G'[2]? = some (cO 2 (rFs r (.int (nI p)))) ∧ gfa [0, 2] G G' ∧ ∃ p q, G'[0]? = some (cO 0 (cFs (dT d p q))))
theorem pCmp_Y {tp : List Nat} {e : Nat} {q : List Int32 × Nat} (h : pCmp tp e = .inr q) : ∃ q1 q2, pVal tp e = .inr q1 ∧ sgn tp q1.2 ≠ 0 ∧ pVal tp (nxT tp q1.2) = .inr q2 ∧ q = ([q1.1, q2.1, sgn tp q1.2], q2.2) := by
  unfold pCmp at h
  cases h1 : pVal tp e with
  | inl p => rw [h1] at h; cases h
  | inr q1 =>
    rw [h1] at h
    dsimp only at h
    by_cases h2 : sgn tp q1.2 = 0
    · rw [if_pos h2] at h; cases h
    · rw [if_neg h2] at h
      cases h3 : pVal tp (nxT tp q1.2) with
      | inl p => rw [h3] at h; cases h
      | inr q2 => rw [h3] at h; cases h; exact ⟨q1, q2, rfl, h2, h3, rfl⟩
theorem pCmp_N {tp : List Nat} {e p : Nat} (h : pCmp tp e = .inl p) : pVal tp e = .inl p ∨ ∃ q1, pVal tp e = .inr q1 ∧ ((sgn tp q1.2 = 0 ∧ p = nxF tp q1.2) ∨ (sgn tp q1.2 ≠ 0 ∧ pVal tp (nxT tp q1.2) = .inl p)) := by
  unfold pCmp at h
  cases h1 : pVal tp e with
  | inl p => rw [h1] at h; cases h; exact Or.inl rfl
  | inr q1 =>
    rw [h1] at h
    dsimp only at h
    by_cases h2 : sgn tp q1.2 = 0
    · rw [if_pos h2] at h; cases h; exact Or.inr ⟨q1, rfl, Or.inl ⟨h2, rfl⟩⟩
    · rw [if_neg h2] at h
      cases h3 : pVal tp (nxT tp q1.2) with
      | inl p => rw [h3] at h; cases h; exact Or.inr ⟨q1, rfl, Or.inr ⟨h2, h3⟩⟩
      | inr q2 => rw [h3] at h; cases h
theorem pVal_e {tp : List Nat} {e : Nat} {q : Int32 × Nat} (he : e ≤ tp.length) (h : pVal tp e = .inr q) : q.2 = nxT tp e ∧ e < q.2 ∧ q.2 ≤ tp.length := by
  have hb := nxT_b he
  have hf := nxF_b he
  unfold pVal at h
  by_cases h1 : fct tp e < 0
  · rw [if_pos h1] at h; cases h
    have := nxT_lt (fct_lt he h1)
    exact ⟨rfl, by show e < nxT tp e; omega, hb.2⟩
  · rw [if_neg h1] at h
    by_cases h2 : numB tp e = true
    · rw [if_pos h2] at h; cases h
      unfold numB at h2
      rw [Bool.and_eq_true, decide_eq_true_eq] at h2
      have := nxT_lt h2.1
      exact ⟨rfl, by show e < nxT tp e; omega, hb.2⟩
    · rw [if_neg h2] at h; cases h
theorem isW_1 {tp : List Nat} {e k b : Nat} (hk : wrd k = [b]) (he : e ≤ tp.length) : isW tp e k = (decide (nxT tp e - nxF tp e = 1) && (tp.getD (nxF tp e) 0 == b)) := by
  have h := isW_ok (k := k) he
  rw [← h, hk]
  cases decide (nxT tp e - nxF tp e = [b].length) with
  | false => rfl
  | true => rfl
def sS (tp : List Nat) (e : Nat) : Int32 := if nxT tp e - nxF tp e = 1 then sb (tp.getD (nxF tp e) 0) else -1
theorem sgn_Y {tp : List Nat} {e : Nat} (he : e ≤ tp.length) (hb : ∀ p, p < tp.length → tp.getD p 0 < 256) (h : sgn tp e ≠ 0) : nxT tp e - nxF tp e = 1 ∧ ((sb (tp.getD (nxF tp e) 0) = 60 ∧ sgn tp e = -6) ∨ (sb (tp.getD (nxF tp e) 0) = 61 ∧ sgn tp e = -7) ∨ (sb (tp.getD (nxF tp e) 0) = 62 ∧ sgn tp e = -8)) := by
  have key : ∀ k b, wrd k = [b] → isW tp e k = true → nxT tp e - nxF tp e = 1 ∧ tp.getD (nxF tp e) 0 = b := fun k b hk hw => by
    rw [isW_1 hk he, Bool.and_eq_true, decide_eq_true_eq, beq_iff_eq] at hw
    exact hw
  unfold sgn at h ⊢
  by_cases h0 : isW tp e 10 = true
  · obtain ⟨k1, k2⟩ := key 10 60 rfl h0
    exact ⟨k1, Or.inl ⟨by rw [k2]; decide, by rw [if_pos h0]⟩⟩
  rw [if_neg h0] at h ⊢
  by_cases h1 : isW tp e 11 = true
  · obtain ⟨k1, k2⟩ := key 11 61 rfl h1
    exact ⟨k1, Or.inr (Or.inl ⟨by rw [k2]; decide, by rw [if_pos h1]⟩)⟩
  rw [if_neg h1] at h ⊢
  by_cases h2 : isW tp e 12 = true
  · obtain ⟨k1, k2⟩ := key 12 62 rfl h2
    exact ⟨k1, Or.inr (Or.inr ⟨by rw [k2]; decide, by rw [if_pos h2]⟩)⟩
  rw [if_neg h2] at h
  exact absurd rfl h
theorem sgn_N {tp : List Nat} {e : Nat} (he : e ≤ tp.length) (hb : tp.getD (nxF tp e) 0 < 256) (h : sgn tp e = 0) (hl : nxT tp e - nxF tp e = 1) : sb (tp.getD (nxF tp e) 0) ≠ 60 ∧ sb (tp.getD (nxF tp e) 0) ≠ 61 ∧ sb (tp.getD (nxF tp e) 0) ≠ 62 := by
  have key : ∀ k b, wrd k = [b] → tp.getD (nxF tp e) 0 = b → isW tp e k = true := fun k b hk hw => by
    rw [isW_1 hk he, hw, decide_eq_true hl, beq_self_eq_true]; rfl
  unfold sgn at h
  refine ⟨fun q => ?_, fun q => ?_, fun q => ?_⟩
  · rw [if_pos (key 10 60 rfl ((sb_eq hb (by decide)).mp q))] at h; exact absurd h (by decide)
  · have := key 11 61 rfl ((sb_eq hb (by decide)).mp q)
    by_cases h0 : isW tp e 10 = true
    · rw [if_pos h0] at h; exact absurd h (by decide)
    · rw [if_neg h0, if_pos this] at h; exact absurd h (by decide)
  · have := key 12 62 rfl ((sb_eq hb (by decide)).mp q)
    by_cases h0 : isW tp e 10 = true
    · rw [if_pos h0] at h; exact absurd h (by decide)
    · rw [if_neg h0] at h
      by_cases h1 : isW tp e 11 = true
      · rw [if_pos h1] at h; exact absurd h (by decide)
      · rw [if_neg h1, if_pos this] at h; exact absurd h (by decide)
theorem prs_ncl {tp : List Nat} {f o e : Nat} {r : Nat ⊕ (List Int32 × Nat)} (h : prs tp (f + 1) 0 o [] e = some r) (hw : isW tp e 5 = true) : (∃ p, prs tp f 0 o [] (nxT tp e) = some (.inl p) ∧ r = .inl p) ∨ ∃ q, prs tp f 0 o [] (nxT tp e) = some (.inr q) ∧ r = .inr (q.1 ++ [-9], q.2) := by
  unfold prs at h
  rw [if_pos rfl, if_pos hw] at h
  cases h1 : prs tp f 0 o [] (nxT tp e) with
  | none => rw [h1] at h; cases h
  | some r1 =>
    rw [h1] at h
    cases r1 with
    | inl p => cases h; exact Or.inl ⟨p, rfl, rfl⟩
    | inr q => cases h; exact Or.inr ⟨q, rfl, rfl⟩
theorem pCmp_par {tp : List Nat} {e : Nat} (he : e ≤ tp.length) (h : isW tp e 6 = true) : pCmp tp e = .inl (nxF tp e) := by
  have h1 : fct tp e = 0 := by
    have key : ∀ i, i < 5 → ¬ isW tp e i = true := fun i hi hc => by
      unfold isW at h hc
      exact absurd ((beq_iff_eq.mp hc).symm.trans (beq_iff_eq.mp h)) ((by decide : ∀ i, i < 5 → wrd i ≠ wrd 6) i hi)
    unfold fct
    rw [if_neg (key 0 (by decide)), if_neg (key 1 (by decide)), if_neg (key 2 (by decide)), if_neg (key 3 (by decide)), if_neg (key 4 (by decide))]
  have h2 : numB tp e = false := by
    rw [isW_1 (b := 40) rfl he, Bool.and_eq_true, beq_iff_eq] at h
    unfold numB
    rw [h.2]
    simp [isDg]
  unfold pCmp pVal
  rw [h1, if_neg (by decide), h2, if_neg (by decide)]
theorem vl_facts {G H : xH} {d : Nat → Value} {tp : List Nat} {q : Int32 × Nat} {y : xC} (h0 : G[0]? = some y) (hH : H = gtE G d tp q.2 ++ [cO 16 (vFs q.1)]) : H.length = G.length + 1 ∧ gfa [0] G H ∧ H[0]? = some (cO 0 (cFs (dT d (nxF tp q.2) (nxT tp q.2)))) ∧ H[G.length]? = some (cO 16 (vFs q.1)) := by
  subst hH
  refine ⟨by rw [List.length_append, gtE_len]; rfl, (gfa.refl.set (by decide)).app, by rw [← gtE_app (List.getElem?_eq_some_iff.mp h0).1]; exact gtE_0 (app_le h0), ?_⟩
  have := app_at (G := gtE G d tp q.2) (x := cO 16 (vFs q.1))
  rwa [gtE_len] at this
theorem nx_facts {G : xH} {d : Nat → Value} {tp : List Nat} {e : Nat} {x y : xC} (h0 : G[0]? = some y) : (gtE G d tp e ++ [x]).length = G.length + 1 ∧ gfa [0] G (gtE G d tp e ++ [x]) ∧ (gtE G d tp e ++ [x])[0]? = some (cO 0 (cFs (dT d (nxF tp e) (nxT tp e)))) ∧ (gtE G d tp e ++ [x])[G.length]? = some x := by
  refine ⟨by rw [List.length_append, gtE_len]; rfl, (gfa.refl.set (by decide)).app, by rw [← gtE_app (List.getElem?_eq_some_iff.mp h0).1]; exact gtE_0 (app_le h0), ?_⟩
  have := app_at (G := gtE G d tp e) (x := x)
  rwa [gtE_len] at this
section A51
variable {E : xE} {G : xH} {d : Nat → Value} {n : Nat}

end A51
