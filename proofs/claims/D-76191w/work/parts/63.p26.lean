/-! ===== the text: states ===== -/
set_option maxRecDepth 100000
def isL (tp : List Nat) (f : Nat) (w : List Nat) : Nat → Nat → Bool → Bool
  | 0, _, t => t
  | m + 1, i, t => if t then isL tp f w m (i + 1) (tp.getD (f + i) 0 == w.getD i 0) else t
theorem isL_f (tp : List Nat) (f : Nat) (w : List Nat) : ∀ m i, isL tp f w m i false = false := by
  intro m i
  cases m with
  | zero => rfl
  | succ m => rfl
theorem drop_tk {l : List Nat} {k m : Nat} (h : k < l.length) : (l.drop k).take (m + 1) = l.getD k 0 :: (l.drop (k + 1)).take m := by
  rw [List.drop_eq_getElem_cons h, List.take_succ_cons, List.getD_eq_getElem?_getD, List.getElem?_eq_getElem h]; rfl
theorem isL_ok (tp : List Nat) (f : Nat) (w : List Nat) : ∀ m i, i + m = w.length → f + w.length ≤ tp.length → isL tp f w m i true = ((tp.drop (f + i)).take m == w.drop i) := by
  intro m
  induction m with
  | zero =>
    intro i h1 h2
    rw [show i = w.length by omega, List.drop_length, List.take_zero]; rfl
  | succ m ih =>
    intro i h1 h2
    rw [drop_tk (by omega), List.drop_eq_getElem_cons (show i < w.length by omega)]
    show isL tp f w m (i + 1) (tp.getD (f + i) 0 == w.getD i 0) = _
    have hw : w.getD i 0 = w[i]'(by omega) := by rw [List.getD_eq_getElem?_getD, List.getElem?_eq_getElem (show i < w.length by omega)]; rfl
    by_cases h : tp.getD (f + i) 0 = w.getD i 0
    · rw [beq_iff_eq.mpr h, ih (i + 1) (by omega) h2, h, hw]
      rw [show f + (i + 1) = f + i + 1 by omega]
      rw [Bool.eq_iff_iff, beq_iff_eq, beq_iff_eq]
      exact ⟨fun q => by rw [q], fun q => (List.cons.inj q).2⟩
    · rw [show (tp.getD (f + i) 0 == w.getD i 0) = false from beq_eq_false_iff_ne.mpr h, isL_f]
      symm
      rw [beq_eq_false_iff_ne]
      intro q
      exact h ((List.cons.inj q).1.trans hw.symm)
theorem isW_ok {tp : List Nat} {e k : Nat} (he : e ≤ tp.length) : isL tp (nxF tp e) (wrd k) (wrd k).length 0 (decide (nxT tp e - nxF tp e = (wrd k).length)) = isW tp e k := by
  have hb := nxT_b he
  unfold isW
  by_cases h : nxT tp e - nxF tp e = (wrd k).length
  · rw [decide_eq_true h, isL_ok tp (nxF tp e) (wrd k) _ 0 (by omega) (by omega), Nat.add_zero, List.drop_zero]
    unfold tok
    rw [h]
  · rw [decide_eq_false h, isL_f]
    symm
    rw [beq_eq_false_iff_ne]
    intro q
    have := congrArg List.length q
    rw [tok_len he] at this
    exact h this
theorem f_wrd : ∀ k, k < 13 → xslen.getD k 0 = (wrd k).length ∧ ∀ i, i < 6 → (xsbyt.getD k []).getD i 0 = nI ((wrd k).getD i 0) := by decide +kernel
theorem f_wl : ∀ k, k < 13 → (wrd k).length < 6 ∧ 1 ≤ (wrd k).length := by decide +kernel
theorem f_wb : ∀ k, k < 13 → ∀ i, i < 6 → (wrd k).getD i 0 < 256 := by decide +kernel
/-- the state while the text is read -/
def tx (tp : List Nat) (c : Nat → Value) (f t : Nat) (cl : List Int32) (o : Nat) (w : Bool) (a : Nat → xC) : Prop :=
  ∃ (c' : Nat → Value) (Cd : List Int32), a 54 = cO 7 (mFs c') ∧ c' 24 = .int (nI f) ∧ c' 25 = .int (nI t) ∧ c' 26 = .int (nI cl.length) ∧ c' 27 = .int (nI o) ∧ c' 28 = .int (b1 w) ∧ a 66 = cI 0 Cd ∧ Cd.length = 200 ∧ cl.length ≤ 200 ∧ (∀ (i : Nat) (v : Int32), cl[i]? = some v → Cd[i]? = some v) ∧ ∀ j, j ≠ 24 → j ≠ 25 → j ≠ 26 → j ≠ 27 → j ≠ 28 → c' j = c j
def txW (tp : List Nat) (c : Nat → Value) (p B : Nat) (a : Nat → xC) : Prop := ∃ (t : Nat) (cl : List Int32) (o : Nat), tx tp c p t cl o true a ∧ cl.length ≤ B
def txP (tp : List Nat) (c : Nat → Value) (cl : List Int32) (o e : Nat) (r : Nat ⊕ (List Int32 × Nat)) (a : Nat → xC) : Prop := match r with
  | .inr q => tx tp c (nxF tp q.2) (nxT tp q.2) (cl ++ q.1) o false a
  | .inl p => txW tp c p (cl.length + (tp.length - e)) a
theorem cd_push {Cd cl : List Int32} {v : Int32} (h : ∀ (i : Nat) (v : Int32), cl[i]? = some v → Cd[i]? = some v) (hl : cl.length < Cd.length) : ∀ (i : Nat) (x : Int32), (cl ++ [v])[i]? = some x → (Cd.set cl.length v)[i]? = some x := by
  intro i x hx
  by_cases e : i = cl.length
  · subst e
    rw [List.getElem?_append_right (Nat.le_refl _), Nat.sub_self] at hx
    cases hx
    exact List.getElem?_set_self hl
  · have hi : i < cl.length := by
      have := (List.getElem?_eq_some_iff.mp hx).1
      rw [List.length_append, List.length_singleton] at this
      omega
    rw [List.getElem?_append_left hi] at hx
    rw [List.getElem?_set_ne (fun q => e q.symm)]
    exact h i x hx
theorem cd_keep {Cd cl : List Int32} {v : Int32} (h : ∀ (i : Nat) (v : Int32), cl[i]? = some v → Cd[i]? = some v) : ∀ (i : Nat) (x : Int32), cl[i]? = some x → (Cd.set cl.length v)[i]? = some x := by
  intro i x hx
  have := (List.getElem?_eq_some_iff.mp hx).1
  rw [List.getElem?_set_ne (by omega)]
  exact h i x hx
def fG (a : Nat → xC) (c : Nat → Value) (p q : Nat) : Nat → xC := au a 54 (cO 7 (mFs (cu (cu c 24 (.int (nI p))) 25 (.int (nI q)))))
theorem fG_24 {a : Nat → xC} {c : Nat → Value} {p q p' : Nat} : au (fG a c p q) 54 (cO 7 ((mFs (cu (cu c 24 (.int (nI p))) 25 (.int (nI q)))).set 24 (.int (nI p')))) = fG a c p' q := by
  unfold fG
  rw [au_au]
  rfl
theorem fG_25 {a : Nat → xC} {c : Nat → Value} {p q q' : Nat} : au (fG a c p q) 54 (cO 7 ((mFs (cu (cu c 24 (.int (nI p))) 25 (.int (nI q)))).set 25 (.int (nI q')))) = fG a c p q' := by
  unfold fG
  rw [au_au]
  rfl
theorem cu_id {c : Nat → Value} {i : Nat} {v : Value} (h : c i = v) : cu c i v = c := by
  funext j
  unfold cu
  by_cases e : j = i
  · rw [if_pos e, e, h]
  · rw [if_neg e]
theorem tp_at {L : List Int32} {tp : List Nat} {p : Nat} (h : tpL L tp) (hp : p < tp.length) : L[p]? = some (nI (tp.getD p 0)) ∧ tp.getD p 0 < 256 := by
  have := h.2.2 p (tp.getD p 0) (by rw [List.getD_eq_getElem?_getD, List.getElem?_eq_getElem hp]; rfl)
  exact this
theorem c_dg : ∀ b, b < 256 → (if nI b < 48 then (0 : Int32) else if 57 < nI b then 0 else 1) = b1 (isDg b) := by decide +kernel
theorem c_lett : ∀ b, b < 256 → (if nI b < 97 then (0 : Int32) else if 122 < nI b then 0 else 1) = b1 (isLt b) := by decide +kernel
theorem exB_f {tp : List Nat} {s t : Bool} {p : Nat} (h : exB tp s t p = false) : ∀ k, exF tp s t k p = p := by
  intro k
  cases k with
  | zero => rfl
  | succ k => unfold exF; rw [h]; rfl
