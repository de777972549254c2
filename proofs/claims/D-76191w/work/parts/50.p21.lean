/-! ===== acts: values and traces ===== -/
set_option maxRecDepth 100000
def rn (b : Int32) (l : List Int32) : List Int32 := if l.length < 30 then l ++ [b] else l
def vPT (nm : Nat) (x : Int32) : Int32 := x * 5 + nI nm
def tPT (l : List Int32) : List Int32 := rn 10 l
def vLT (nm : Nat) (x : Int32) : Int32 := vPT nm x ^^^ 9
def tLT (l : List Int32) : List Int32 := tPT (rn 20 l)
def vT (kd nm : Nat) (x : Int32) : Int32 := if kd = 3 then 0 - vLT nm (x + 2) else if kd = 1 ∨ kd = 4 then vLT nm x else vPT nm x
def tT (kd : Nat) (l : List Int32) : List Int32 := if kd = 3 then tLT (rn 40 l) else if kd = 1 ∨ kd = 4 then tLT l else tPT l
def vPB (kd nm mk : Nat) (x : Int32) : Int32 := vT kd nm x - nI mk
def tPB (kd : Nat) (l : List Int32) : List Int32 := tT kd (rn 11 l)
def vB (kd nm mk : Nat) (x : Int32) : Int32 := if kd = 2 ∨ kd = 5 then vPB kd nm mk x * 3 else vPB kd nm mk x
def tB (kd : Nat) (l : List Int32) : List Int32 := if kd = 2 ∨ kd = 5 then tPB kd (rn 30 l) else tPB kd l
def vPP (nm mk : Nat) (x : Int32) : Int32 := if mk = nm then 0 else if nI mk - nI nm = -1 then 0 - x else x / (nI mk - nI nm)
def tPP (l : List Int32) : List Int32 := rn 12 l
def vLP (kd nm mk : Nat) (x : Int32) : Int32 := if mk = nm then 0 else vPP nm mk x + vT kd nm (nI nm)
def tLP (kd nm mk : Nat) (l : List Int32) : List Int32 := if mk = nm then tPP (rn 31 l) else tT kd (tPP (rn 31 l))
def vP (kd nm mk : Nat) (x : Int32) : Int32 := if kd = 5 then vLP kd nm mk (x - nI mk) ^^^ 5 else if kd = 2 then vLP kd nm mk x else vPP nm mk x
def tP (kd nm mk : Nat) (l : List Int32) : List Int32 := if kd = 5 then tLP kd nm mk (rn 60 l) else if kd = 2 then tLP kd nm mk l else tPP l
def vPJ (kd nm mk : Nat) (x : Int32) : Int32 := vB kd nm mk x ^^^ vP kd nm mk (x + 1)
def tPJ (kd nm mk : Nat) (l : List Int32) : List Int32 := tP kd nm mk (tB kd (rn 13 l))
def vJ (kd nm mk : Nat) (x : Int32) : Int32 := if kd = 4 ∨ kd = 5 then (if mk = nm then 0 else if kd = 4 then vPJ kd nm mk x - vB kd nm mk (nI mk) else vPJ kd nm mk x + vB kd nm mk 1) else vPJ kd nm mk x
def tJ (kd nm mk : Nat) (l : List Int32) : List Int32 := if kd = 4 ∨ kd = 5 then (if mk = nm then tPJ kd nm mk (rn (if kd = 4 then 50 else 61) l) else tB kd (tPJ kd nm mk (rn (if kd = 4 then 50 else 61) l))) else tPJ kd nm mk l
/-- the maker on a shelf -/
def mkOn (l : List (Nat × Nat)) : Option (Nat ⊕ (Nat × Nat)) → Option Nat
  | some (.inl p) => if p < l.length then some p else none
  | _ => none
def actM (l : List (Nat × Nat)) (hl : Nat → Option (Nat ⊕ (Nat × Nat))) (k w : Int32) : Option Nat := if inI k 4 && inI w 4 then mkOn l (hl (tn k)) else none
def vA (kd nm mk : Nat) (w x : Int32) : Int32 := if w = 0 then vT kd nm x else if w = 1 then vB kd nm mk x else if mk = nm then -15 else if w = 2 then vP kd nm mk x else vJ kd nm mk x
def tA (kd nm mk : Nat) (w : Int32) : List Int32 := if w = 0 then tT kd [] else if w = 1 then tB kd [] else if w = 2 then tP kd nm mk [] else tJ kd nm mk []
def o_act (l : List (Nat × Nat)) (hl : Nat → Option (Nat ⊕ (Nat × Nat))) (k w x : Int32) : Int32 := match actM l hl k w with | none => 0 | some p => vA (mkAt l p).1 p (mkAt l p).2 w x
def s_act (l : List (Nat × Nat)) (hl : Nat → Option (Nat ⊕ (Nat × Nat))) (k w : Int32) : List Int32 := match actM l hl k w with | none => [] | some p => tA (mkAt l p).1 p (mkAt l p).2 w
def trL (L l : List Int32) : Prop := L.length = 30 ∧ l.length ≤ 30 ∧ ∀ (i : Nat) (v : Int32), l[i]? = some v → L[i]? = some v
theorem trL_push {L l : List Int32} {b : Int32} (h : trL L l) (hl : l.length < 30) : trL (L.set l.length b) (l ++ [b]) := by
  obtain ⟨h1, h2, h3⟩ := h
  refine ⟨by rw [List.length_set, h1], by rw [List.length_append, List.length_singleton]; omega, fun i v hv => ?_⟩
  by_cases e : i = l.length
  · subst e
    rw [List.getElem?_append_right (Nat.le_refl _), Nat.sub_self] at hv
    cases hv
    exact List.getElem?_set_self (by omega)
  · have hi : i < l.length := by
      have := (List.getElem?_eq_some_iff.mp hv).1
      rw [List.length_append, List.length_singleton] at this
      omega
    rw [List.getElem?_append_left hi] at hv
    rw [List.getElem?_set_ne (fun q => e q.symm)]
    exact h3 i v hv
def tr (c : Nat → Value) (kd nm mk : Nat) (pt : Bool) (l : List Int32) (a : Nat → xC) : Prop :=
  ∃ (c' : Nat → Value) (L : List Int32), a 54 = cO 7 (mFs c') ∧ c' 46 = .int (nI kd) ∧ c' 47 = .int (nI nm) ∧ c' 48 = .int (nI mk) ∧ c' 49 = .int (b1 pt) ∧ c' 45 = .int (nI l.length) ∧ a 82 = cI 0 L ∧ trL L l ∧ ∀ j, j ≠ 45 → j ≠ 49 → c' j = c j
theorem nI_eqC {a b : Nat} (ha : a < 2 ^ 31) (hb : b < 2 ^ 31) : (nI a = nI b) = (a = b) := propext (nI_eq ha hb)
