/-! ===== the x layer: a switch with all its arms ===== -/
set_option maxRecDepth 100000
def tabs (P : Nat → Nat → Prop) : List Nat → Nat → Prop
  | [], _ => True
  | t :: ts, i => P i t ∧ tabs P ts (i + 1)
theorem tabs_at {P : Nat → Nat → Prop} : ∀ (l : List Nat) (i j t : Nat), tabs P l i → l[j]? = some t → P (i + j) t := by
  intro l
  induction l with
  | nil => intro i j t _ h; cases h
  | cons a l ih =>
    intro i j t h hj
    cases j with
    | zero => cases hj; exact h.1
    | succ j => have := ih (i + 1) j t h.2 hj; rwa [show i + 1 + j = i + (j + 1) by omega] at this
/-- an int out of a sum -/
theorem i32_of {x : Int32} {v : Int} (h : x.toInt = v) : x = Int32.ofInt v := by rw [← h]; exact (Int32.ofInt_toInt x).symm
section XJ5
variable {E : xE} {I : xI} {R : Room} {Φ : xOut → xH → Prop} {nc ns pc : Nat} {lv : List (Option Value)} {st : List Value} {G : xH}
theorem xj_tabs {dflt lo hi : Int} {offs : Array Int} {len : Nat} {x : Int32} {tg : List Nat} {tgt : Nat} (hd : decode I.2.1 pc = .ok (.tableswitch dflt lo hi offs, len)) (ht : (pc : Int) + dflt = (tgt : Int)) (hl : lo + tg.length = hi + 1) (ho : offs.toList.map (fun (o : Int) => (pc : Int) + o) = tg.map (fun (t : Nat) => (t : Int))) (k : tabs (fun i t => x = Int32.ofInt (lo + (i : Int)) → xJ E I R Φ nc ns t lv st G) tg 0) (k' : (x.toInt < lo ∨ hi < x.toInt) → xJ E I R Φ nc ns tgt lv st G) : xJ E I R Φ nc ns pc lv (.int x :: st) G := by
  by_cases h : x.toInt < lo ∨ hi < x.toInt
  · exact xj_tabOut hd h ht (k' h)
  · have h1 : ¬ x.toInt < lo := fun q => h (Or.inl q)
    have h2 : ¬ hi < x.toInt := fun q => h (Or.inr q)
    obtain ⟨j, hj⟩ : ∃ j : Nat, x.toInt - lo = j := ⟨(x.toInt - lo).toNat, by omega⟩
    have hjl : j < tg.length := by omega
    obtain ⟨t, htj⟩ : ∃ t, tg[j]? = some t := ⟨tg[j], List.getElem?_eq_getElem hjl⟩
    have e1 : (tg.map (fun (t : Nat) => (t : Int)))[j]? = some (t : Int) := by rw [List.getElem?_map, htj]; rfl
    rw [← ho, List.getElem?_map] at e1
    cases ho2 : offs.toList[j]? with
    | none => rw [ho2] at e1; cases e1
    | some o =>
      rw [ho2] at e1
      have e2 : (pc : Int) + o = (t : Int) := Option.some.inj e1
      have hk := tabs_at tg 0 j t k htj
      rw [Nat.zero_add] at hk
      exact xj_tabIn hd h1 h2 (by rw [hj]; rw [Array.getElem?_toList] at ho2; exact ho2) e2 (hk (i32_of (by omega)))
end XJ5
