/-! ===== ways up, the list: cells and small facts ===== -/
set_option maxRecDepth 100000
def wG (a : Nat → xC) (X F W : List Int32) : Nat → xC := au (au (au a 68 (cI 0 X)) 69 (cI 0 F)) 70 (cI 0 W)
theorem wG_68 {a : Nat → xC} {X F W Y : List Int32} : au (wG a X F W) 68 (cI 0 Y) = wG a Y F W := by
  unfold wG
  rw [au_comm _ _ _ (by decide : 70 ≠ 68), au_comm _ _ _ (by decide : 69 ≠ 68), au_au]
theorem wG_69 {a : Nat → xC} {X F W Y : List Int32} : au (wG a X F W) 69 (cI 0 Y) = wG a X Y W := by
  unfold wG
  rw [au_comm _ _ _ (by decide : 70 ≠ 69), au_au]
theorem wG_70 {a : Nat → xC} {X F W Y : List Int32} : au (wG a X F W) 70 (cI 0 Y) = wG a X F Y := by
  unfold wG
  rw [au_au]
theorem c_pairs : ∀ n, n < 7 → 1 ≤ n → nI n * (nI n - 1) / 2 = nI (n * (n - 1) / 2) := by decide +kernel
theorem le_lt_if {x y : Int32} : (if x ≤ y then y else x) = (if y < x then x else y) := by
  by_cases h : x ≤ y
  · rw [if_pos h, if_neg (by rw [Int32.lt_iff_toInt_lt]; rw [Int32.le_iff_toInt_le] at h; omega)]
  · rw [if_neg h, if_pos (by rw [Int32.lt_iff_toInt_lt]; rw [Int32.le_iff_toInt_le] at h; omega)]
theorem f_wy5 : ∀ n, n < 6 → wy n ≤ 120 := by decide
theorem f_pp : ∀ n, n < 7 → n * (n - 1) / 2 ≤ 15 := by decide
/-- far out no jump goes -/
theorem jumped_far {n r v : Nat} {d : Int32} (hn : n < 7) (hpl : plc n r v n 0 < n) (hd : d.toInt ≤ -7 ∨ 7 ≤ d.toInt) : o_jumped n r v d = -3 := by
  unfold o_jumped
  rw [if_neg (by omega)]
theorem sg_int (u : Bool) : (sg u).toInt = if u then 1 else -1 := by cases u <;> rfl
theorem sg_add {u : Bool} {d : Int32} {f : Nat} (hf : f + 1 ≤ 8) (hd : d.toInt = (if u then 1 else -1) * (9 - ((f + 1 : Nat) : Int))) : (d + sg u).toInt = (if u then 1 else -1) * (9 - (f : Int)) := by
  rw [Int32.toInt_add, sg_int, hd]
  cases u with
  | true => rw [if_pos rfl, Int.bmod_eq_of_le (by omega) (by omega)]; omega
  | false => rw [if_neg (by decide), Int.bmod_eq_of_le (by omega) (by omega)]; omega
theorem repl0_ext {F : List Int32} {x : Int32} (h1 : F.length = 120) (h : ∀ i, i < 120 → F[i]? = some x) : F = List.replicate 120 x := repl_ext h1 h
theorem zc_repl : zc (List.replicate 120 0) = 120 := by decide
def lnl (L : List Int32) (l : List Nat) : Prop := L.length = 120 ∧ l.length ≤ 120 ∧ ∀ (i x : Nat), l[i]? = some x → L[i]? = some (nI x)
theorem lnl_push {L : List Int32} {l : List Nat} {v : Nat} (h : lnl L l) (hl : l.length < 120) : lnl (L.set l.length (nI v)) (l ++ [v]) := by
  obtain ⟨h1, h2, h3⟩ := h
  refine ⟨by rw [List.length_set, h1], by rw [List.length_append, List.length_singleton]; omega, fun i x hx => ?_⟩
  by_cases e : i = l.length
  · subst e
    rw [List.getElem?_append_right (Nat.le_refl _), Nat.sub_self] at hx
    cases hx
    exact List.getElem?_set_self (by omega)
  · have hi : i < l.length := by
      have := (List.getElem?_eq_some_iff.mp hx).1
      rw [List.length_append, List.length_singleton] at this
      omega
    rw [List.getElem?_append_left hi] at hx
    rw [List.getElem?_set_ne (fun q => e q.symm)]
    exact h3 i x hx
def lG (a : Nat → xC) (L S : List Int32) : Nat → xC := au (au a 72 (cI 0 L)) 73 (cI 2 S)
theorem lG_72 {a : Nat → xC} {L S Y : List Int32} : au (lG a L S) 72 (cI 0 Y) = lG a Y S := by
  unfold lG
  rw [au_comm _ _ _ (by decide : 73 ≠ 72), au_au]
theorem lG_73 {a : Nat → xC} {L S Y : List Int32} : au (lG a L S) 73 (cI 2 Y) = lG a L Y := by
  unfold lG
  rw [au_au]
