/-! ===== the x layer, fifteenth part: rows of arraycopy that throws ===== -/
set_option maxRecDepth 100000
abbrev kindName : FieldType → String := Native.java_lang_System.arraycopy.kindName
abbrev kArr (ty : FieldType) (n : Nat) : String := toString (kindName ty) ++ toString "[" ++ toString n ++ toString "]"
theorem int_print {i : Int} (h1 : -(10 ^ 10 : Int) < i) (h2 : i < 10 ^ 10) : (toString i).toList.length ≤ 11 := by
  show (Int.repr i).toList.length ≤ 11
  cases i with
  | ofNat m =>
    have := nat_print (n := m) (by have : (m : Int) < 10 ^ 10 := h2; omega)
    show (toString m).toList.length ≤ 11
    omega
  | negSucc m =>
    have := nat_print (n := m.succ) (by have : -(10 ^ 10 : Int) < -((m : Int) + 1) := by simpa [Int.negSucc_eq] using h1
                                        omega)
    show ("-" ++ toString m.succ).toList.length ≤ 11
    rw [String.toList_append, List.length_append]
    have h0 : "-".toList.length = 1 := by decide
    omega
theorem kn_le (ty : FieldType) : (kindName ty).toList.length ≤ 12 := by
  cases ty <;> first | decide | exact (by decide : "object array".toList.length ≤ 12)
theorem ka_le (ty : FieldType) {n : Nat} (h : n < 2147483648) : (kArr ty n).toList.length ≤ 24 := by
  show (toString (kindName ty) ++ toString "[" ++ toString n ++ toString "]").toList.length ≤ 24
  simp only [String.toList_append, List.length_append]
  have a1 : (toString "[").toList.length = 1 := by decide
  have a2 : (toString "]").toList.length = 1 := by decide
  have a3 := nat_print (n := n) (by omega)
  have a4 := kn_le ty
  have a5 : (toString (kindName ty)).toList.length = (kindName ty).toList.length := rfl
  omega
/-- the five ways to be outside -/
def cOut (i2 i4 i5 : Int32) (n0 n : Nat) : Prop := i2 < 0 ∨ i4 < 0 ∨ i5 < 0 ∨ (n0 : Int) < i2.toInt + i5.toInt ∨ (n : Int) < i4.toInt + i5.toInt
theorem cf_ex {sT dT : FieldType} {i2 i4 i5 : Int32} {n0 n : Nat} (h0 : n0 < 2147483648) (h1 : n < 2147483648) (h : cOut i2 i4 i5 n0 n) : ∃ what, copyFault sT dT n0 n i2 i4 i5 = some what ∧ what.toList.length ≤ 80 := by
  have p2 := int32_print i2
  have p4 := int32_print i4
  have p5 := int32_print i5
  have k0 := ka_le sT h0
  have k1 := ka_le dT h1
  have b1 := Int32.toInt_lt i2
  have b2 := Int32.le_toInt i2
  have b3 := Int32.toInt_lt i4
  have b4 := Int32.le_toInt i4
  have b5 := Int32.toInt_lt i5
  have b6 := Int32.le_toInt i5
  have q1 := int_print (i := i2.toInt + i5.toInt) (by omega) (by omega)
  have q2 := int_print (i := i4.toInt + i5.toInt) (by omega) (by omega)
  have o1 : (toString " out of bounds for ").toList.length = 19 := by decide
  unfold copyFault
  split
  · refine ⟨_, rfl, ?_⟩
    show (toString "source index " ++ toString i2 ++ toString " out of bounds for " ++ toString (kArr sT n0)).toList.length ≤ 80
    simp only [String.toList_append, List.length_append]
    have a1 : (toString "source index ").toList.length = 13 := by decide
    have a5 : (toString (kArr sT n0)).toList.length = (kArr sT n0).toList.length := rfl
    omega
  · split
    · refine ⟨_, rfl, ?_⟩
      show (toString "destination index " ++ toString i4 ++ toString " out of bounds for " ++ toString (kArr dT n)).toList.length ≤ 80
      simp only [String.toList_append, List.length_append]
      have a1 : (toString "destination index ").toList.length = 18 := by decide
      have a5 : (toString (kArr dT n)).toList.length = (kArr dT n).toList.length := rfl
      omega
    · split
      · refine ⟨_, rfl, ?_⟩
        show (toString "length " ++ toString i5 ++ toString " is negative").toList.length ≤ 80
        simp only [String.toList_append, List.length_append]
        have a1 : (toString "length ").toList.length = 7 := by decide
        have a2 : (toString " is negative").toList.length = 12 := by decide
        omega
      · split
        · refine ⟨_, rfl, ?_⟩
          show (toString "last source index " ++ toString (i2.toInt + i5.toInt) ++ toString " out of bounds for " ++ toString (kArr sT n0)).toList.length ≤ 80
          simp only [String.toList_append, List.length_append]
          have a1 : (toString "last source index ").toList.length = 18 := by decide
          have a5 : (toString (kArr sT n0)).toList.length = (kArr sT n0).toList.length := rfl
          omega
        · split
          · refine ⟨_, rfl, ?_⟩
            show (toString "last destination index " ++ toString (i4.toInt + i5.toInt) ++ toString " out of bounds for " ++ toString (kArr dT n)).toList.length ≤ 80
            simp only [String.toList_append, List.length_append]
            have a1 : (toString "last destination index ").toList.length = 23 := by decide
            have a5 : (toString (kArr dT n)).toList.length = (kArr dT n).toList.length := rfl
            omega
          · exfalso
            rcases h with h | h | h | h | h
            · exact absurd h (by assumption)
            · exact absurd h (by assumption)
            · exact absurd h (by assumption)
            · omega
            · omega
theorem ac_size {what : String} (h : what.toList.length ≤ 80) : (stringBytes (stringToUtf16 ("arraycopy: " ++ what))).size ≤ 400 := by
  have b1 := stringBytes_size_le (stringToUtf16 ("arraycopy: " ++ what))
  have b2 := utf16_size_le ("arraycopy: " ++ what)
  have b3 : ("arraycopy: " ++ what).toList.length ≤ 91 := by
    rw [String.toList_append, List.length_append]
    have a1 : "arraycopy: ".toList.length = 11 := by decide
    omega
  omega
theorem ac_mod {what : String} : (("arraycopy: " ++ what) == notModelled) = false := by
  rw [beq_eq_false_iff_ne]
  intro h
  have h2 := congrArg String.toList h
  rw [String.toList_append] at h2
  have h4 : notModelled.toList = '\u0000' :: " a message that is not modelled".toList := by decide
  have h5 : "arraycopy: ".toList = 'a' :: "rraycopy: ".toList := by decide
  rw [h4, h5] at h2
  simp at h2
/-- a cell is an array of n items of the type number t -/
def xar (t n : Nat) : xC → Prop
  | some (.inl q) => q.1 = t ∧ q.2.length = n
  | some (.inr (.inl q)) => q.1 = t ∧ q.2.length = n
  | _ => False
section XJ15
variable {E : xE} {I : xI} {R : Room} {Φ : xOut → xH → Prop} {nc ns pc : Nat} {lv : List (Option Value)} {st : List Value} {G : xH}
theorem xar_cell {p : Program} {s : State} {m : MethodId} {meth : Method} {c : Code} {H : Heap} {locs : List Loc} {cells slots : Nat} {ls : Array Slot} (B : xB E I R nc ns lv G p s m meth c H locs cells slots ls) {a t n : Nat} {x : xC} {ty : FieldType} (hg : G[a]? = some x) (hx : xar t n x) (ht : xtys[t]? = some ty) :
    ∃ (cell : Cell) (k : Class) (comp : ClassId), H[xb E + a]? = some cell ∧ (∀ z, cell.vm ≠ .statics z) ∧ cell.slots.size = n ∧ s.vm.classes[cell.cls]? = some k ∧ k.kind = .array comp ty := by
  have hW := B.2.1.2.2.2.2.2.2.1
  have hKa := B.1.Ka hW ht
  have hc := B.2.2.1.2.2 a _ hg
  match x, hx, hc with
  | some (.inl q), hx, hc =>
    obtain ⟨h1, h2⟩ := hx
    obtain ⟨-, k0, hk0, cm0, hkk0⟩ := (hKa.2 0 _ rfl).1 q.2.length (fun j => .int (q.2.getD j 0))
    have hc' : H[xb E + a]? = some (arrV (E.2.2.2.2.1 q.1) q.2.length (fun j => .int (q.2.getD j 0))) := hc
    exact ⟨_, k0, cm0, hc', (fun z h => by cases h), (by rw [arrV_size]; exact h2), (by rw [h1]; exact hk0), hkk0⟩
  | some (.inr (.inl q)), hx, hc =>
    obtain ⟨h1, h2⟩ := hx
    obtain ⟨-, k0, hk0, cm0, hkk0⟩ := (hKa.2 0 _ rfl).1 q.2.length (fun j => .long (q.2.getD j 0))
    have hc' : H[xb E + a]? = some (arrV (E.2.2.2.2.1 q.1) q.2.length (fun j => .long (q.2.getD j 0))) := hc
    exact ⟨_, k0, cm0, hc', (fun z h => by cases h), (by rw [arrV_size]; exact h2), (by rw [h1]; exact hk0), hkk0⟩
/-- outside -/
theorem xj_copyZ {idx a0 a t n0 n : Nat} {ty : FieldType} {x0 x : xC} {i2 i4 i5 : Int32} (hd : decode I.2.1 pc = .ok (.invokestatic idx, 3)) (w1 : Cond.methodLink I.1.cls idx arraycopyName ∈ lw_all) (w2 : Cond.native arraycopyName ∈ lw_all) (w3 : Cond.static arraycopyName ∈ lw_all) (w4 : Cond.initialized "java/lang/System" ∈ lw_all)
    (h0 : G[a0]? = some x0) (h1 : G[a]? = some x) (r0 : xar t n0 x0) (r1 : xar t n x) (ht : xtys[t]? = some ty) (hprim : refKind ty = false) (b0 : n0 < 2147483648) (b1 : n < 2147483648) (hout : cOut i2 i4 i5 n0 n)
    (hr : xrm R nc ns st 3 410) (hf : 9 ≤ R.frames) (k : ∀ j : Nat, xJT E I R Φ (nc - 3) (ns - 410) pc lv (G ++ List.replicate j cX) "java/lang/ArrayIndexOutOfBoundsException" none) : xJ E I R Φ nc ns pc lv (.int i5 :: .int i4 :: .ref a :: .int i2 :: .ref a0 :: st) G := by
  intro p e s m args below meth c H locs cells slots ls B
  obtain ⟨r1', r2', r3', r4'⟩ := hr
  have hW := B.2.1.2.2.2.2.2.2.1
  obtain ⟨c0, k0, m0, e1, e2, e3, e4, e5⟩ := xar_cell B h0 r0 ht
  obtain ⟨c1, k1, m1, f1, f2, f3, f4, f5⟩ := xar_cell B h1 r1 ht
  obtain ⟨what, hwf, hwl⟩ := cf_ex (sT := ty) (dT := ty) b0 b1 hout
  obtain ⟨q1, q2, q3, q4, q5, q6, q7, q8⟩ := B
  refine vx_copyW (A := fun q => xb E ≤ q) (text := "arraycopy: " ++ what) (names := ["java/lang/IndexOutOfBoundsException", "java/lang/RuntimeException", "java/lang/Exception"]) (nb := 400) q2.1 q1.1 (by decide) (by decide) (by decide) (by decide) (xa_AI q1 hW) xg_AI (q1.zU hW q3) (q1.zN hW q3) (by rw [q2.2.2.1]; exact q8.2.1)
    ac_mod (ac_size hwl) (by decide) (by show 3 + 5 < R.frames; omega) (by rw [xv_cats]; exact r2') (by decide) (by omega) (by omega) q2.2.2.2.2.1 q2.2.2.2.2.2.1 (q1.word hW w1 args) (q1.word hW w2 args) (q1.word hW w3 args) (q1.word hW w4 args) rfl ?_ (by rw [q2.2.1]; exact hd) ?_
  · intro T hT vm' hv fs E' hE
    obtain ⟨k0', g0, g0'⟩ := hv.alike.2.2 _ _ e4
    obtain ⟨k1', g1, g1'⟩ := hv.alike.2.2 _ _ f4
    refine W.arraycopy_bounds (cs := c0) (cd := c1) (ks := k0') (kd := k1') (sComp := m0) (dComp := m1) (sType := ty) (dType := ty) (what := what) (by show T.heap[_]? = _; rw [hT]; exact e1) (by show T.heap[_]? = _; rw [hT]; exact f1) e2 f2 g0 g1 (by rw [g0']; exact e5) (by rw [g1']; exact f5) (by simp [hprim]) (by rw [e3, f3]; exact hwf) (hE _)
  · intro H1 q9 ce g1 g2 g3 g4 g5
    exact k _ p e s m args below meth c H1 locs (cells + 3) (slots + 410) ls _ q9 ce ⟨q1, q2, q3.junk g1 g2, Nat.le_trans q4 g1, q5, by omega, by omega, q8⟩ (fun v hv => nomatch hv) g3 g4 g5
def acT (sT dT : FieldType) : String := toString "arraycopy: type mismatch: can not copy " ++ toString (kindName sT) ++ toString "[] into " ++ toString (kindName dT) ++ toString "[]"
/-- two kinds that don't fit, with a short text -/
def xmt (sT dT : FieldType) : Bool := ((refKind sT != refKind dT) || (!refKind sT && sT != dT)) && decide ((stringBytes (stringToUtf16 (acT sT dT))).size ≤ 100) && !(acT sT dT == notModelled)
theorem xj_copyS {idx a0 a t0 t n0 n : Nat} {sT dT : FieldType} {x0 x : xC} {i2 i4 i5 : Int32} (hd : decode I.2.1 pc = .ok (.invokestatic idx, 3)) (w1 : Cond.methodLink I.1.cls idx arraycopyName ∈ lw_all) (w2 : Cond.native arraycopyName ∈ lw_all) (w3 : Cond.static arraycopyName ∈ lw_all) (w4 : Cond.initialized "java/lang/System" ∈ lw_all)
    (h0 : G[a0]? = some x0) (h1 : G[a]? = some x) (r0 : xar t0 n0 x0) (r1 : xar t n x) (ht0 : xtys[t0]? = some sT) (ht : xtys[t]? = some dT) (hmt : xmt sT dT = true)
    (hr : xrm R nc ns st 3 110) (k : ∀ j : Nat, xJT E I R Φ (nc - 3) (ns - 110) pc lv (G ++ List.replicate j cX) "java/lang/ArrayStoreException" none) : xJ E I R Φ nc ns pc lv (.int i5 :: .int i4 :: .ref a :: .int i2 :: .ref a0 :: st) G := by
  intro p e s m args below meth c H locs cells slots ls B
  obtain ⟨r1', r2', r3', r4'⟩ := hr
  have hW := B.2.1.2.2.2.2.2.2.1
  obtain ⟨c0, k0, m0, e1, e2, e3, e4, e5⟩ := xar_cell B h0 r0 ht0
  obtain ⟨c1, k1, m1, f1, f2, f3, f4, f5⟩ := xar_cell B h1 r1 ht
  obtain ⟨q1, q2, q3, q4, q5, q6, q7, q8⟩ := B
  unfold xmt at hmt
  simp only [Bool.and_eq_true, decide_eq_true_eq, Bool.not_eq_true'] at hmt
  refine vx_copyW (A := fun q => xb E ≤ q) (text := acT sT dT) (names := ["java/lang/RuntimeException", "java/lang/Exception"]) (nb := 100) q2.1 q1.1 (by decide) (by decide) (by decide) (by decide) (xa_AS q1 hW) xg_AS (q1.zU hW q3) (q1.zN hW q3) (by rw [q2.2.2.1]; exact q8.2.1)
    hmt.2 hmt.1.2 (by decide) (by show 2 + 5 < R.frames; omega) (by rw [xv_cats]; exact r2') (by decide) (by omega) (by omega) q2.2.2.2.2.1 q2.2.2.2.2.2.1 (q1.word hW w1 args) (q1.word hW w2 args) (q1.word hW w3 args) (q1.word hW w4 args) rfl ?_ (by rw [q2.2.1]; exact hd) ?_
  · intro T hT vm' hv fs E' hE
    obtain ⟨k0', g0, g0'⟩ := hv.alike.2.2 _ _ e4
    obtain ⟨k1', g1, g1'⟩ := hv.alike.2.2 _ _ f4
    refine W.arraycopy_types (cs := c0) (cd := c1) (ks := k0') (kd := k1') (sComp := m0) (dComp := m1) (sType := sT) (dType := dT) (by show T.heap[_]? = _; rw [hT]; exact e1) (by show T.heap[_]? = _; rw [hT]; exact f1) e2 f2 g0 g1 (by rw [g0']; exact e5) (by rw [g1']; exact f5) hmt.1.1 (hE _)
  · intro H1 q9 ce g1 g2 g3 g4 g5
    exact k _ p e s m args below meth c H1 locs (cells + 3) (slots + 110) ls _ q9 ce ⟨q1, q2, q3.junk g1 g2, Nat.le_trans q4 g1, q5, by omega, by omega, q8⟩ (fun v hv => nomatch hv) g3 g4 g5
end XJ15
theorem xmt_4 : ([FieldType.byte, .short, .int, .long].all fun x => [FieldType.byte, .short, .int, .long].all fun y => x == y || xmt x y) = true := by decide +kernel
