/-! ===== the x layer: System.arraycopy, Math ===== -/
set_option maxRecDepth 100000
/-- a stretch of one list over another -/
def cpL (L0 L : List Int32) (sp dp N : Nat) : List Int32 := (List.range L.length).map (fun k => if dp ≤ k ∧ k < dp + N then L0.getD (sp + (k - dp)) 0 else L.getD k 0)
theorem cpL_len (L0 L : List Int32) (sp dp N : Nat) : (cpL L0 L sp dp N).length = L.length := by unfold cpL; rw [List.length_map, List.length_range]
theorem cpL_at {L0 L : List Int32} {sp dp N k : Nat} (hk : k < L.length) : (cpL L0 L sp dp N)[k]? = some (if dp ≤ k ∧ k < dp + N then L0.getD (sp + (k - dp)) 0 else L.getD k 0) := by
  unfold cpL
  rw [List.getElem?_map, List.getElem?_range hk]; rfl
theorem cpL_cell {cA : ClassId} {L0 L : List Int32} {sp dp N : Nat} : vp_cell cA (L.length, .inl (va_cpy (fun j => L0.getD j 0) (fun j => L.getD j 0) sp dp N)) = vp_cell cA ((cpL L0 L sp dp N).length, .inl (fun j => (cpL L0 L sp dp N).getD j 0)) := by
  rw [cpL_len]
  show arrV cA L.length (fun j => .int (va_cpy (fun j => L0.getD j 0) (fun j => L.getD j 0) sp dp N j)) = arrV cA L.length (fun j => .int ((cpL L0 L sp dp N).getD j 0))
  unfold arrV
  congr 1
  apply Array.ext
  · simp
  · intro i h1 h2
    simp only [Array.size_ofFn] at h1
    simp only [Array.getElem_ofFn]
    have := cpL_at (L0 := L0) (sp := sp) (dp := dp) (N := N) h1
    rw [List.getD_eq_getElem?_getD, this]
    rfl
section XJ8
variable {E : xE} {I : xI} {R : Room} {Φ : xOut → xH → Prop} {nc ns pc : Nat} {lv : List (Option Value)} {st : List Value} {G : xH}
theorem xj_copy {t : Nat} {ty : FieldType} {a0 a idx : Nat} {L0 L : List Int32} {sp dp N : Nat} {isp idp iN : Int32} {rest : List Value} (hd : decode I.2.1 pc = .ok (.invokestatic idx, 3)) (w1 : Cond.methodLink I.1.cls idx arraycopyName ∈ lw_all) (w2 : Cond.native arraycopyName ∈ lw_all) (w3 : Cond.static arraycopyName ∈ lw_all) (w4 : Cond.initialized "java/lang/System" ∈ lw_all)
    (h0 : G[a0]? = some (cI t L0)) (h1 : G[a]? = some (cI t L)) (ht : xtys[t]? = some ty) (hprim : refKind ty = false) (hsp : isp = nI sp) (hdp : idp = nI dp) (hN : iN = nI N) (b1' : sp < 2147483648) (b2' : dp < 2147483648) (b3' : N < 2147483648) (hl : sp + N ≤ L0.length) (hl2 : dp + N ≤ L.length) (hfit : ∀ i, i < N → fits ty (.int (L0.getD (sp + i) 0)) = true)
    (hrest : (rest.map fun v => v.category).sum ≤ 8) (hR : 1 ≤ R.frames ∧ 8 + (nativeFrameWords "java/lang/System" "arraycopy" 5 + 11) ≤ R.locals) (k : xJ E I R Φ nc ns (pc + 3) lv rest (G.set a (cI t (cpL L0 L sp dp N)))) : xJ E I R Φ nc ns pc lv (.int iN :: .int idp :: .ref a :: .int isp :: .ref a0 :: rest) G := by
  intro p e s m args below meth c H locs cells slots ls B T hT X
  have hW := B.2.1.2.2.2.2.2.2.1
  subst hsp; subst hdp; subst hN
  have h2 : ((rest.map (xv E)).map fun v => v.category).sum ≤ 8 := by rw [xv_cats]; exact hrest
  have hc0 : H[xb E + a0]? = some (vp_cell (E.2.2.2.2.1 t) (L0.length, .inl (fun j => L0.getD j 0))) := B.2.2.1.2.2 a0 _ h0
  have hc1 : H[xb E + a]? = some (vp_cell (E.2.2.2.2.1 t) (L.length, .inl (fun j => L.getD j 0))) := B.2.2.1.2.2 a _ h1
  have hKa := B.1.Ka hW ht
  obtain ⟨-, k0, hk0, cm0, hkk0⟩ := (hKa.2 0 _ rfl).1 L0.length (fun j => .int (L0.getD j 0))
  obtain ⟨-, k1, hk1, cm1, hkk1⟩ := (hKa.2 0 _ rfl).1 L.length (fun j => .int (L.getD j 0))
  have e0 : ∀ z : Nat, z < 2147483648 → (nI z).toInt = (z : Int) := fun z hz => nI_toInt hz
  have ec : ∀ z : Nat, z < 2147483648 → (nI z).toNatClampNeg = z := fun z hz => nI_clamp hz
  obtain ⟨vm', X', step⟩ := X.arraycopy B.2.1.1 B.2.1.2.2.2.2.2.1 (B.1.word hW w1 args) (B.1.word hW w2 args) (B.1.word hW w3 args) (B.1.word hW w4 args) (src := xb E + a0) (dst := xb E + a) (cs := vp_cell (E.2.2.2.2.1 t) (L0.length, .inl (fun j => L0.getD j 0))) (cd := vp_cell (E.2.2.2.2.1 t) (L.length, .inl (fun j => L.getD j 0))) (srcPos := nI sp) (destPos := nI dp) (n := nI N) (by rw [hT]; exact hc0) (by rw [hT]; exact hc1)
    (fun _ h => by cases h) (fun _ h => by cases h) (fun h => by cases h) (fun h => by cases h) hk0 hk1 hkk0 hkk1 (by simp [hprim]) (nI_pos b1') (nI_pos b2') (nI_pos b3')
    (by rw [e0 sp b1', e0 N b3']; show ¬ _ > ((arrV (E.2.2.2.2.1 t) L0.length (fun j => .int (L0.getD j 0))).slots.size : Int); rw [arrV_size]; omega)
    (by rw [e0 dp b2', e0 N b3']; show ¬ _ > ((arrV (E.2.2.2.2.1 t) L.length (fun j => .int (L.getD j 0))).slots.size : Int); rw [arrV_size]; omega)
    (fun vm₁ _ i hi => by
      rw [ec N b3'] at hi
      rw [ec sp b1']
      have e : (vp_cell (E.2.2.2.2.1 t) (L0.length, .inl (fun j => L0.getD j 0))).slots.getD (sp + i) .null = .int (L0.getD (sp + i) 0) := by
        show (arrV (E.2.2.2.2.1 t) L0.length (fun j => .int (L0.getD j 0))).slots.getD _ _ = _
        rw [Array.getD_eq_getD_getElem?, arrV_read _ _ (by omega)]
        rfl
      refine ⟨?_, ?_⟩
      · rw [e]; exact hfit i hi
      · rw [e]; exact trivial)
    (g := F0 m pc ls ((.int (nI N) :: .int (nI dp) :: .ref a :: .int (nI sp) :: .ref a0 :: rest).map (xv E))) rfl (by rw [B.2.1.2.2.1]; exact B.2.2.2.2.2.2.2.2.1) (rest := rest.map (xv E)) rfl (by rw [B.2.1.2.1]; exact hd) hR.1 (by show 2 * 0 + _ + _ ≤ _; omega)
  have e1 : copied (vp_cell (E.2.2.2.2.1 t) (L0.length, .inl (fun j => L0.getD j 0))) (vp_cell (E.2.2.2.2.1 t) (L.length, .inl (fun j => L.getD j 0))) (nI sp) (nI dp) (nI N) = vp_cell (E.2.2.2.2.1 t) ((cpL L0 L sp dp N).length, .inl (fun j => (cpL L0 L sp dp N).getD j 0)) := by
    rw [← cpL_cell]
    have := va_copied (fun z => Value.int z) (E.2.2.2.2.1 t) (E.2.2.2.2.1 t) (n0 := L0.length) (n1 := L.length) (sp := sp) (dp := dp) (n := N) (fun j => L0.getD j 0) (fun j => L.getD j 0) hl
    unfold copied
    rw [ec sp b1', ec dp b2', ec N b3']
    exact this
  rw [e1] at X' step
  have hlt : xb E + a < H.size := (Array.getElem?_eq_some_iff.mp hc1).1
  obtain ⟨t2, a1, b1⟩ := k p e s m args below meth c (H.setIfInBounds (xb E + a) (vp_cell (E.2.2.2.2.1 t) ((cpL L0 L sp dp N).length, .inl (fun j => (cpL L0 L sp dp N).getD j 0)))) _ cells slots ls ⟨B.1, B.2.1, B.2.2.1.set (by simp) (fun q hq => by simp [Array.getElem?_setIfInBounds, Ne.symm hq]) (show (H.setIfInBounds _ _)[xb E + a]? = some _ by simp [Array.getElem?_setIfInBounds, hlt]), by simp; exact B.2.2.2.1, fun z hz => by
      rcases List.mem_append.mp hz with h | h
      · exact B.2.2.2.2.1 z h
      · obtain ⟨y, -, hy⟩ := List.mem_map.mp h
        rw [← hy]
        exact Nat.le_add_right _ _, B.2.2.2.2.2⟩ _ (by rw [← hT]; rfl) X'
  exact ⟨t2, step t2 a1, b1⟩
theorem xj_mmin {idx : Nat} {x y : Int32} {rest : List Value} (hd : decode I.2.1 pc = .ok (.invokestatic idx, 3)) (w1 : Cond.methodLink I.1.cls idx Lib.Math.min.name ∈ lw_all) (w2 : Cond.static Lib.Math.min.name ∈ lw_all) (w3 : Cond.initialized "java/lang/Math" ∈ lw_all) (w4 : Cond.code Lib.Math.min.name Lib.Math.min.code 2 (some .int) ∈ lw_all) (hrest : (rest.map fun v => v.category).sum ≤ 8) (hR : 1 ≤ R.frames ∧ 21 ≤ R.locals) (k : xJ E I R Φ nc ns (pc + 3) lv (.int (if y < x then y else x) :: rest) G) : xJ E I R Φ nc ns pc lv (.int y :: .int x :: rest) G := by
  intro p e s m args below meth c H locs cells slots ls B
  have hW := B.2.1.2.2.2.2.2.2.1
  have hb6 := B.2.2.2.2.2.1
  have hb7 := B.2.2.2.2.2.2.1
  have h2 : ((rest.map (xv E)).map fun v => v.category).sum ≤ 8 := by rw [xv_cats]; exact hrest
  exact va_mmin B.2.1.1 B.2.1.2.1 (by rw [B.2.1.2.2.1]; exact B.2.2.2.2.2.2.2.2.1.symm) B.2.1.2.2.2.2.2.1 (B.1.word hW w1 args) (B.1.word hW w2 args) (B.1.word hW w3 args) (B.1.word hW w4 args) hR.1 (by omega) (by omega) (by omega) hd (k p e s m args below meth c H locs cells slots ls B)
theorem xj_mmax {idx : Nat} {x y : Int32} {rest : List Value} (hd : decode I.2.1 pc = .ok (.invokestatic idx, 3)) (w1 : Cond.methodLink I.1.cls idx Lib.Math.max.name ∈ lw_all) (w2 : Cond.static Lib.Math.max.name ∈ lw_all) (w3 : Cond.initialized "java/lang/Math" ∈ lw_all) (w4 : Cond.code Lib.Math.max.name Lib.Math.max.code 2 (some .int) ∈ lw_all) (hrest : (rest.map fun v => v.category).sum ≤ 8) (hR : 1 ≤ R.frames ∧ 21 ≤ R.locals) (k : xJ E I R Φ nc ns (pc + 3) lv (.int (if x < y then y else x) :: rest) G) : xJ E I R Φ nc ns pc lv (.int y :: .int x :: rest) G := by
  intro p e s m args below meth c H locs cells slots ls B
  have hW := B.2.1.2.2.2.2.2.2.1
  have hb6 := B.2.2.2.2.2.1
  have hb7 := B.2.2.2.2.2.2.1
  have h2 : ((rest.map (xv E)).map fun v => v.category).sum ≤ 8 := by rw [xv_cats]; exact hrest
  exact va_mmax B.2.1.1 B.2.1.2.1 (by rw [B.2.1.2.2.1]; exact B.2.2.2.2.2.2.2.2.1.symm) B.2.1.2.2.2.2.2.1 (B.1.word hW w1 args) (B.1.word hW w2 args) (B.1.word hW w3 args) (B.1.word hW w4 args) hR.1 (by omega) (by omega) (by omega) hd (k p e s m args below meth c H locs cells slots ls B)
end XJ8
