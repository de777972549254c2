/-! ===== the x layer: String constants ===== -/
set_option maxRecDepth 100000
section XJ6
variable {E : xE} {I : xI} {R : Room} {Φ : xOut → xH → Prop} {nc ns pc : Nat} {lv : List (Option Value)} {st : List Value} {G : xH}
theorem xOK.strAt {s : State} {H : Heap} (ok : xOK E) (hW : E.2.1.WarmedH s.vm) (w : xWd E G H) : vk_S 13 xslen xsbyt E.2.2.2.2.2 (fun i => E.2.2.2.2.2 (100 + i)) (fun q => xb E ≤ q) s H :=
  (vk_S.moved hW.alike ok.2.2.2.2.2.1).kept (fun a _ h2 => w.2.1 a (Nat.lt_of_not_le h2))
theorem xj_ldcS {idx : Nat} {tx : String} {u : UInt32} (hd : decode I.2.1 pc = .ok (.ldc idx, 2)) (hs : (I.1.cls, idx, tx, u.toNat) ∈ xstrs) (kk : xJ E I R Φ nc ns (pc + 2) lv (.float u :: st) G) : xJ E I R Φ nc ns pc lv st G := by
  intro p e s m args below meth c H locs cells slots ls B
  have hW := B.2.1.2.2.2.2.2.2.1
  exact va_ldcS B.2.1.1 B.2.1.2.1 B.2.1.2.2.2.2.2.1 (vk_R.warm hW (B.1.2.2.2.2.2.2.1 _ hs)) hd (kk p e s m args below meth c H locs cells slots ls B)
theorem xj_ldcSw {idx : Nat} {tx : String} {u : UInt32} (hd : decode I.2.1 pc = .ok (.ldc_w idx, 3)) (hs : (I.1.cls, idx, tx, u.toNat) ∈ xstrs) (kk : xJ E I R Φ nc ns (pc + 3) lv (.float u :: st) G) : xJ E I R Φ nc ns pc lv st G := by
  intro p e s m args below meth c H locs cells slots ls B
  have hW := B.2.1.2.2.2.2.2.2.1
  have hZ := vk_R.warm hW (B.1.2.2.2.2.2.2.1 _ hs)
  intro T hT X
  obtain ⟨t, a1, b1⟩ := kk p e s m args below meth c H locs cells slots ls B T hT X
  exact ⟨t, X.ldcStringW B.2.1.1 B.2.1.2.2.2.2.2.1 (text := tx) (a := E.2.2.2.2.2 u.toNat) hZ.1 hZ.2 (g := F0 m pc ls (st.map (xv E))) rfl (by rw [B.2.1.2.1]; exact hd) t a1, b1⟩
theorem xj_strV {idx : Nat} {u w : UInt32} (hd : decode I.2.1 pc = .ok (.getfield idx, 3)) (hw1 : Cond.fieldLink I.1.cls idx "java/lang/String" "value" "[B" ∈ lw_all) (hk : u.toNat < 13) (hw : w.toNat = 100 + u.toNat) (kk : xJ E I R Φ nc ns (pc + 3) lv (.float w :: st) G) : xJ E I R Φ nc ns pc lv (.float u :: st) G := by
  intro p e s m args below meth c H locs cells slots ls B
  have hW := B.2.1.2.2.2.2.2.2.1
  obtain ⟨cf, k, fi, f, cell, h1, h2, h3, h4, h5, h6⟩ := ((B.1.strAt hW B.2.2.1).1 u.toNat hk).2.2.1
  refine W.getf B.2.1.1 B.2.1.2.1 B.2.1.2.2.2.2.2.1 (B.1.word hW hw1 args) h1 h2 h3 h4 (v := xv E (.float w)) (by rw [h5]; show some (Value.ref _) = some (Value.ref (E.2.2.2.2.2 w.toNat)); rw [hw]) rfl rfl hd ?_
  exact kk p e s m args below meth c H locs cells slots ls B
theorem xj_strC {idx : Nat} {u : UInt32} (hd : decode I.2.1 pc = .ok (.getfield idx, 3)) (hw1 : Cond.fieldLink I.1.cls idx "java/lang/String" "coder" "B" ∈ lw_all) (hk : u.toNat < 13) (kk : xJ E I R Φ nc ns (pc + 3) lv (.int 0 :: st) G) : xJ E I R Φ nc ns pc lv (.float u :: st) G := by
  intro p e s m args below meth c H locs cells slots ls B
  have hW := B.2.1.2.2.2.2.2.2.1
  obtain ⟨cf, k, fi, f, cell, h1, h2, h3, h4, h5, h6⟩ := ((B.1.strAt hW B.2.2.1).1 u.toNat hk).2.1
  refine W.getf B.2.1.1 B.2.1.2.1 B.2.1.2.2.2.2.2.1 (B.1.word hW hw1 args) h1 h2 h3 h4 (v := .int 0) h5 rfl rfl hd ?_
  exact kk p e s m args below meth c H locs cells slots ls B
theorem xj_strL {u w : UInt32} (hd : decode I.2.1 pc = .ok (.arraylength, 1)) (hk : u.toNat < 13) (hw : w.toNat = 100 + u.toNat) (kk : xJ E I R Φ nc ns (pc + 1) lv (.int (nI (xslen.getD u.toNat 0)) :: st) G) : xJ E I R Φ nc ns pc lv (.float w :: st) G := by
  intro p e s m args below meth c H locs cells slots ls B
  have hW := B.2.1.2.2.2.2.2.2.1
  obtain ⟨cell, h1, h2, h3, h4, h5, h6, h7⟩ := ((B.1.strAt hW B.2.2.1).1 u.toNat hk).2.2.2
  refine W.alen (n := nI (xslen.getD u.toNat 0)) B.2.1.1 B.2.1.2.1 h1 h2 h5 rfl (rest := st.map (xv E)) (by show xv E (.float w) :: _ = _; show Value.ref (E.2.2.2.2.2 w.toNat) :: _ = _; rw [hw]) hd ?_
  exact kk p e s m args below meth c H locs cells slots ls B
theorem xj_strB {u w : UInt32} {k : Nat} {i : Int32} (hd : decode I.2.1 pc = .ok (.baload, 1)) (hk : u.toNat < 13) (hw : w.toNat = 100 + u.toNat) (hi : i = nI k) (h31 : k < 2147483648) (hkl : k < xslen.getD u.toNat 0) (kk : xJ E I R Φ nc ns (pc + 1) lv (.int ((xsbyt.getD u.toNat []).getD k 0) :: st) G) : xJ E I R Φ nc ns pc lv (.int i :: .float w :: st) G := by
  intro p e s m args below meth c H locs cells slots ls B
  have hW := B.2.1.2.2.2.2.2.2.1
  subst hi
  obtain ⟨cell, h1, h2, h3, h4, h5, h6, h7⟩ := ((B.1.strAt hW B.2.2.1).1 u.toNat hk).2.2.2
  refine W.bald (v := .int ((xsbyt.getD u.toNat []).getD k 0)) (j := nI k) B.2.1.1 B.2.1.2.1 h1 h2 h3 (by rw [nI_clamp h31]; rintro (q | q); exact nI_pos h31 q; omega) (by rw [nI_clamp h31]; exact h6 k hkl) rfl (rest := st.map (xv E)) (by show Value.int (nI k) :: Value.ref (E.2.2.2.2.2 w.toNat) :: _ = _; rw [hw]) hd ?_
  exact kk p e s m args below meth c H locs cells slots ls B
theorem xj_gsC {idx : Nat} (hd : decode I.2.1 pc = .ok (.getstatic idx, 3)) (hw1 : Cond.fieldLink I.1.cls idx "java/lang/String" "COMPACT_STRINGS" "Z" ∈ lw_all) (kk : xJ E I R Φ nc ns (pc + 3) lv (.int 1 :: st) G) : xJ E I R Φ nc ns pc lv st G := by
  intro p e s m args below meth c H locs cells slots ls B
  have hW := B.2.1.2.2.2.2.2.2.1
  obtain ⟨cf, kf, fi, f, a, cell, h1, h2, h3, h4, h5, h6, h7, h8⟩ := (va_Z.moved hW.alike B.1.2.2.2.2.2.2.2.1).kept (fun a _ h2 => B.2.2.1.2.1 a (Nat.lt_of_not_le h2))
  exact W.gets B.2.1.1 B.2.1.2.1 B.2.1.2.2.2.2.2.1 (B.1.word hW hw1 args) h1 h2 h3 h4 h5 (fun e => by rw [e] at h6; cases h6) h7 rfl hd (kk p e s m args below meth c H locs cells slots ls B)
theorem xj_gsF {idx : Nat} (hd : decode I.2.1 pc = .ok (.getstatic idx, 3)) (hw1 : Cond.fieldLink I.1.cls idx "jdk/internal/util/Preconditions" "SIOOBE_FORMATTER" "Ljava/util/function/BiFunction;" ∈ lw_all) (kn : xJ E I R Φ nc ns (pc + 3) lv (.null :: st) G) (kk : xJ E I R Φ nc ns (pc + 3) lv (.float 50 :: st) G) : xJ E I R Φ nc ns pc lv st G := by
  intro p e s m args below meth c H locs cells slots ls B
  have hW := B.2.1.2.2.2.2.2.2.1
  rcases B.1.2.2.2.2.2.2.2.2 with hz | hz
  · obtain ⟨cf, kf, fi, f, a, cell, h1, h2, h3, h4, h5, h6, h7, h8⟩ := (va_Z.moved hW.alike hz).kept (fun a _ h2 => B.2.2.1.2.1 a (Nat.lt_of_not_le h2))
    exact W.gets B.2.1.1 B.2.1.2.1 B.2.1.2.2.2.2.2.1 (B.1.word hW hw1 args) h1 h2 h3 h4 h5 (fun e => by rw [e] at h6; cases h6) h7 rfl hd (kn p e s m args below meth c H locs cells slots ls B)
  · obtain ⟨cf, kf, fi, f, a, cell, h1, h2, h3, h4, h5, h6, h7, h8⟩ := (va_Z.moved hW.alike hz).kept (fun a _ h2 => B.2.2.1.2.1 a (Nat.lt_of_not_le h2))
    exact W.gets B.2.1.1 B.2.1.2.1 B.2.1.2.2.2.2.2.1 (B.1.word hW hw1 args) h1 h2 h3 h4 h5 (fun e => by rw [e] at h6; cases h6) h7 rfl hd (kk p e s m args below meth c H locs cells slots ls B)
theorem xstX {As rest : List Value} {u : UInt32} (hst : st = As.reverse ++ .float u :: rest) : st.map (xv E) = (As.map (xv E)).reverse ++ .ref (E.2.2.2.2.2 u.toNat) :: rest.map (xv E) := by
  rw [hst, List.map_append, List.map_reverse]; rfl
/-- a String's own method -/
theorem xj_callX {idx d mc ms n : Nat} {u : UInt32} {y : MethodName} {bytes : ByteArray} {maxL : Nat} {ret : Option FieldType} {r : Option Value} {G1 : xH} {As rest : List Value} (hd : decode I.2.1 pc = .ok (.invokevirtual idx, 3)) (w1 : Cond.methodLink I.1.cls idx y ∈ lw_all) (ks : xsV y bytes maxL ret n) (hM : xMet E y bytes maxL ret d mc ms (.float u :: As) G (xrv r G1)) (hk : u.toNat < 13) (hC : "java/lang/String" = y.cls) (hn : As.length = n) (hst : st = As.reverse ++ .float u :: rest) (hrest : (rest.map fun v => v.category).sum ≤ 8)
    (hR : d + 41 ≤ R.frames ∧ 11019 + maxL + 64 * d ≤ R.locals) (hc : mc ≤ nc) (hs : ms ≤ ns) (k : xJ E I R Φ (nc - mc) (ns - ms) (pc + 3) lv (r.toList ++ rest) G1) : xJ E I R Φ nc ns pc lv st G := by
  refine xrun (Ψ := xrv r G1) (a := (Value.ref (E.2.2.2.2.2 u.toNat) :: As.map (xv E)).toArray) (fun p e s m args below meth c H locs cells slots ls B => ?_) hc hs xrv_t (xrv_k k)
  have hW := B.2.1.2.2.2.2.2.2.1
  have hb6 := B.2.2.2.2.2.1
  have hb7 := B.2.2.2.2.2.2.1
  obtain ⟨cell, h1, h2, h3, -⟩ := ((B.1.strAt hW B.2.2.1).1 u.toNat hk).1
  exact vx_runV (As := As.map (xv E)) (b := E.2.2.2.2.2 u.toNat) ⟨B.2.1.1, B.2.1.2.1, B.2.1.2.2.1, B.2.1.2.2.2.2.2.1, B.1.words hW args⟩ (hM B.1) ⟨xCB B ks.2.2.2.2 (B.1.word hW w1 args) ks.2.2.1 ks.2.2.2.1 hR, B.1.word hW ks.1 args, B.1.word hW ks.2.1 args⟩ ⟨xPc_blind, ⟨cell, h1, h2, by rw [← hC]; exact h3⟩, fun U hU hWU => ⟨rfl, State.WarmedH.trans hW hWU, by rw [hU]; exact B.2.2.1⟩⟩ rfl (by rw [List.length_map]; exact hn) B.2.2.2.2.2.2.2.2.1 (xstX hst) (xroom hrest) hd ⟨by omega, by omega⟩
end XJ6
