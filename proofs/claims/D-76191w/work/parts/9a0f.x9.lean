/-! ===== the x layer, ninth part: casts ===== -/
set_option maxRecDepth 100000
/-- a cell's class by its name -/
def xnm (C : String) : xC → Prop
  | some (.inl q) => ∃ ty, xtys[q.1]? = some ty ∧ (∀ D, ty ≠ .object D) ∧ C = "[" ++ ty.toString
  | some (.inr (.inl q)) => ∃ ty, xtys[q.1]? = some ty ∧ (∀ D, ty ≠ .object D) ∧ C = "[" ++ ty.toString
  | some (.inr (.inr (.inr q))) => ∃ T N, xcl[q.1]? = some (C, T, N)
  | _ => False
theorem xnm_I0 {L : List Int32} : xnm "[I" (cI 0 L) := ⟨.int, rfl, (fun _ h => by cases h), rfl⟩
theorem xnm_I1 {L : List Int32} : xnm "[B" (cI 1 L) := ⟨.byte, rfl, (fun _ h => by cases h), rfl⟩
theorem xnm_I3 {L : List Int32} : xnm "[S" (cI 3 L) := ⟨.short, rfl, (fun _ h => by cases h), rfl⟩
theorem xnm_L {L : List Int64} : xnm "[J" (cL 4 L) := ⟨.long, rfl, (fun _ h => by cases h), rfl⟩
theorem xnm_O {ci N : Nat} {C : String} {T : u_T} {fs : List Value} (h : xcl[ci]? = some (C, T, N)) : xnm C (cO ci fs) := ⟨T, N, h⟩
section XJ9
variable {E : xE} {I : xI} {R : Room} {Φ : xOut → xH → Prop} {nc ns pc : Nat} {lv : List (Option Value)} {st : List Value} {G : xH}
theorem x_arrN {s : State} (ok : xOK E) (hW : E.2.1.WarmedH s.vm) {t : Nat} {ty : FieldType} (ht : xtys[t]? = some ty) (ho : ∀ D, ty ≠ .object D) : s.vm.findClass ("[" ++ ty.toString) = some (E.2.2.2.2.1 t) := by
  have h := ((ok.Ka hW ht).2 0 _ rfl).2
  cases ty with
  | object C => exact absurd rfl (ho C)
  | _ => exact h
theorem xcel {p : Program} {s : State} {m : MethodId} {meth : Method} {c : Code} {H : Heap} {locs : List Loc} {cells slots : Nat} {ls : Array Slot} (B : xB E I R nc ns lv G p s m meth c H locs cells slots ls) {a : Nat} {x : xC} {C : String} (hg : G[a]? = some x) (hn : xnm C x) : ∃ cell : Cell, H[xb E + a]? = some cell ∧ cell.vm.isStatics = false ∧ s.vm.findClass C = some cell.cls := by
  have hW := B.2.1.2.2.2.2.2.2.1
  have hx := B.2.2.1.2.2 a _ hg
  match x, hn, hx with
  | some (.inl q), hn, hx =>
    obtain ⟨ty, h1, h2, rfl⟩ := hn
    exact ⟨_, hx, rfl, x_arrN B.1 hW h1 h2⟩
  | some (.inr (.inl q)), hn, hx =>
    obtain ⟨ty, h1, h2, rfl⟩ := hn
    exact ⟨_, hx, rfl, x_arrN B.1 hW h1 h2⟩
  | some (.inr (.inr (.inr q))), hn, _ =>
    obtain ⟨T, N, h1⟩ := hn
    exact xrecv B hg h1
theorem xj_castN {idx : Nat} (hd : decode I.2.1 pc = .ok (.checkcast idx, 3)) (kk : xJ E I R Φ nc ns (pc + 3) lv (.null :: st) G) : xJ E I R Φ nc ns pc lv (.null :: st) G := by
  intro p e s m args below meth c H locs cells slots ls B
  exact lv_castN B.2.1.1 B.2.1.2.1 hd (kk p e s m args below meth c H locs cells slots ls B)
theorem xj_instN {idx : Nat} (hd : decode I.2.1 pc = .ok (.instanceof idx, 3)) (kk : xJ E I R Φ nc ns (pc + 3) lv (.int 0 :: st) G) : xJ E I R Φ nc ns pc lv (.null :: st) G := by
  intro p e s m args below meth c H locs cells slots ls B
  exact lv_instN B.2.1.1 B.2.1.2.1 hd (kk p e s m args below meth c H locs cells slots ls B)
theorem xj_castE {idx a : Nat} {x : xC} {nm : String} (hd : decode I.2.1 pc = .ok (.checkcast idx, 3)) (w1 : Cond.classLink I.1.cls idx nm ∈ lw_all) (hg : G[a]? = some x) (hn : xnm nm x) (kk : xJ E I R Φ nc ns (pc + 3) lv (.ref a :: st) G) : xJ E I R Φ nc ns pc lv (.ref a :: st) G := by
  intro p e s m args below meth c H locs cells slots ls B
  have hW := B.2.1.2.2.2.2.2.2.1
  exact va_castE B.2.1.1 B.2.1.2.1 B.2.1.2.2.2.2.2.1 (B.1.word hW w1 args) (xcel B hg hn) hd (kk p e s m args below meth c H locs cells slots ls B)
theorem xj_instE {idx a : Nat} {x : xC} {nm : String} (hd : decode I.2.1 pc = .ok (.instanceof idx, 3)) (w1 : Cond.classLink I.1.cls idx nm ∈ lw_all) (hg : G[a]? = some x) (hn : xnm nm x) (kk : xJ E I R Φ nc ns (pc + 3) lv (.int 1 :: st) G) : xJ E I R Φ nc ns pc lv (.ref a :: st) G := by
  intro p e s m args below meth c H locs cells slots ls B
  have hW := B.2.1.2.2.2.2.2.2.1
  exact va_instE B.2.1.1 B.2.1.2.1 B.2.1.2.2.2.2.2.1 (B.1.word hW w1 args) (xcel B hg hn) hd (kk p e s m args below meth c H locs cells slots ls B)
theorem xj_castY {idx a : Nat} {x : xC} {C nm : String} (hd : decode I.2.1 pc = .ok (.checkcast idx, 3)) (w1 : Cond.classLink I.1.cls idx nm ∈ lw_all) (hg : G[a]? = some x) (hn : xnm C x) (hc : Cond.castable C nm ∈ lw_tbl) (kk : xJ E I R Φ nc ns (pc + 3) lv (.ref a :: st) G) : xJ E I R Φ nc ns pc lv (.ref a :: st) G := by
  intro p e s m args below meth c H locs cells slots ls B
  have hW := B.2.1.2.2.2.2.2.2.1
  exact va_castY B.2.1.1 B.2.1.2.1 B.2.1.2.2.2.2.2.1 (B.1.word hW w1 args) (va_Nw.warmC hW (va_Nw.of rfl (B.1.2.1 _ hc))) (xcel B hg hn) hd (kk p e s m args below meth c H locs cells slots ls B)
theorem xj_instY {idx a : Nat} {x : xC} {C nm : String} (hd : decode I.2.1 pc = .ok (.instanceof idx, 3)) (w1 : Cond.classLink I.1.cls idx nm ∈ lw_all) (hg : G[a]? = some x) (hn : xnm C x) (hc : Cond.castable C nm ∈ lw_tbl) (kk : xJ E I R Φ nc ns (pc + 3) lv (.int 1 :: st) G) : xJ E I R Φ nc ns pc lv (.ref a :: st) G := by
  intro p e s m args below meth c H locs cells slots ls B
  have hW := B.2.1.2.2.2.2.2.2.1
  exact va_instY B.2.1.1 B.2.1.2.1 B.2.1.2.2.2.2.2.1 (B.1.word hW w1 args) (va_Nw.warmC hW (va_Nw.of rfl (B.1.2.1 _ hc))) (xcel B hg hn) hd (kk p e s m args below meth c H locs cells slots ls B)
theorem xj_instNo {idx a : Nat} {x : xC} {C nm : String} (hd : decode I.2.1 pc = .ok (.instanceof idx, 3)) (w1 : Cond.classLink I.1.cls idx nm ∈ lw_all) (hg : G[a]? = some x) (hn : xnm C x) (hc : xnc C nm) (kk : xJ E I R Φ nc ns (pc + 3) lv (.int 0 :: st) G) : xJ E I R Φ nc ns pc lv (.ref a :: st) G := by
  intro p e s m args below meth c H locs cells slots ls B
  have hW := B.2.1.2.2.2.2.2.2.1
  exact va_instNo B.2.1.1 B.2.1.2.1 B.2.1.2.2.2.2.2.1 (B.1.word hW w1 args) (B.1.ncast hW hc) (xcel B hg hn) hd (kk p e s m args below meth c H locs cells slots ls B)
end XJ9
