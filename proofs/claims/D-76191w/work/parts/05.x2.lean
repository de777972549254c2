/-! ===== the x layer, second part: lengths, arrays of references, new arrays, ends, throws, calls ===== -/
set_option maxRecDepth 100000
section XJ2
variable {E : xE} {I : xI} {R : Room} {Φ : xOut → xH → Prop} {nc ns pc : Nat} {lv : List (Option Value)} {st : List Value} {G : xH}
theorem xAOA {t : FieldType} {args A : Array Value} {u U : State} (hvm : u.vm.Alike U.vm) (h : (Cond.arrayOver (.array t)).before args u = true) : (Cond.arrayOver (.array t)).before A U = true := by
  obtain ⟨comp, c, k, h1, h2, h3, h4, h5⟩ := arrayOverA_spec h
  obtain ⟨k', hk', he⟩ := hvm.2.2 _ _ h3
  have hi : (U.vm.classes.findIdx? fun (x : Class) => match x.kind with | .array component _ => component == comp | _ => false) = some c := by
    rw [hvm.findIdx?_eq _ (fun _ => rfl)]; exact h2
  have hkind : k'.kind = .array comp (.array t) := by rw [he]; exact h4
  have f1 : U.vm.findClass (FieldType.array t).toString = some comp := by rw [hvm.findClass]; exact h1
  have f2 : U.vm.findClass ("[" ++ (FieldType.array t).toString) = some c := by rw [hvm.findClass]; exact h5
  unfold Cond.before Cond.holds
  simp only [Cond.value]
  rw [f1, Option.bind_some]
  refine (congrArg (fun o : Option Nat => (o.bind (fun c => (U.vm.classes[c]?).map fun (k : Class) => match k.kind with | .array _ ty => decide (ty = FieldType.array t) && decide (U.vm.findClass ("[" ++ (FieldType.array t).toString) = some c) | _ => false) == some true)) hi).trans ?_
  simp [hk', hkind, f2]
theorem xasg (vm : Vm) (c : ClassId) : vm.assignable c c = true := by
  show vm.assignableAux (255 + 1) c c = true
  rw [Vm.assignableAux]
  simp only [beq_self_eq_true, Bool.true_or]
theorem xj_alenI {a t : Nat} {ty : FieldType} {L : List Int32} (hd : decode I.2.1 pc = .ok (.arraylength, 1)) (hg : G[a]? = some (cI t L)) (ht : xtys[t]? = some ty) (kk : xJ E I R Φ nc ns (pc + 1) lv (.int (nI L.length) :: st) G) : xJ E I R Φ nc ns pc lv (.ref a :: st) G := by
  intro p e s m args below meth c H locs cells slots ls B
  have hP : va_P E.2.2.2.1 xcl [(xb E + a, .inl (E.2.2.2.2.1 t, L.length, .inl (fun j => L.getD j 0)))] H := xP1 (B.2.2.1.2.2 a _ hg)
  exact va_alen B.2.1.1 B.2.1.2.1 (B.1.Ka B.2.1.2.2.2.2.2.2.1 ht) hP 0 0 rfl rfl rfl hd (kk p e s m args below meth c H locs cells slots ls B)
theorem xj_alenL {a t : Nat} {ty : FieldType} {L : List Int64} (hd : decode I.2.1 pc = .ok (.arraylength, 1)) (hg : G[a]? = some (cL t L)) (ht : xtys[t]? = some ty) (kk : xJ E I R Φ nc ns (pc + 1) lv (.int (nI L.length) :: st) G) : xJ E I R Φ nc ns pc lv (.ref a :: st) G := by
  intro p e s m args below meth c H locs cells slots ls B
  have hP : va_P E.2.2.2.1 xcl [(xb E + a, .inl (E.2.2.2.2.1 t, L.length, .inr (.inl (fun j => L.getD j 0))))] H := xP1 (B.2.2.1.2.2 a _ hg)
  exact va_alen B.2.1.1 B.2.1.2.1 (B.1.Ka B.2.1.2.2.2.2.2.2.1 ht) hP 0 0 rfl rfl rfl hd (kk p e s m args below meth c H locs cells slots ls B)
theorem xj_alenR {a t : Nat} {ty : FieldType} {L : List Value} (hd : decode I.2.1 pc = .ok (.arraylength, 1)) (hg : G[a]? = some (cR t L)) (ht : xtys[t]? = some ty) (kk : xJ E I R Φ nc ns (pc + 1) lv (.int (nI L.length) :: st) G) : xJ E I R Φ nc ns pc lv (.ref a :: st) G := by
  intro p e s m args below meth c H locs cells slots ls B
  have hP : va_P E.2.2.2.1 xcl [(xb E + a, .inl (E.2.2.2.2.1 t, L.length, .inr (.inr (.inr (.inr (fun j => xo E (L.getD j .null)))))))] H := xP1 (B.2.2.1.2.2 a _ hg).1
  exact va_alen B.2.1.1 B.2.1.2.1 (B.1.Ka B.2.1.2.2.2.2.2.2.1 ht) hP 0 0 rfl rfl rfl hd (kk p e s m args below meth c H locs cells slots ls B)
theorem xj_aald {a t k : Nat} {i : Int32} {ty : FieldType} {v : Value} {L : List Value} (hd : decode I.2.1 pc = .ok (.aaload, 1)) (hg : G[a]? = some (cR t L)) (ht : xtys[t]? = some ty) (hty : ty.isReference = true) (hi : i = nI k) (h31 : k < 2147483648) (hv : L[k]? = some v) (kk : xJ E I R Φ nc ns (pc + 1) lv (v :: st) G) : xJ E I R Φ nc ns pc lv (.int i :: .ref a :: st) G := by
  intro p e s m args below meth c H locs cells slots ls B
  have hW := B.2.1.2.2.2.2.2.2.1
  have hk : k < L.length := (List.getElem?_eq_some_iff.mp hv).1
  subst hi
  obtain ⟨hcell, hrf⟩ := B.2.2.1.2.2 a _ hg
  have hcell : H[xb E + a]? = some (arrV (E.2.2.2.2.1 t) L.length (fun j => va_rf (xo E (L.getD j .null)))) := hcell
  have hx : va_rf (xo E (L.getD k .null)) = xv E v := by rw [x_getD hv]; exact xo_rf (hrf v (List.mem_of_getElem? hv))
  refine W.aald (v := xv E v) (ty := ty) B.2.1.1 B.2.1.2.1 hcell (((B.1.Ka hW ht).2 0 _ rfl).1 L.length (fun j => va_rf (xo E (L.getD j .null)))) hty (fun q => by cases q) (by rw [arrV_size]; exact x_in hk h31) (by rw [nI_clamp h31, arrV_read _ _ hk, hx]) rfl rfl hd ?_
  exact kk p e s m args below meth c H locs cells slots ls B
theorem xWd.aput {G : xH} {H H1 : Heap} (w : xWd E G H) {a t k : Nat} {v : Value} {L : List Value} (hg : G[a]? = some (cR t L)) (hk : k < L.length) (hr : xrf v = true) (e1 : H1[xb E + a]? = some ((arrV (E.2.2.2.2.1 t) L.length (fun j => va_rf (xo E (L.getD j .null)))).setSlot k (xv E v))) (z : H1.size = H.size) (oq : ∀ q, q ≠ xb E + a → H1[q]? = H[q]?) : xWd E (G.set a (cR t (L.set k v))) H1 := by
  obtain ⟨-, hrf⟩ := w.2.2 a _ hg
  refine w.set z oq ⟨?_, fun u hu => ?_⟩
  · show H1[xb E + a]? = some (arrV (E.2.2.2.2.1 t) (L.set k v).length (fun j => va_rf (xo E ((L.set k v).getD j .null))))
    rw [e1, arrV_store, List.length_set]
    congr 2
    funext j
    rw [x_upd hk]
    by_cases hj : j = k
    · subst hj
      simp only [updV, if_true]
      exact (xo_rf hr).symm
    · simp [updV, hj]
  · rcases List.mem_or_eq_of_mem_set hu with h | h
    · exact hrf u h
    · rw [h]; exact hr
/-- an object into an array of objects -/
theorem xj_aastO {a t k b ci ct : Nat} {i : Int32} {C C' : String} {T T' : u_T} {N N' : Nat} {fs L : List Value} (hd : decode I.2.1 pc = .ok (.aastore, 1)) (hg : G[a]? = some (cR t L)) (ht : xtys[t]? = some (.object C)) (hgb : G[b]? = some (cO ci fs)) (hcb : xcl[ci]? = some (C', T', N')) (hct : xcl[ct]? = some (C, T, N)) (hcast : C' = C ∨ Cond.castable C' C ∈ lw_tbl) (hi : i = nI k) (h31 : k < 2147483648) (hk : k < L.length)
    (kk : xJ E I R Φ nc ns (pc + 1) lv st (G.set a (cR t (L.set k (.ref b))))) : xJ E I R Φ nc ns pc lv (.ref b :: .int i :: .ref a :: st) G := by
  intro p e s m args below meth c H locs cells slots ls B
  have hW := B.2.1.2.2.2.2.2.2.1
  subst hi
  have hK := B.1.K hW
  obtain ⟨hcell, -⟩ := B.2.2.1.2.2 a _ hg
  have hcell : H[xb E + a]? = some (arrV (E.2.2.2.2.1 t) L.length (fun j => va_rf (xo E (L.getD j .null)))) := hcell
  obtain ⟨r', hr', cellV, g1, g2, g3, -⟩ := B.2.2.1.2.2 b _ hgb
  obtain ⟨-, hfb, kB, hkB, -⟩ := hK.1 ci _ hcb
  obtain ⟨-, hfc, kC, hkC, -⟩ := hK.1 ct _ hct
  obtain ⟨kA, comp, k1, k2, k3, -⟩ := ((B.1.Ka hW ht).2 0 _ rfl).2
  have hcomp : comp = E.2.2.2.1.1 ct := Option.some.inj (k3.symm.trans hfc)
  subst hcomp
  have hasg : s.vm.assignable cellV.cls (E.2.2.2.1.1 ct) = true := by
    rw [g2]
    rcases hcast with h | h
    · subst h
      rw [Option.some.inj (hfb.symm.trans hfc)]
      exact xasg _ _
    · obtain ⟨c3, c4, hc3, hc4, has⟩ := Cond.castable_spec (va_Nw.use rfl (va_Nw.warmC hW (va_Nw.of rfl (B.1.2.1 _ h))) : (Cond.castable C' C).before args s = true)
      cases Option.some.inj (hc3.symm.trans hfb)
      cases Option.some.inj (hc4.symm.trans hfc)
      exact has
  refine W.aast B.2.1.1 B.2.1.2.1 hcell (fun q h => by cases h) (fun h => by cases h) k1 k2 rfl hkC ⟨nI_pos h31, by rw [arrV_size, nI_clamp h31]; exact hk⟩ g1 (fun q h => by rw [g3] at h; cases h) (by rw [g2]; exact hkB) hasg rfl rfl hd fun H1 e1 z oq => ?_
  rw [nI_clamp h31] at e1 ⊢
  exact kk p e s m args below meth c H1 _ cells slots ls ⟨B.1, B.2.1, B.2.2.1.aput hg hk rfl e1 z oq, by rw [z]; exact B.2.2.2.1, t_lc (free := fun q => xb E ≤ q) B.2.2.2.2.1 (Nat.le_add_right _ _), B.2.2.2.2.2⟩
/-- an array into an array of arrays -/
theorem xaastA {a t t2 k b n2 : Nat} {ty2 : FieldType} {i : Int32} {L : List Value} {z2 : Nat → Value} (hd : decode I.2.1 pc = .ok (.aastore, 1)) (hg : G[a]? = some (cR t L)) (ht : xtys[t]? = some (.array ty2)) (ht2 : xtys[t2]? = some ty2) (hn2 : (FieldType.array ty2).toString = "[" ++ ty2.toString) (hi : i = nI k) (h31 : k < 2147483648) (hk : k < L.length)
    (hb : ∀ H : Heap, xWd E G H → H[xb E + b]? = some (arrV (E.2.2.2.2.1 t2) n2 z2))
    (kk : xJ E I R Φ nc ns (pc + 1) lv st (G.set a (cR t (L.set k (.ref b))))) : xJ E I R Φ nc ns pc lv (.ref b :: .int i :: .ref a :: st) G := by
  intro p e s m args below meth c H locs cells slots ls B
  have hW := B.2.1.2.2.2.2.2.2.1
  subst hi
  obtain ⟨hcell, -⟩ := B.2.2.1.2.2 a _ hg
  have hcell : H[xb E + a]? = some (arrV (E.2.2.2.2.1 t) L.length (fun j => va_rf (xo E (L.getD j .null)))) := hcell
  have g1 := hb H B.2.2.1
  obtain ⟨kA0, comp, k1, k2, k3⟩ := (B.1.2.2.2.2.1 t _ ht).2.2 ty2 rfl
  obtain ⟨kA, hkA, hkE⟩ := hW.alike.2.2 _ _ k1
  have hkind : kA.kind = .array comp (.array ty2) := by rw [hkE]; exact k2
  have hcm : s.vm.findClass (FieldType.array ty2).toString = some comp := by rw [hW.alike.findClass]; exact k3
  have hA2 : s.vm.findClass ("[" ++ ty2.toString) = some (E.2.2.2.2.1 t2) := by
    have h := ((B.1.Ka hW ht2).2 0 _ rfl).2
    cases ty2 with
    | object C => obtain ⟨_, _, _, _, _, h4⟩ := h; exact h4
    | _ => exact h
  have hcomp : comp = E.2.2.2.2.1 t2 := by rw [hn2] at hcm; exact Option.some.inj (hcm.symm.trans hA2)
  subst hcomp
  obtain ⟨kC, hkC, -⟩ := Vm.findClass_spec hA2
  refine W.aast B.2.1.1 B.2.1.2.1 hcell (fun q h => by cases h) (fun h => by cases h) hkA hkind rfl hkC ⟨nI_pos h31, by rw [arrV_size, nI_clamp h31]; exact hk⟩ g1 (fun q h => by cases h) hkC (xasg _ _) rfl rfl hd fun H1 e1 z oq => ?_
  rw [nI_clamp h31] at e1 ⊢
  exact kk p e s m args below meth c H1 _ cells slots ls ⟨B.1, B.2.1, B.2.2.1.aput hg hk rfl e1 z oq, by rw [z]; exact B.2.2.2.1, t_lc (free := fun q => xb E ≤ q) B.2.2.2.2.1 (Nat.le_add_right _ _), B.2.2.2.2.2⟩
theorem xj_aastAR {a t t2 k b : Nat} {ty2 : FieldType} {i : Int32} {L L2 : List Value} (hd : decode I.2.1 pc = .ok (.aastore, 1)) (hg : G[a]? = some (cR t L)) (ht : xtys[t]? = some (.array ty2)) (hgb : G[b]? = some (cR t2 L2)) (ht2 : xtys[t2]? = some ty2) (hn2 : (FieldType.array ty2).toString = "[" ++ ty2.toString) (hi : i = nI k) (h31 : k < 2147483648) (hk : k < L.length)
    (kk : xJ E I R Φ nc ns (pc + 1) lv st (G.set a (cR t (L.set k (.ref b))))) : xJ E I R Φ nc ns pc lv (.ref b :: .int i :: .ref a :: st) G := xaastA (n2 := L2.length) (z2 := fun j => va_rf (xo E (L2.getD j .null))) hd hg ht ht2 hn2 hi h31 hk (fun _ w => (w.2.2 b _ hgb).1) kk
theorem xj_aastAI {a t t2 k b : Nat} {ty2 : FieldType} {i : Int32} {L : List Value} {L2 : List Int32} (hd : decode I.2.1 pc = .ok (.aastore, 1)) (hg : G[a]? = some (cR t L)) (ht : xtys[t]? = some (.array ty2)) (hgb : G[b]? = some (cI t2 L2)) (ht2 : xtys[t2]? = some ty2) (hn2 : (FieldType.array ty2).toString = "[" ++ ty2.toString) (hi : i = nI k) (h31 : k < 2147483648) (hk : k < L.length)
    (kk : xJ E I R Φ nc ns (pc + 1) lv st (G.set a (cR t (L.set k (.ref b))))) : xJ E I R Φ nc ns pc lv (.ref b :: .int i :: .ref a :: st) G := xaastA (n2 := L2.length) (z2 := fun j => .int (L2.getD j 0)) hd hg ht ht2 hn2 hi h31 hk (fun _ w => w.2.2 b _ hgb) kk
/-! new arrays -/
theorem x_rep {α : Type} (n : Nat) (x : α) (j : Nat) : (List.replicate n x).getD j x = x := by
  rw [List.getD_eq_getElem?_getD]
  cases h : (List.replicate n x)[j]? with
  | none => rfl
  | some y =>
    obtain ⟨h1, h2⟩ := List.getElem?_eq_some_iff.mp h
    rw [List.getElem_replicate] at h2
    exact h2.symm
theorem xnewa {atype : ArrayType} {t N : Nat} {ty : FieldType} {n : Int32} {c0 : xC} (hd : decode I.2.1 pc = .ok (.newarray atype, 2)) (hty : newarray.typeOf atype = ty) (ht : xtys[t]? = some ty) (hw : Cond.arrayClass ty ∈ lw_all) (hn : n = nI N) (hN : N < 1000000) (hcb : componentBytes ty ≤ 8) (hnr : ∀ C, ty ≠ .object C) (h1 : 1 ≤ nc) (h2 : N ≤ ns)
    (hc0 : ∀ (a : Nat) (H : Heap), H[a]? = some (arrV (E.2.2.2.2.1 t) N (fun _ => defaultValue ty)) → xat E c0 a H)
    (kk : xJ E I R Φ (nc - 1) (ns - N) (pc + 2) lv (.ref G.length :: st) (G ++ [c0])) : xJ E I R Φ nc ns pc lv (.int n :: st) G := by
  intro p e s m args below meth c H locs cells slots ls B
  have hW := B.2.1.2.2.2.2.2.2.1
  have hb6 := B.2.2.2.2.2.1
  have hb7 := B.2.2.2.2.2.2.1
  have hz := B.2.2.1.1
  subst hn
  subst hty
  have h31 : N < 2 ^ 31 := by omega
  refine va_newaK B.2.1.1 B.2.1.2.1 (B.1.word hW hw args) rfl hd rfl (nI_pos h31) (nI_clamp h31) (Nat.le_trans (Nat.mul_le_mul (Nat.le_of_lt hN) hcb) (by omega)) (by omega) (by omega) hz fun H1 cA e1 z1 o1 _ hNm => ?_
  have hcA : cA = E.2.2.2.2.1 t := by
    have h := ((B.1.Ka hW ht).2 0 _ rfl).2
    have h' : s.vm.findClass ("[" ++ (newarray.typeOf atype).toString) = some (E.2.2.2.2.1 t) := by
      cases atype <;> exact h
    exact Option.some.inj (hNm.symm.trans h')
  subst hcA
  rw [← hz] at e1 z1 o1
  exact kk p e s m args below meth c H1 locs (cells + 1) (slots + N) ls ⟨B.1, B.2.1, B.2.2.1.push z1 o1 (hc0 _ _ e1), by rw [z1]; exact Nat.le_succ_of_le B.2.2.2.1, B.2.2.2.2.1, by omega, by omega, B.2.2.2.2.2.2.2⟩
theorem xnewI {t N : Nat} {a : Nat} {H : Heap} (h : H[a]? = some (arrV (E.2.2.2.2.1 t) N (fun _ => Value.int 0))) : xat E (cI t (List.replicate N 0)) a H := by
  show H[a]? = some (arrV (E.2.2.2.2.1 t) (List.replicate N (0 : Int32)).length (fun j => .int ((List.replicate N (0 : Int32)).getD j 0)))
  rw [h, List.length_replicate]
  congr 2
  funext j
  rw [x_rep]
theorem xj_newI {N : Nat} {n : Int32} (hd : decode I.2.1 pc = .ok (.newarray .int, 2)) (hw : Cond.arrayClass .int ∈ lw_all) (hn : n = nI N) (hN : N < 1000000) (h1 : 1 ≤ nc) (h2 : N ≤ ns) (kk : xJ E I R Φ (nc - 1) (ns - N) (pc + 2) lv (.ref G.length :: st) (G ++ [cI 0 (List.replicate N 0)])) : xJ E I R Φ nc ns pc lv (.int n :: st) G :=
  xnewa hd rfl (t := 0) rfl hw hn hN (by decide) (fun C h => by cases h) h1 h2 (fun a H h => xnewI h) kk
theorem xj_newB {N : Nat} {n : Int32} (hd : decode I.2.1 pc = .ok (.newarray .byte, 2)) (hw : Cond.arrayClass .byte ∈ lw_all) (hn : n = nI N) (hN : N < 1000000) (h1 : 1 ≤ nc) (h2 : N ≤ ns) (kk : xJ E I R Φ (nc - 1) (ns - N) (pc + 2) lv (.ref G.length :: st) (G ++ [cI 1 (List.replicate N 0)])) : xJ E I R Φ nc ns pc lv (.int n :: st) G :=
  xnewa hd rfl (t := 1) rfl hw hn hN (by decide) (fun C h => by cases h) h1 h2 (fun a H h => xnewI h) kk
theorem xj_newZ {N : Nat} {n : Int32} (hd : decode I.2.1 pc = .ok (.newarray .boolean, 2)) (hw : Cond.arrayClass .boolean ∈ lw_all) (hn : n = nI N) (hN : N < 1000000) (h1 : 1 ≤ nc) (h2 : N ≤ ns) (kk : xJ E I R Φ (nc - 1) (ns - N) (pc + 2) lv (.ref G.length :: st) (G ++ [cI 2 (List.replicate N 0)])) : xJ E I R Φ nc ns pc lv (.int n :: st) G :=
  xnewa hd rfl (t := 2) rfl hw hn hN (by decide) (fun C h => by cases h) h1 h2 (fun a H h => xnewI h) kk
theorem xj_newS {N : Nat} {n : Int32} (hd : decode I.2.1 pc = .ok (.newarray .short, 2)) (hw : Cond.arrayClass .short ∈ lw_all) (hn : n = nI N) (hN : N < 1000000) (h1 : 1 ≤ nc) (h2 : N ≤ ns) (kk : xJ E I R Φ (nc - 1) (ns - N) (pc + 2) lv (.ref G.length :: st) (G ++ [cI 3 (List.replicate N 0)])) : xJ E I R Φ nc ns pc lv (.int n :: st) G :=
  xnewa hd rfl (t := 3) rfl hw hn hN (by decide) (fun C h => by cases h) h1 h2 (fun a H h => xnewI h) kk
theorem xj_newL {N : Nat} {n : Int32} (hd : decode I.2.1 pc = .ok (.newarray .long, 2)) (hw : Cond.arrayClass .long ∈ lw_all) (hn : n = nI N) (hN : N < 1000000) (h1 : 1 ≤ nc) (h2 : N ≤ ns) (kk : xJ E I R Φ (nc - 1) (ns - N) (pc + 2) lv (.ref G.length :: st) (G ++ [cL 4 (List.replicate N 0)])) : xJ E I R Φ nc ns pc lv (.int n :: st) G :=
  xnewa hd rfl (t := 4) rfl hw hn hN (by decide) (fun C h => by cases h) h1 h2 (fun a H h => by
    show H[a]? = some (arrV (E.2.2.2.2.1 4) (List.replicate N (0 : Int64)).length (fun j => .long ((List.replicate N (0 : Int64)).getD j 0)))
    rw [h, List.length_replicate]
    congr 2
    funext j
    rw [x_rep]
    rfl) kk
theorem xnewR {t N : Nat} {a : Nat} {H : Heap} (h : H[a]? = some (arrV (E.2.2.2.2.1 t) N (fun _ => Value.null))) : xat E (cR t (List.replicate N .null)) a H := by
  refine ⟨?_, fun v hv => by rw [List.eq_of_mem_replicate hv]; rfl⟩
  show H[a]? = some (arrV (E.2.2.2.2.1 t) (List.replicate N Value.null).length (fun j => va_rf (xo E ((List.replicate N Value.null).getD j .null))))
  rw [h, List.length_replicate]
  congr 2
  funext j
  rw [x_rep]
  rfl
theorem xj_anew {t N idx : Nat} {C : String} {n : Int32} (hd : decode I.2.1 pc = .ok (.anewarray idx, 3)) (ht : xtys[t]? = some (.object C)) (w1 : Cond.classLink I.1.cls idx C ∈ lw_all) (w2 : Cond.arrayOver (.object C) ∈ lw_tbl) (hn : n = nI N) (hN : N < 1000000) (h1 : 1 ≤ nc) (h2 : N ≤ ns)
    (kk : xJ E I R Φ (nc - 1) (ns - N) (pc + 3) lv (.ref G.length :: st) (G ++ [cR t (List.replicate N .null)])) : xJ E I R Φ nc ns pc lv (.int n :: st) G := by
  intro p e s m args below meth c H locs cells slots ls B
  have hW := B.2.1.2.2.2.2.2.2.1
  have hb6 := B.2.2.2.2.2.1
  have hb7 := B.2.2.2.2.2.2.1
  have hz := B.2.2.1.1
  subst hn
  have h31 : N < 2 ^ 31 := by omega
  have hov : va_AO C s := va_AO.moved hW.alike (va_AO.of (B.1.2.1 _ w2))
  refine W.anew B.2.1.1 B.2.1.2.1 B.2.1.2.2.2.2.2.1 (B.1.word hW w1 args) (va_AO.use hov) rfl hd rfl (nI_pos h31) (by rw [nI_clamp h31]; omega) (by omega) (by rw [nI_clamp h31]; omega) fun cA kA comp f1 f2 f3 f4 => ?_
  have hcA : cA = E.2.2.2.2.1 t := by
    obtain ⟨_, _, _, _, _, h4⟩ := ((B.1.Ka hW ht).2 0 _ rfl).2
    exact Option.some.inj (f1.symm.trans h4)
  subst hcA
  rw [nI_clamp h31]
  generalize hH1 : H.push ({ cls := E.2.2.2.2.1 t, slots := Array.replicate N .null, vm := .none } : Cell) = H1
  have z1 : H1.size = H.size + 1 := by rw [← hH1, Array.size_push]
  have e1 : H1[H.size]? = some (arrV (E.2.2.2.2.1 t) N (fun _ => .null)) := by rw [← hH1, Array.getElem?_push_size, ← arrV_new]
  have o1 : ∀ q : Nat, q < H.size → H1[q]? = H[q]? := fun q hq => by rw [← hH1, Array.getElem?_push, if_neg (Nat.ne_of_lt hq)]
  rw [hz]
  exact kk p e s m args below meth c H1 locs (cells + 1) (slots + N) ls ⟨B.1, B.2.1, B.2.2.1.push z1 o1 (xnewR e1), by rw [z1]; exact Nat.le_succ_of_le B.2.2.2.1, B.2.2.2.2.1, by omega, by omega, B.2.2.2.2.2.2.2⟩
theorem xj_anewA {t N idx : Nat} {ty2 : FieldType} {n : Int32} (hd : decode I.2.1 pc = .ok (.anewarray idx, 3)) (ht : xtys[t]? = some (.array ty2)) (w1 : Cond.classLink I.1.cls idx (FieldType.array ty2).toString ∈ lw_all) (w2 : Cond.arrayOver (.array ty2) ∈ lw_tbl) (hn : n = nI N) (hN : N < 1000000) (h1 : 1 ≤ nc) (h2 : N ≤ ns)
    (kk : xJ E I R Φ (nc - 1) (ns - N) (pc + 3) lv (.ref G.length :: st) (G ++ [cR t (List.replicate N .null)])) : xJ E I R Φ nc ns pc lv (.int n :: st) G := by
  intro p e s m args below meth c H locs cells slots ls B
  have hW := B.2.1.2.2.2.2.2.2.1
  have hb6 := B.2.2.2.2.2.1
  have hb7 := B.2.2.2.2.2.2.1
  have hz := B.2.2.1.1
  subst hn
  have h31 : N < 2 ^ 31 := by omega
  refine W.anewA B.2.1.1 B.2.1.2.1 B.2.1.2.2.2.2.2.1 (B.1.word hW w1 args) (xAOA hW.alike (B.1.2.1 _ w2)) rfl hd rfl (nI_pos h31) (by rw [nI_clamp h31]; omega) (by omega) (by rw [nI_clamp h31]; omega) fun cA kA comp f1 f2 f3 f4 => ?_
  have hcA : cA = E.2.2.2.2.1 t := by
    have h4 : s.vm.findClass ("[" ++ (FieldType.array ty2).toString) = some (E.2.2.2.2.1 t) := ((B.1.Ka hW ht).2 0 _ rfl).2
    exact Option.some.inj (f1.symm.trans h4)
  subst hcA
  rw [nI_clamp h31]
  generalize hH1 : H.push ({ cls := E.2.2.2.2.1 t, slots := Array.replicate N .null, vm := .none } : Cell) = H1
  have z1 : H1.size = H.size + 1 := by rw [← hH1, Array.size_push]
  have e1 : H1[H.size]? = some (arrV (E.2.2.2.2.1 t) N (fun _ => .null)) := by rw [← hH1, Array.getElem?_push_size, ← arrV_new]
  have o1 : ∀ q : Nat, q < H.size → H1[q]? = H[q]? := fun q hq => by rw [← hH1, Array.getElem?_push, if_neg (Nat.ne_of_lt hq)]
  rw [hz]
  exact kk p e s m args below meth c H1 locs (cells + 1) (slots + N) ls ⟨B.1, B.2.1, B.2.2.1.push z1 o1 (xnewR e1), by rw [z1]; exact Nat.le_succ_of_le B.2.2.2.1, B.2.2.2.2.1, by omega, by omega, B.2.2.2.2.2.2.2⟩
/-! ===== ends ===== -/
theorem xj_ireturn {x : Int32} {ty : FieldType} (hd : decode I.2.1 pc = .ok (.ireturn, 1)) (hr : I.2.2.2.1 = some ty) (hn : narrow ty (.int x) = .int x) (h : Φ (.inl (some (.int x))) G) : xJ E I R Φ nc ns pc lv [.int x] G := by
  intro p e s m args below meth c H locs cells slots ls B
  have hb6 := B.2.2.2.2.2.1
  have hb7 := B.2.2.2.2.2.2.1
  refine vx_ret (W.widen (k := R.cells) (n := R.slots) (by omega) (by omega) ?_)
  exact W.zret (ty := ty) (v := x) B.2.1.1 B.2.1.2.1 (B.2.1.2.2.2.1.trans hr) hn (fun t ht hW => ⟨some (.int x), G, rfl, h, by rw [ht]; exact B.2.2.1⟩) B.2.2.2.2.1 hd B.2.1.2.2.2.2.1
theorem xj_lreturn {x : Int64} (hd : decode I.2.1 pc = .ok (.lreturn, 1)) (hr : I.2.2.2.1 = some .long) (h : Φ (.inl (some (.long x))) G) : xJ E I R Φ nc ns pc lv [.long x] G := by
  intro p e s m args below meth c H locs cells slots ls B
  have hb6 := B.2.2.2.2.2.1
  have hb7 := B.2.2.2.2.2.2.1
  refine vx_ret (W.widen (k := R.cells) (n := R.slots) (by omega) (by omega) ?_)
  exact W.lret (v := x) B.2.1.1 B.2.1.2.1 (B.2.1.2.2.2.1.trans hr) (fun t ht hW => ⟨some (.long x), G, rfl, h, by rw [ht]; exact B.2.2.1⟩) B.2.2.2.2.1 hd B.2.1.2.2.2.2.1
theorem xj_areturn {v : Value} {rt : FieldType} (hd : decode I.2.1 pc = .ok (.areturn, 1)) (hr : I.2.2.2.1 = some rt) (hrt : (∃ n, rt = .object n) ∨ ∃ t, rt = .array t) (hv : xrf v = true) (h : Φ (.inl (some v)) G) : xJ E I R Φ nc ns pc lv [v] G := by
  intro p e s m args below meth c H locs cells slots ls B
  have hb6 := B.2.2.2.2.2.1
  have hb7 := B.2.2.2.2.2.2.1
  refine vx_ret (W.widen (k := R.cells) (n := R.slots) (by omega) (by omega) ?_)
  have hv' : xv E v = .null ∨ ∃ a, xv E v = .ref a := by
    cases v <;> first | exact Or.inl rfl | exact Or.inr ⟨_, rfl⟩ | (cases hv)
  exact W.aret (v := xv E v) (rt := rt) B.2.1.1 B.2.1.2.1 (B.2.1.2.2.2.1.trans hr) hrt hv' (fun t ht hW => ⟨some v, G, rfl, h, by rw [ht]; exact B.2.2.1⟩) B.2.2.2.2.1 hd B.2.1.2.2.2.2.1
theorem xj_return (hd : decode I.2.1 pc = .ok (.return_, 1)) (hr : I.2.2.2.1 = none) (h : Φ (.inl none) G) : xJ E I R Φ nc ns pc lv [] G := by
  intro p e s m args below meth c H locs cells slots ls B
  have hb6 := B.2.2.2.2.2.1
  have hb7 := B.2.2.2.2.2.2.1
  refine vx_ret (W.widen (k := R.cells) (n := R.slots) (by omega) (by omega) ?_)
  exact W.vret B.2.1.1 B.2.1.2.1 (B.2.1.2.2.2.1.trans hr) (fun t ht hW => ⟨none, G, rfl, h, by rw [ht]; exact B.2.2.1⟩) B.2.2.2.2.1 hd B.2.1.2.2.2.2.1
/-! ===== throws ===== -/
theorem xj_athrow {a ci N : Nat} {C : String} {T : u_T} {fs : List Value} (hd : decode I.2.1 pc = .ok (.athrow, 1)) (hg : G[a]? = some (cO ci fs)) (hc : xcl[ci]? = some (C, T, N)) (k : xJT E I R Φ nc ns pc lv G C (some (.ref a))) : xJ E I R Φ nc ns pc lv (.ref a :: st) G := by
  intro p e s m args below meth c H locs cells slots ls B
  have hW := B.2.1.2.2.2.2.2.2.1
  obtain ⟨r', hr', cellV, g1, g2, g3, -⟩ := B.2.2.1.2.2 a _ hg
  obtain ⟨-, hfb, -⟩ := (B.1.K hW).1 ci _ hc
  refine vx_athrow B.2.1.1 B.2.1.2.1 hd ?_
  exact k p e s m args below meth c H locs cells slots ls (st.map (xv E)) (xb E + a) cellV B (fun v hv => by cases hv; rfl) g1 g3 (by rw [g2]; exact hfb)
/-- not caught here -/
theorem xjT_out {En : String} {w : Option Value} (ht : ∀ x ∈ tableOf I.2.2.2.2, covers x pc = false) (h : Φ (.inr (En, w)) G) : xJT E I R Φ nc ns pc lv G En w := by
  intro p e s m args below meth c H locs cells slots ls rest q ce B hw hcell hv hcl
  have hb6 := B.2.2.2.2.2.1
  have hb7 := B.2.2.2.2.2.2.1
  exact vx_out (by rw [B.2.1.2.2.2.2.2.2.2.2]; exact ht) B.2.1.2.2.2.2.1 hcell hv hcl (fun t ht' _ => ⟨w, G, hw, h, by rw [ht']; exact B.2.2.1⟩) B.2.2.2.2.1 (by omega) (by omega)
theorem xcastSelf {s : State} {args : Array Value} {C : String} {c : ClassId} (h : s.vm.findClass C = some c) : (Cond.castable C C).before args s = true := by
  simp [Cond.before, Cond.holds, Cond.value, h, xasg]
theorem xl_setN {E : xE} {nL i : Nat} {lv : List (Option Value)} {ls' : Array Slot} {u9 : Value} (hlen : lv.length = nL) (hp : xprev lv i = true)
    (h : lv_has ls' nL ((i, u9) :: (xll E lv).filter (fun q => !(q.1 == i) && !(q.1 + 1 == i && q.2.category == 2)))) : xl E nL (lv.set i none) ls' := by
  refine ⟨by rw [List.length_set]; exact hlen, h.1, h.2.1, fun j u hj => ?_⟩
  by_cases e : j = i
  · subst e
    have hl : j < (lv.set j none).length := (List.getElem?_eq_some_iff.mp hj).1
    rw [List.length_set] at hl
    rw [List.getElem?_set_self hl] at hj
    cases hj
  · rw [List.getElem?_set_ne (fun q => e q.symm)] at hj
    refine h.2.2 (j, xv E u) (List.mem_cons_of_mem _ (List.mem_filter.mpr ⟨xll_mem hj, ?_⟩))
    have h1 : (j == i) = false := by simpa using e
    have h2 : (j + 1 == i && (xv E u).category == 2) = false := by
      by_cases e2 : j + 1 = i
      · subst e2
        rw [xv_cat, xprev_cat hp hj]
        simp
      · have : (j + 1 == i) = false := by simpa using e2
        rw [this]
        rfl
    show (!(j == i) && !(j + 1 == i && (xv E u).category == 2)) = true
    rw [h1, h2]
    rfl
theorem xOK.castW {U : State} (ok : xOK E) (hW : E.2.1.WarmedH U.vm) {C D : String} (hw : Cond.castable C D ∈ lw_tbl) (A : Array Value) : (Cond.castable C D).before A U = true :=
  va_Nw.use rfl (va_Nw.warmC hW (va_Nw.of rfl (ok.2.1 _ hw)))
/-- a pair of classes that the Statement says isn't castable -/
def xnc (C D : String) : Prop := (Cond.not (.castable C D)) ∈ flatC (Jvm.Cond.and given_1 narrow_1)
theorem xOK.ncast {U : State} (ok : xOK E) (hW : E.2.1.WarmedH U.vm) {C D : String} (h : xnc C D) : va_Nc C D U :=
  va_Nc.moved hW.alike (va_Nc.of (flat_of_before _ ok.2.2.1 _ h))
/-- caught by the row x; the rows ahead don't take it. The handler begins with astore: what was caught comes to that slot -/
theorem xjT_catch {En nm : String} {w : Option Value} (pre : List (Nat × Nat × Nat × Nat)) (x : Nat × Nat × Nat × Nat) (suf : List (Nat × Nat × Nat × Nat)) (hs : I.2.2.2.2 = pre ++ x :: suf)
    (hpass : ∀ z ∈ tableOf pre, covers z pc = false ∨ (z.catchType ≠ 0 ∧ ∃ n2 : String, Cond.classLink I.1.cls z.catchType n2 ∈ lw_all ∧ xnc En n2)) (hcov : covers ⟨x.1, x.2.1, x.2.2.1, x.2.2.2⟩ pc = true) (h0 : x.2.2.2 ≠ 0)
    (hl : Cond.classLink I.1.cls x.2.2.2 nm ∈ lw_all) (hcast : En = nm ∨ Cond.castable En nm ∈ lw_tbl) {v : Value} (hwv : w = some v) (k : xJ E I R Φ nc ns x.2.2.1 lv [v] G) : xJT E I R Φ nc ns pc lv G En w := by
  intro p e s m args below meth c H locs cells slots ls rest q ce B hw hcell hv hcl
  have hW := B.2.1.2.2.2.2.2.2.1
  have hca : (Cond.castable En nm).before args s = true := by
    rcases hcast with h | h
    · subst h
      exact xcastSelf hcl
    · exact B.1.castW hW h args
  refine vx_catch (own := I.1.cls) (name := nm) (E := En) B.2.1.2.2.2.2.2.1 (tableOf pre) ⟨x.1, x.2.1, x.2.2.1, x.2.2.2⟩ (tableOf suf) (by rw [B.2.1.2.2.2.2.2.2.2.2, hs]; simp [tableOf]) (fun z hz => ?_) hcov h0 (B.1.word hW hl args) hca hcell hv hcl ?_
  · rcases hpass z hz with h | ⟨h1, n2, h2, h3⟩
    · exact Or.inl h
    · exact Or.inr ⟨h1, n2, B.1.word hW h2 args, B.1.ncast hW h3⟩
  · have := k p e s m args below meth c H locs cells slots ls B
    rw [show ([v] : List Value).map (xv E) = [.ref q] by rw [← hw v hwv]; rfl] at this
    exact this
/-- the same, the object unknown: behind the handler's astore the slot is unknown -/
theorem xjT_catchU {En nm : String} {w : Option Value} {f : Fin 4} (pre : List (Nat × Nat × Nat × Nat)) (x : Nat × Nat × Nat × Nat) (suf : List (Nat × Nat × Nat × Nat)) (hs : I.2.2.2.2 = pre ++ x :: suf)
    (hpass : ∀ z ∈ tableOf pre, covers z pc = false ∨ (z.catchType ≠ 0 ∧ ∃ n2 : String, Cond.classLink I.1.cls z.catchType n2 ∈ lw_all ∧ xnc En n2)) (hcov : covers ⟨x.1, x.2.1, x.2.2.1, x.2.2.2⟩ pc = true) (h0 : x.2.2.2 ≠ 0)
    (hl : Cond.classLink I.1.cls x.2.2.2 nm ∈ lw_all) (hcast : En = nm ∨ Cond.castable En nm ∈ lw_tbl) (hd : decode I.2.1 x.2.2.1 = .ok (.astore_n f, 1)) (hi : (f : Nat) < lv.length) (hp : xprev lv (f : Nat) = true)
    (k : xJ E I R Φ nc ns (x.2.2.1 + 1) (lv.set (f : Nat) none) [] G) : xJT E I R Φ nc ns pc lv G En w := by
  intro p e s m args below meth c H locs cells slots ls rest q ce B hw hcell hv hcl
  have hW := B.2.1.2.2.2.2.2.2.1
  have hca : (Cond.castable En nm).before args s = true := by
    rcases hcast with h | h
    · subst h
      exact xcastSelf hcl
    · exact B.1.castW hW h args
  refine vx_catch (own := I.1.cls) (name := nm) (E := En) B.2.1.2.2.2.2.2.1 (tableOf pre) ⟨x.1, x.2.1, x.2.2.1, x.2.2.2⟩ (tableOf suf) (by rw [B.2.1.2.2.2.2.2.2.2.2, hs]; simp [tableOf]) (fun z hz => ?_) hcov h0 (B.1.word hW hl args) hca hcell hv hcl ?_
  · rcases hpass z hz with h | ⟨h1, n2, h2, h3⟩
    · exact Or.inl h
    · exact Or.inr ⟨h1, n2, B.1.word hW h2 args, B.1.ncast hW h3⟩
  · exact lv_astore_n B.2.1.1 B.2.1.2.1 hd rfl B.2.2.2.2.2.2.2.has (by rw [← B.2.2.2.2.2.2.2.1]; exact hi) rfl (fun ls' hl => k p e s m args below meth c H locs cells slots ls' ⟨B.1, B.2.1, B.2.2.1, B.2.2.2.1, B.2.2.2.2.1, B.2.2.2.2.2.1, B.2.2.2.2.2.2.1, xl_setN B.2.2.2.2.2.2.2.1 hp hl⟩)
theorem xjT_catchV {En nm : String} {w : Option Value} {i : Nat} (pre : List (Nat × Nat × Nat × Nat)) (x : Nat × Nat × Nat × Nat) (suf : List (Nat × Nat × Nat × Nat)) (hs : I.2.2.2.2 = pre ++ x :: suf)
    (hpass : ∀ z ∈ tableOf pre, covers z pc = false ∨ (z.catchType ≠ 0 ∧ ∃ n2 : String, Cond.classLink I.1.cls z.catchType n2 ∈ lw_all ∧ xnc En n2)) (hcov : covers ⟨x.1, x.2.1, x.2.2.1, x.2.2.2⟩ pc = true) (h0 : x.2.2.2 ≠ 0)
    (hl : Cond.classLink I.1.cls x.2.2.2 nm ∈ lw_all) (hcast : En = nm ∨ Cond.castable En nm ∈ lw_tbl) (hd : decode I.2.1 x.2.2.1 = .ok (.astore i, 2)) (hi : i < lv.length) (hp : xprev lv i = true)
    (k : xJ E I R Φ nc ns (x.2.2.1 + 2) (lv.set i none) [] G) : xJT E I R Φ nc ns pc lv G En w := by
  intro p e s m args below meth c H locs cells slots ls rest q ce B hw hcell hv hcl
  have hW := B.2.1.2.2.2.2.2.2.1
  have hca : (Cond.castable En nm).before args s = true := by
    rcases hcast with h | h
    · subst h
      exact xcastSelf hcl
    · exact B.1.castW hW h args
  refine vx_catch (own := I.1.cls) (name := nm) (E := En) B.2.1.2.2.2.2.2.1 (tableOf pre) ⟨x.1, x.2.1, x.2.2.1, x.2.2.2⟩ (tableOf suf) (by rw [B.2.1.2.2.2.2.2.2.2.2, hs]; simp [tableOf]) (fun z hz => ?_) hcov h0 (B.1.word hW hl args) hca hcell hv hcl ?_
  · rcases hpass z hz with h | ⟨h1, n2, h2, h3⟩
    · exact Or.inl h
    · exact Or.inr ⟨h1, n2, B.1.word hW h2 args, B.1.ncast hW h3⟩
  · exact lv_astore B.2.1.1 B.2.1.2.1 hd B.2.2.2.2.2.2.2.has (by rw [← B.2.2.2.2.2.2.2.1]; exact hi) rfl (fun ls' hl => k p e s m args below meth c H locs cells slots ls' ⟨B.1, B.2.1, B.2.2.1, B.2.2.2.1, B.2.2.2.2.1, B.2.2.2.2.2.1, B.2.2.2.2.2.2.1, xl_setN B.2.2.2.2.2.2.2.1 hp hl⟩)
/-! ===== contracts ===== -/
def xPc (E : xE) (args : List Value) (G : xH) : Array Value → State → Prop := va_Pc (args.map (xv E)) (fun U => E.2.1.WarmedH U.vm ∧ xWd E G U.heap)
/-- the contract of a method without handlers: called with these arguments over this heap it ends as Ψ says; it takes at most mc cells of ms slots; d: its level -/
def xMet (E : xE) (y : MethodName) (bytes : ByteArray) (maxL : Nat) (ret : Option FieldType) (d mc ms : Nat) (args : List Value) (G : xH) (Ψ : xOut → xH → Prop) : Prop :=
  xOK E → vx_Met E.1 y [Cond.code y bytes maxL ret] (xR d mc ms) (xPc E args G) (xQ E Ψ) (xX E Ψ) mc ms (fun q => xb E ≤ q)
def xMetW (E : xE) (y : MethodName) (bytes : ByteArray) (maxL : Nat) (ret : Option FieldType) (hh : List (Nat × Nat × Nat × Nat)) (d mc ms : Nat) (args : List Value) (G : xH) (Ψ : xOut → xH → Prop) : Prop :=
  xOK E → vx_Met E.1 y [Cond.codeWith y bytes maxL ret hh] (xR d mc ms) (xPc E args G) (xQ E Ψ) (xX E Ψ) mc ms (fun q => xb E ≤ q)
def xent0 (args : List Value) : List (Option Value) := args.flatMap (fun v => if v.category = 2 then [some v, none] else [some v])
def xent (args : List Value) (n : Nat) : List (Option Value) := xent0 args ++ List.replicate (n - (xent0 args).length) none
def xslot (E : xE) : Option Value → Slot
  | some v => .val (xv E v)
  | none => .second
theorem xent0_sl (args : List Value) : lg_sl (args.map (xv E)) = (xent0 args).map (xslot E) := by
  induction args with
  | nil => rfl
  | cons v l ih =>
    have h1 : lg_sl ((v :: l).map (xv E)) = (if (xv E v).category = 2 then [Slot.val (xv E v), .second] else [Slot.val (xv E v)]) ++ lg_sl (l.map (xv E)) := rfl
    have h2 : xent0 (v :: l) = (if v.category = 2 then [some v, none] else [some v]) ++ xent0 l := rfl
    rw [h1, h2, ih, List.map_append, xv_cat]
    congr 1
    by_cases h : v.category = 2
    · rw [if_pos h, if_pos h]; rfl
    · rw [if_neg h, if_neg h]; rfl
theorem xl_ent (args : List Value) {n : Nat} (h : (xent0 args).length ≤ n) : xl E n (xent args n) ((lg_sl (args.map (xv E)) ++ List.replicate (n - (lg_sl (args.map (xv E))).length) Slot.unset).toArray) := by
  have hlen : (lg_sl (args.map (xv E))).length = (xent0 args).length := by rw [xent0_sl, List.length_map]
  have hl := lv_entry (args.map (xv E)) (n := n) (by rw [hlen]; exact h)
  refine ⟨by rw [xent, List.length_append, List.length_replicate]; omega, hl.1, hl.2.1, fun i v hi => ?_⟩
  have hi2 : i < (xent0 args).length := by
    rcases Nat.lt_or_ge i (xent0 args).length with q | q
    · exact q
    · rw [xent, List.getElem?_append_right q] at hi
      have := List.eq_of_mem_replicate (List.mem_of_getElem? hi)
      cases this
  rw [xent, List.getElem?_append_left hi2] at hi
  rw [List.getElem?_toArray, List.getElem?_append_left (by rw [hlen]; exact hi2), xent0_sl, List.getElem?_map, hi]
  rfl
theorem xMet.of {y : MethodName} {bytes : ByteArray} {maxL d mc ms : Nat} {ret : Option FieldType} {args : List Value} {Ψ : xOut → xH → Prop} (hy : plainName y.cls = true) (hlv : xent args maxL = lv) (hn : (xent0 args).length ≤ maxL)
    (k : xJ E (y, bytes, maxL, ret, []) (xR d mc ms) Ψ mc ms 0 lv [] G) : xMet E y bytes maxL ret d mc ms args G Ψ := by
  intro ok
  refine vx_ofW (cc := bytes) (maxL := maxL) (ret := ret) (ws' := []) hy rfl ?_
  intro p e s m a below meth c s₁ B hml htab hv
  obtain ⟨rfl, hW, hw⟩ := hv
  subst hlv
  rw [lg_entry_eq]
  exact k p e s m _ below meth c s.heap [] 0 0 _ ⟨ok, ⟨B.exec, B.bytes, hml, B.returns, B.notSynchronized, findClass_of_methodNamed B.named, hW, (name_of_methodNamed B.named B.method).1, by
    cases h : c.exceptionTable.toList with
    | nil => rfl
    | cons x l => exact (htab x (by rw [h]; exact List.mem_cons_self)).elim⟩, hw, Nat.le_refl _, (fun z hz => by cases hz), by show 0 + mc ≤ mc; omega, by show 0 + ms ≤ ms; omega, xl_ent args hn⟩
theorem xMetW.of {y : MethodName} {bytes : ByteArray} {maxL d mc ms : Nat} {ret : Option FieldType} {hh : List (Nat × Nat × Nat × Nat)} {args : List Value} {Ψ : xOut → xH → Prop} (hy : plainName y.cls = true) (hlv : xent args maxL = lv) (hn : (xent0 args).length ≤ maxL)
    (k : xJ E (y, bytes, maxL, ret, hh) (xR d mc ms) Ψ mc ms 0 lv [] G) : xMetW E y bytes maxL ret hh d mc ms args G Ψ := by
  intro ok
  refine vx_ofWH (cc := bytes) (maxL := maxL) (ret := ret) (hh := hh) (ws' := []) hy rfl ?_
  intro p e s m a below meth c s₁ B hml hv
  have htab := vx_table (x := y) B (atoms_spec (ws := [Cond.codeWith y bytes maxL ret hh]) B.pre _ List.mem_cons_self)
  obtain ⟨rfl, hW, hw⟩ := hv
  subst hlv
  rw [lg_entry_eq]
  exact k p e s m _ below meth c s.heap [] 0 0 _ ⟨ok, ⟨B.exec, B.bytes, hml, B.returns, B.notSynchronized, findClass_of_methodNamed B.named, hW, (name_of_methodNamed B.named B.method).1, htab⟩, hw, Nat.le_refl _, (fun z hz => by cases hz), by show 0 + mc ≤ mc; omega, by show 0 + ms ≤ ms; omega, xl_ent args hn⟩
theorem xPc_blind {args : List Value} : FrameBlind (xPc E args G) := fun _ _ _ _ h => h
/-! ===== calls ===== -/
theorem xrun {mc ms : Nat} {Ψ : xOut → xH → Prop} {rest : List Value} {a : Array Value}
    (hr : ∀ (p : Program) (e : Env) (s : State) (m : MethodId) (args : Array Value) (below : List Frame) (meth : Method) (c : Code) (H : Heap) (locs : List Loc) (cells slots : Nat) (ls : Array Slot), xB E I R nc ns lv G p s m meth c H locs cells slots ls →
      vx_Run p E.1 e R s m args below meth c H locs cells slots mc ms (F0 m pc ls (st.map (xv E))) (rest.map (xv E)) (xQ E Ψ a) (xX E Ψ) (fun q => xb E ≤ q)) (hc : mc ≤ nc) (hs : ms ≤ ns)
    (kt : ∀ (En : String) (w : Option Value) (G' : xH), Ψ (.inr (En, w)) G' → xJT E I R Φ (nc - mc) (ns - ms) pc lv G' En w)
    (k : ∀ (v : Option Value) (G' : xH), Ψ (.inl v) G' → xJ E I R Φ (nc - mc) (ns - ms) (pc + 3) lv (v.toList ++ rest) G') : xJ E I R Φ nc ns pc lv st G := by
  intro p e s m args below meth c H locs cells slots ls B T hT X
  have hb6 := B.2.2.2.2.2.1
  have hb7 := B.2.2.2.2.2.2.1
  rcases hr p e s m args below meth c H locs cells slots ls B T hT X with ⟨v, st₀, t, T', L, h0, X', hL, e1, e2, ⟨v', G', hv, hp, hw⟩, stp⟩ | ⟨q, st₀, t, T', L, En, ce, h0, X', hL, e1, e2, ⟨w, G', hwq, hp, hw⟩, hce, hcv, hcl, stp⟩
  · have hv' : v = v'.map (xv E) := by cases hv; rfl
    subst hv'
    obtain ⟨t2, a1, b1⟩ := k v' G' hp p e s m args below meth c T'.heap (locs ++ L) (cells + mc) (slots + ms) ls ⟨B.1, B.2.1, by rw [e1]; exact hw, (vx_frame X'.same).1, t_lL (free := fun q => xb E ≤ q) B.2.2.2.2.1 hL, by omega, by omega, B.2.2.2.2.2.2.2⟩ T' rfl X'
    refine ⟨t2, stp t2 ?_, b1⟩
    rw [show (v'.map (xv E)).toList ++ rest.map (xv E) = (v'.toList ++ rest).map (xv E) by cases v' <;> simp]
    exact a1
  · obtain ⟨t2, a1, b1⟩ := kt En w G' hp p e s m args below meth c T'.heap (locs ++ L) (cells + mc) (slots + ms) ls (rest.map (xv E)) q ce ⟨B.1, B.2.1, by rw [e1]; exact hw, (vx_frame X'.same).1, t_lL (free := fun q => xb E ≤ q) B.2.2.2.2.1 hL, by omega, by omega, B.2.2.2.2.2.2.2⟩ hwq (by rw [e1]; exact hce) hcv hcl T' rfl X'
    exact ⟨t2, stp.trans a1, b1⟩
def xyok (y : MethodName) (n : Nat) : Prop := y.cls ≠ "java/lang/invoke/MethodHandle" ∧ y.cls ≠ "java/lang/invoke/VarHandle" ∧ (parseMethodDescriptor y.desc).map (fun d => d.parameters.length) = some n
theorem xyok.len {y : MethodName} {n : Nat} (h : xyok y n) : ∀ sig, parseMethodDescriptor y.desc = some sig → n = sig.parameters.length := fun sig hs => by
  have h2 := h.2.2
  rw [hs] at h2
  exact (Option.some.inj h2).symm
theorem xCB {idx d mc ms n : Nat} {y : MethodName} {bytes : ByteArray} {maxL : Nat} {ret : Option FieldType} {p : Program} {s : State} {m : MethodId} {args : Array Value} {meth : Method} {c : Code} {H : Heap} {locs : List Loc} {cells slots : Nat} {ls : Array Slot}
    (B : xB E I R nc ns lv G p s m meth c H locs cells slots ls) (hy : xyok y n) (w1 : (Cond.methodLink I.1.cls idx y).before args s = true) (w4 : Cond.initialized y.cls ∈ lw_all) (w5 : Cond.code y bytes maxL ret ∈ lw_all) (hR : d + 41 ≤ R.frames ∧ 11019 + maxL + 64 * d ≤ R.locals) :
    CallB R s args I.1.cls idx y bytes maxL ret [Cond.code y bytes maxL ret] (xR d mc ms) mc ms n := by
  have hW := B.2.1.2.2.2.2.2.2.1
  refine ⟨rfl, rfl, hR.1, by show 8 + (maxL + 11) + (11000 + 64 * d) ≤ R.locals; omega, fun w hw a' U hU => ?_, List.mem_cons_self, B.1.word hW w5 args, B.1.word hW w4 args, ⟨hy.1, hy.2.1⟩, hy.len, w1⟩
  rw [List.mem_singleton.mp hw]
  exact B.1.word (State.WarmedH.trans hW hU) w5 a'
theorem xst {As rest : List Value} {b : Nat} (hst : st = As.reverse ++ .ref b :: rest) : st.map (xv E) = (As.map (xv E)).reverse ++ .ref (xb E + b) :: rest.map (xv E) := by
  rw [hst, List.map_append, List.map_reverse]; rfl
theorem xstS {As rest : List Value} (hst : st = As.reverse ++ rest) : st.map (xv E) = (As.map (xv E)).reverse ++ rest.map (xv E) := by
  rw [hst, List.map_append, List.map_reverse]
theorem xroom {m : MethodId} {ls : Array Slot} {rest st1 : List Value} (h : (rest.map fun v => v.category).sum ≤ 8) : 2 * (F0 m pc ls st1).monitorRoom + ((rest.map (xv E)).map fun v => v.category).sum ≤ 8 := lv_room (by rw [xv_cats]; exact h)
/-- the receiver's cell -/
theorem xrecv {p : Program} {s : State} {m : MethodId} {meth : Method} {c : Code} {H : Heap} {locs : List Loc} {cells slots : Nat} {ls : Array Slot} (B : xB E I R nc ns lv G p s m meth c H locs cells slots ls) {b ci : Nat} {fs : List Value} {q : vw_C} (hg : G[b]? = some (cO ci fs)) (hq : xcl[ci]? = some q) : ∃ cell : Cell, H[xb E + b]? = some cell ∧ cell.vm.isStatics = false ∧ s.vm.findClass q.1 = some cell.cls :=
  va_recv (B.1.K B.2.1.2.2.2.2.2.2.1) (B.2.2.1.obj hg) hq (q0 := 0) rfl
/-- invokevirtual of a method of the receiver's own class -/
theorem xj_callV {idx d mc ms n b ci N : Nat} {y : MethodName} {bytes : ByteArray} {maxL : Nat} {ret : Option FieldType} {Ψ : xOut → xH → Prop} {As rest fs : List Value} {C : String} {T : u_T} (hd : decode I.2.1 pc = .ok (.invokevirtual idx, 3)) (hM : xMet E y bytes maxL ret d mc ms (.ref b :: As) G Ψ) (hg : G[b]? = some (cO ci fs)) (hq : xcl[ci]? = some (C, T, N)) (hC : C = y.cls)
    (w1 : Cond.methodLink I.1.cls idx y ∈ lw_all) (w2 : Cond.instanceMethod y ∈ lw_all) (w3 : Cond.selects y.cls y y ∈ lw_all) (w4 : Cond.initialized y.cls ∈ lw_all) (w5 : Cond.code y bytes maxL ret ∈ lw_all) (hy : xyok y n) (hn : As.length = n) (hst : st = As.reverse ++ .ref b :: rest) (hrest : (rest.map fun v => v.category).sum ≤ 8)
    (hR : d + 41 ≤ R.frames ∧ 11019 + maxL + 64 * d ≤ R.locals) (hc : mc ≤ nc) (hs : ms ≤ ns) (kt : ∀ (En : String) (w : Option Value) (G' : xH), Ψ (.inr (En, w)) G' → xJT E I R Φ (nc - mc) (ns - ms) pc lv G' En w)
    (k : ∀ (v : Option Value) (G' : xH), Ψ (.inl v) G' → xJ E I R Φ (nc - mc) (ns - ms) (pc + 3) lv (v.toList ++ rest) G') : xJ E I R Φ nc ns pc lv st G := by
  subst hC
  refine xrun (a := (Value.ref (xb E + b) :: As.map (xv E)).toArray) (fun p e s m args below meth c H locs cells slots ls B => ?_) hc hs kt k
  have hW := B.2.1.2.2.2.2.2.2.1
  have hb6 := B.2.2.2.2.2.1
  have hb7 := B.2.2.2.2.2.2.1
  exact vx_runV (As := As.map (xv E)) (b := xb E + b) ⟨B.2.1.1, B.2.1.2.1, B.2.1.2.2.1, B.2.1.2.2.2.2.2.1, B.1.words hW args⟩ (hM B.1) ⟨xCB B hy (B.1.word hW w1 args) w4 w5 hR, B.1.word hW w2 args, B.1.word hW w3 args⟩ ⟨xPc_blind, xrecv B hg hq, fun U hU hWU => ⟨rfl, State.WarmedH.trans hW hWU, by rw [hU]; exact B.2.2.1⟩⟩ rfl (by rw [List.length_map]; exact hn) B.2.2.2.2.2.2.2.2.1 (xst hst) (xroom hrest) hd ⟨by omega, by omega⟩
/-- invokestatic -/
theorem xj_callS {idx d mc ms n : Nat} {y : MethodName} {bytes : ByteArray} {maxL : Nat} {ret : Option FieldType} {Ψ : xOut → xH → Prop} {As rest : List Value} (hd : decode I.2.1 pc = .ok (.invokestatic idx, 3)) (hM : xMet E y bytes maxL ret d mc ms As G Ψ)
    (w1 : Cond.methodLink I.1.cls idx y ∈ lw_all) (w2 : Cond.static y ∈ lw_all) (w4 : Cond.initialized y.cls ∈ lw_all) (w5 : Cond.code y bytes maxL ret ∈ lw_all) (hy : xyok y n) (hn : As.length = n) (hst : st = As.reverse ++ rest) (hrest : (rest.map fun v => v.category).sum ≤ 8)
    (hR : d + 41 ≤ R.frames ∧ 11019 + maxL + 64 * d ≤ R.locals) (hc : mc ≤ nc) (hs : ms ≤ ns) (kt : ∀ (En : String) (w : Option Value) (G' : xH), Ψ (.inr (En, w)) G' → xJT E I R Φ (nc - mc) (ns - ms) pc lv G' En w)
    (k : ∀ (v : Option Value) (G' : xH), Ψ (.inl v) G' → xJ E I R Φ (nc - mc) (ns - ms) (pc + 3) lv (v.toList ++ rest) G') : xJ E I R Φ nc ns pc lv st G := by
  refine xrun (a := (As.map (xv E)).toArray) (fun p e s m args below meth c H locs cells slots ls B => ?_) hc hs kt k
  have hW := B.2.1.2.2.2.2.2.2.1
  have hb6 := B.2.2.2.2.2.1
  have hb7 := B.2.2.2.2.2.2.1
  exact vx_runS (As := As.map (xv E)) ⟨B.2.1.1, B.2.1.2.1, B.2.1.2.2.1, B.2.1.2.2.2.2.2.1, B.1.words hW args⟩ (hM B.1) ⟨xCB B hy (B.1.word hW w1 args) w4 w5 hR, B.1.word hW w2 args⟩ ⟨xPc_blind, fun U hU hWU => ⟨rfl, State.WarmedH.trans hW hWU, by rw [hU]; exact B.2.2.1⟩⟩ rfl (by rw [List.length_map]; exact hn) B.2.2.2.2.2.2.2.2.1 (xstS hst) (xroom hrest) hd ⟨by omega, by omega⟩
/-- invokespecial of a constructor -/
theorem xj_callI {idx d mc ms n b : Nat} {y : MethodName} {bytes : ByteArray} {maxL : Nat} {Ψ : xOut → xH → Prop} {As rest : List Value} (hd : decode I.2.1 pc = .ok (.invokespecial idx, 3)) (hM : xMet E y bytes maxL none d mc ms (.ref b :: As) G Ψ)
    (w1 : Cond.methodLink I.1.cls idx y ∈ lw_all) (w2 : Cond.instanceMethod y ∈ lw_all) (w4 : Cond.initialized y.cls ∈ lw_all) (w5 : Cond.code y bytes maxL none ∈ lw_all) (hyn : y.name = "<init>") (hy : xyok y n) (hn : As.length = n) (hst : st = As.reverse ++ .ref b :: rest) (hrest : (rest.map fun v => v.category).sum ≤ 8)
    (hR : d + 41 ≤ R.frames ∧ 11019 + maxL + 64 * d ≤ R.locals) (hc : mc ≤ nc) (hs : ms ≤ ns) (kt : ∀ (En : String) (w : Option Value) (G' : xH), Ψ (.inr (En, w)) G' → xJT E I R Φ (nc - mc) (ns - ms) pc lv G' En w)
    (k : ∀ (v : Option Value) (G' : xH), Ψ (.inl v) G' → xJ E I R Φ (nc - mc) (ns - ms) (pc + 3) lv (v.toList ++ rest) G') : xJ E I R Φ nc ns pc lv st G := by
  refine xrun (a := (Value.ref (xb E + b) :: As.map (xv E)).toArray) (fun p e s m args below meth c H locs cells slots ls B => ?_) hc hs kt k
  have hW := B.2.1.2.2.2.2.2.2.1
  have hb6 := B.2.2.2.2.2.1
  have hb7 := B.2.2.2.2.2.2.1
  exact vx_runI (As := As.map (xv E)) (b := xb E + b) ⟨B.2.1.1, B.2.1.2.1, B.2.1.2.2.1, B.2.1.2.2.2.2.2.1, B.1.words hW args⟩ (hM B.1) ⟨xCB B hy (B.1.word hW w1 args) w4 w5 hR, hyn, B.1.word hW w2 args⟩ ⟨xPc_blind, fun U hU hWU => ⟨rfl, State.WarmedH.trans hW hWU, by rw [hU]; exact B.2.2.1⟩⟩ rfl (by rw [List.length_map]; exact hn) B.2.2.2.2.2.2.2.2.1 (xst hst) (xroom hrest) hd ⟨by omega, by omega⟩
/-- Object's constructor -/
theorem xj_objInit {idx a : Nat} {rest : List Value} (hd : decode I.2.1 pc = .ok (.invokespecial idx, 3)) (w1 : Cond.methodLink I.1.cls idx Lib.objectInit ∈ lw_all) (w2 : Cond.instanceMethod Lib.objectInit ∈ lw_all) (w3 : Cond.code Lib.objectInit ⟨#[0xb1]⟩ 1 none ∈ lw_all) (hR : 1 ≤ R.frames ∧ 20 ≤ R.locals) (hrest : (rest.map fun v => v.category).sum ≤ 8) (k : xJ E I R Φ nc ns (pc + 3) lv rest G) : xJ E I R Φ nc ns pc lv (.ref a :: rest) G := by
  intro p e s m args below meth c H locs cells slots ls B
  have hW := B.2.1.2.2.2.2.2.2.1
  refine W.objInit B.2.1.1 B.2.1.2.1 B.2.1.2.2.2.2.2.1 (B.1.word hW w1 args) (B.1.word hW w2 args) (B.1.word hW w3 args) rfl (by rw [B.2.1.2.2.1]; exact B.2.2.2.2.2.2.2.2.1) rfl hd hR.1 (by have := xroom (E := E) (m := m) (pc := pc) (ls := ls) (st1 := []) hrest; show 2 * 0 + _ + 12 ≤ R.locals; have h2 : 2 * 0 + ((rest.map (xv E)).map fun v => v.category).sum ≤ 8 := this; omega) ?_
  exact k p e s m args below meth c H locs cells slots ls B
/-- what a method that only returns says -/
def xrv (r : Option Value) (G1 : xH) : xOut → xH → Prop := fun o G' => o = .inl r ∧ G' = G1
theorem xrv_t {r : Option Value} {G1 : xH} {lv' : List (Option Value)} {nc' ns' : Nat} : ∀ (En : String) (w : Option Value) (G' : xH), xrv r G1 (.inr (En, w)) G' → xJT E I R Φ nc' ns' pc lv' G' En w := fun _ _ _ h => by cases h.1
theorem xrv_k {r : Option Value} {G1 : xH} {rest : List Value} {nc' ns' pc' : Nat} (h : xJ E I R Φ nc' ns' pc' lv (r.toList ++ rest) G1) : ∀ (v : Option Value) (G' : xH), xrv r G1 (.inl v) G' → xJ E I R Φ nc' ns' pc' lv (v.toList ++ rest) G' := fun v G' hp => by
  obtain ⟨h1, h2⟩ := hp
  cases h1
  subst h2
  exact h
end XJ2
