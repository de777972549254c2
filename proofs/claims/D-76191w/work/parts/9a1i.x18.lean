/-! ===== the x layer, eighteenth part: calls by an interface whose method another interface declares, and that may land in a default ===== -/
set_option maxRecDepth 100000
theorem im_setVm {s : State} {vm' : Vm} {args : Array Value} (h : s.vm.Alike vm') (a b n d : String) : (Cond.interfaceMethod a b n d).before args (s.setVm vm') = (Cond.interfaceMethod a b n d).before args s := by
  simp only [Cond.before, Cond.holds, Cond.value, State.vm_setVm, h.findClass, State.methodFound?_setVm h, State.methodNamed?_setVm h, arm_isInterface_setVm h]
/-- a call of x on an object of the class C runs y -/
def xland (C : String) (x y : MethodName) (U : State) : Prop := ∃ (c : ClassId) (r0 mk : MethodId) (r : Method), U.vm.findClass C = some c ∧ U.methodNamed? x = some r0 ∧ U.vm.method? r0 = some r ∧ U.methodNamed? y = some mk ∧ selectMethod {} U.vm c r0 = .method mk ∧
  ((c :: U.vm.superclasses c).any fun k => (declaredIn U.vm r.name r.desc k).any fun (_, z) => z.isPrivate || z.isStatic) = false
theorem xland.moved {C : String} {x y : MethodName} {u U : State} (hA : u.vm.Alike U.vm) (h : xland C x y u) : xland C x y U := by
  obtain ⟨c, r0, mk, r, h1, h2, h3, h4, h5, h6⟩ := h
  refine ⟨c, r0, mk, r, by rw [hA.findClass]; exact h1, (State.methodNamed?_setVm (s := u) hA _).trans h2, by rw [hA.method?]; exact h3, (State.methodNamed?_setVm (s := u) hA _).trans h4, by rw [hA.selectMethod]; exact h5, ?_⟩
  rw [hA.superclasses]
  simp only [hA.declaredIn]
  exact h6
theorem xland.lands {C : String} {x y : MethodName} {U : State} {A : Array Value} (hd : (Cond.declares x).before A U = true) (hx : x.cls ≠ "java/lang/invoke/MethodHandle" ∧ x.cls ≠ "java/lang/invoke/VarHandle") (h : (Cond.landsInDefault C x y).before A U = true) : xland C x y U := by
  obtain ⟨r0, r, hn, hrm, -, -⟩ := Cond.declares_spec hd
  obtain ⟨c, r1, m, rm, q1, q2, q3, q4, q5, -, q6, -⟩ := Cond.landsInDefault_spec h
  have hf := State.methodFound?_of_named hn hx
  cases hf.symm.trans q2
  cases hrm.symm.trans q4
  exact ⟨c, r0, m, r, q1, hn, hrm, q3, q5, q6⟩
theorem xland.sel {C : String} {x y : MethodName} {U : State} {A : Array Value} (hd : (Cond.declares x).before A U = true) (hx : x.cls ≠ "java/lang/invoke/MethodHandle" ∧ x.cls ≠ "java/lang/invoke/VarHandle") (h : (Cond.selects C x y).before A U = true) (hu : (Cond.unhidden C x.name x.desc).before A U = true) : xland C x y U := by
  obtain ⟨r0, r, hn, hrm, -, -⟩ := Cond.declares_spec hd
  obtain ⟨c, r1, m, q1, q2, q3, q4, -⟩ := Cond.selects_spec h
  have hf := State.methodFound?_of_named hn hx
  cases hf.symm.trans q2
  obtain ⟨hnR, hdR⟩ := name_of_methodNamed hn hrm
  refine ⟨c, r0, m, r, q1, hn, hrm, q3, q4, ?_⟩
  rw [hnR, hdR]
  exact Cond.unhidden_spec q1 hu
section VXG
variable {p : Program} {l : Launch} {e : Env} {R : Room} {s : State} {m : MethodId} {args : Array Value} {below : List Frame} {meth : Method} {c : Code} {H : Heap} {locs : List Loc} {cells slots : Nat}
theorem vx_callIG {T : State} (X : Stand p l e R s m args below meth c T locs cells slots) (hexec : p.tables.exec = Jvm.exec) {own C J : String} {index count : Nat} {x y : MethodName}
    (hown : s.vm.findClass own = some m.cls) (hlink : (Cond.methodLink own index x).before args s = true) (hdecl : (Cond.declares ⟨J, x.name, x.desc⟩).before args s = true) (hpubJ : (Cond.publicMethod ⟨J, x.name, x.desc⟩).before args s = true) (hface : (Cond.interfaceMethod x.cls J x.name x.desc).before args s = true)
    (hland : xland C ⟨J, x.name, x.desc⟩ y s) (hinst : (Cond.instanceMethod y).before args s = true) (hpub : (Cond.publicMethod y).before args s = true)
    (hcast : (Cond.castable C x.cls).before args s = true) (hx : x.cls ≠ "java/lang/invoke/MethodHandle" ∧ x.cls ≠ "java/lang/invoke/VarHandle")
    {W9 : Nat} {Pre : Pt → Array Value → Prop} {Post : Pt → Array Value → Option Value → Pt → Prop} {PostX : Pt → Array Value → Addr → Pt → Prop} (hK : vx_Back l R p e below s args y 5 W9 Pre Post PostX)
    {b : Addr} {cellB : Cell} {kB : Class} (hcell : T.heap[b]? = some cellB) (hobj : cellB.vm.isStatics = false) (hcls : s.vm.findClass C = some cellB.cls) (hkB : s.vm.classes[cellB.cls]? = some kB)
    {g : JFrame} (hg : g.method = m) (hsize : g.locals.size = c.maxLocals) {argsL rest : List Value} (hlen : ∀ sig, parseMethodDescriptor x.desc = some sig → argsL.length = sig.parameters.length)
    (hstack : g.stack = argsL.reverse ++ .ref b :: rest) (hW : 2 * g.monitorRoom + (rest.map fun v => v.category).sum ≤ W9) (hdg : decode c.code g.pc = .ok (.invokeinterface index count, 5))
    (hpre : ∀ vm₁, s.WarmedH vm₁ → Pre ⟨T.setVm vm₁, locs, cells, slots⟩ (Value.ref b :: argsL).toArray) :
    (∃ (v : Option Value) (vm₁ : Vm) (B : Pt), s.WarmedH vm₁ ∧ Stand p l e R s m args below meth c B.U B.locs B.cells B.slots ∧ Post ⟨T.setVm vm₁, locs, cells, slots⟩ (Value.ref b :: argsL).toArray v B ∧
      ∀ target, Steps p.tables e below (B.U.setTop { g with pc := g.pc + 5, stack := v.toList ++ rest }) target → Steps p.tables e below (T.setTop g) target) ∨
    (∃ (q : Addr) (vm₁ : Vm) (B : Pt), s.WarmedH vm₁ ∧ Stand p l e R s m args below meth c B.U B.locs B.cells B.slots ∧ PostX ⟨T.setVm vm₁, locs, cells, slots⟩ (Value.ref b :: argsL).toArray q B ∧
      Steps p.tables e below (T.setTop g) ((B.U.setTop { g with stack := rest }).pushFrame (.throwing q))) := by
  obtain ⟨r0, r, hn, hrm, hstR, hsigR⟩ := Cond.declares_spec hdecl
  obtain ⟨cL, kL, r1, hcL, hkL, hiL, hfoundL, hn1⟩ := Cond.interfaceMethod_spec hface
  cases hn.symm.trans hn1
  obtain ⟨mk, methM, hnamed, hmethM, -, habM⟩ := Cond.instanceMethod_spec hinst
  obtain ⟨c2, r2, m2, rm, q1, q2, q5, q3, q4, q6⟩ := hland
  cases hcls.symm.trans q1
  cases hn.symm.trans q2
  cases hrm.symm.trans q5
  cases hnamed.symm.trans q3
  have hselP : selectMethod e.platform s.vm cellB.cls r0 = .method mk := by rw [Launch.admits_selectMethod X.admits]; exact q4
  have hpubM : hasFlag methM.accessFlags Acc.public_ = true := Cond.publicMethod_spec hnamed hmethM hpub
  obtain ⟨c3, t3, w1, w2, w3⟩ := Cond.castable_spec hcast
  cases hcls.symm.trans w1
  cases hcL.symm.trans w2
  have key : ∃ vm₁, Stand p l e R s m args below meth c (T.setVm vm₁) locs cells slots ∧ ∀ target, (∀ acts, Steps p.tables e below (doInvoke e ((T.setVm vm₁).setTop { g with stack := rest }) acts mk (Value.ref b :: argsL).toArray).1 target) → Steps p.tables e below (T.setTop g) target := by
    by_cases hxo : x.cls = J
    · subst hxo
      have hr0cls : r0.cls = cL := Option.some.inj ((findClass_of_methodNamed hn).symm.trans hcL)
      exact X.invokeinterface hexec hown hlink hn hrm hstR (by rw [hr0cls]; exact hkL) hiL hx (a := b) (cell := cellB) (kcell := kB) hcell
        (fun z h => by rw [h] at hobj; cases hobj) hkB (by rw [hr0cls]; exact w3) hselP hmethM q6 hpubM habM (g := g) hg (argsL := argsL) (rest := rest) (hlen _ hsigR) hstack hdg
    · exact X.invokeinterfaceUp hexec (J := J) hown hlink hface hdecl hpubJ hxo hx (a := b) (cell := cellB) (kcell := kB) hcL hcell
        (fun z h => by rw [h] at hobj; cases hobj) hkB w3 hn hrm hselP hmethM q6 hpubM habM (g := g) hg (argsL := argsL) (rest := rest) (hlen _ hsigR) hstack hdg
  obtain ⟨vm₁, X₁, hstep₁⟩ := key
  rcases hK m meth c ⟨T.setVm vm₁, locs, cells, slots⟩ { g with stack := rest } (.invokeinterface index count) mk (Value.ref b :: argsL).toArray X₁ hg hsize hdg hW (X₁.named hnamed) (hpre vm₁ X₁.warmed) with ⟨v, B, X', hpost, hsteps⟩ | ⟨q, B, X', hpost, hsteps⟩
  · exact Or.inl ⟨v, vm₁, B, X₁.warmed, X', hpost, fun target h => hstep₁ _ fun acts => by rw [doInvoke_state]; exact hsteps.trans h⟩
  · exact Or.inr ⟨q, vm₁, B, X₁.warmed, X', hpost, hstep₁ _ fun acts => by rw [doInvoke_state]; exact hsteps⟩
end VXG
section XJ18
variable {E : xE} {I : xI} {R : Room} {Φ : xOut → xH → Prop} {nc ns pc : Nat} {lv : List (Option Value)} {st : List Value} {G : xH}
/-- a word of the tables or of the narrowing -/
def xwd (w : Cond) : Prop := w ∈ lw_tbl ∨ w ∈ flatC (Jvm.Cond.and given_1 narrow_1)
def xgd (w : Cond) : Prop := xwd w ∧ goodWord w = true
theorem xOK.wd (ok : xOK E) {w : Cond} (h : xwd w) : w.before E.2.2.1 E.2.1 = true := by
  rcases h with h | h
  · exact ok.2.1 w h
  · exact flat_of_before _ ok.2.2.1 _ h
theorem xOK.gd {U : State} (ok : xOK E) (hW : E.2.1.WarmedH U.vm) {w : Cond} (h : xgd w) (a : Array Value) : w.before a U = true := word_at hW (good_of_word h.2) (ok.wd h.1)
theorem xOK.im {U : State} (ok : xOK E) (hW : E.2.1.WarmedH U.vm) {a b n d : String} (hw : xwd (Cond.interfaceMethod a b n d)) (A : Array Value) : (Cond.interfaceMethod a b n d).before A U = true :=
  va_tabs rfl (rfl : (E.2.1.setVm U.vm).vm = U.vm) ((im_setVm (args := E.2.2.1) hW.alike a b n d).trans (ok.wd hw))
theorem xOK.dc {U : State} (ok : xOK E) (hW : E.2.1.WarmedH U.vm) {x : MethodName} (hw : xwd (Cond.declares x)) (A : Array Value) : (Cond.declares x).before A U = true :=
  va_tabs rfl (rfl : (E.2.1.setVm U.vm).vm = U.vm) ((Cond.declares_setVm (args := E.2.2.1) hW.alike x).trans (ok.wd hw))
theorem xOK.pm {U : State} (ok : xOK E) (hW : E.2.1.WarmedH U.vm) {x : MethodName} (hw : xwd (Cond.publicMethod x)) (A : Array Value) : (Cond.publicMethod x).before A U = true :=
  va_tabs rfl (rfl : (E.2.1.setVm U.vm).vm = U.vm) ((Cond.publicMethod_setVm (args := E.2.2.1) hW.alike x).trans (ok.wd hw))
theorem xOK.cs {U : State} (ok : xOK E) (hW : E.2.1.WarmedH U.vm) {a b : String} (hw : xwd (Cond.castable a b)) (A : Array Value) : (Cond.castable a b).before A U = true :=
  va_tabs rfl (rfl : (E.2.1.setVm U.vm).vm = U.vm) ((Cond.castable_setVm (args := E.2.2.1) hW.alike a b).trans (ok.wd hw))
/-- an interface's method x, which J declares, on an object of the class C: y runs, a default or not -/
def xsG (C J : String) (x y : MethodName) (bytes : ByteArray) (maxL : Nat) (ret : Option FieldType) (n : Nat) : Prop :=
  xwd (Cond.declares ⟨J, x.name, x.desc⟩) ∧ xwd (Cond.publicMethod ⟨J, x.name, x.desc⟩) ∧ xwd (Cond.interfaceMethod x.cls J x.name x.desc) ∧ xwd (Cond.publicMethod y) ∧ xwd (Cond.castable C x.cls) ∧
  (xwd (Cond.landsInDefault C ⟨J, x.name, x.desc⟩ y) ∨ (xwd (Cond.selects C ⟨J, x.name, x.desc⟩ y) ∧ xwd (Cond.unhidden C x.name x.desc))) ∧ Cond.instanceMethod y ∈ lw_all ∧ Cond.initialized y.cls ∈ lw_all ∧ Cond.code y bytes maxL ret ∈ lw_all ∧
  (x.cls ≠ "java/lang/invoke/MethodHandle" ∧ x.cls ≠ "java/lang/invoke/VarHandle") ∧ (J ≠ "java/lang/invoke/MethodHandle" ∧ J ≠ "java/lang/invoke/VarHandle") ∧ (parseMethodDescriptor x.desc).map (fun d => d.parameters.length) = some n
theorem xj_callG {idx cnt d mc ms n b ci N : Nat} {x y : MethodName} {J : String} {bytes : ByteArray} {maxL : Nat} {ret : Option FieldType} {As rest fs : List Value} {C : String} {T : u_T} {Ψ : xOut → xH → Prop} (hd : decode I.2.1 pc = .ok (.invokeinterface idx cnt, 5)) (w1 : xgd (Cond.methodLink I.1.cls idx x)) (ks : xsG C J x y bytes maxL ret n) (hM : xMet E y bytes maxL ret d mc ms (.ref b :: As) G Ψ) (hg : G[b]? = some (cO ci fs)) (hq : xcl[ci]? = some (C, T, N)) (hn : As.length = n) (hst : st = As.reverse ++ .ref b :: rest) (hrest : (rest.map fun v => v.category).sum ≤ 8) (hR : d + 41 ≤ R.frames ∧ 11019 + maxL + 64 * d ≤ R.locals) (hc : mc ≤ nc) (hs : ms ≤ ns) (kt : ∀ (En : String) (w : Option Value) (G' : xH), Ψ (.inr (En, w)) G' → xJT E I R Φ (nc - mc) (ns - ms) pc lv G' En w) (k : ∀ (v : Option Value) (G' : xH), Ψ (.inl v) G' → xJ E I R Φ (nc - mc) (ns - ms) (pc + 5) lv (v.toList ++ rest) G') : xJ E I R Φ nc ns pc lv st G := by
  refine xrun5 (Ψ := Ψ) (a := (Value.ref (xb E + b) :: As.map (xv E)).toArray) (fun p e s m args below meth c H locs cells slots ls B => ?_) hc hs kt k
  have hW := B.2.1.2.2.2.2.2.2.1
  have hb6 := B.2.2.2.2.2.1
  have hb7 := B.2.2.2.2.2.2.1
  obtain ⟨s1, s2, s3, s4, s5, s6, s7, s8, s9, s10, s11, s12⟩ := ks
  have hland : xland C ⟨J, x.name, x.desc⟩ y s := xland.moved hW.alike (by
    rcases s6 with h | ⟨h, h'⟩
    · exact xland.lands (B.1.wd s1) s11 (B.1.wd h)
    · exact xland.sel (B.1.wd s1) s11 (B.1.wd h) (B.1.wd h'))
  have hK : vx_Back E.1 R p e below s args y 5 8 (PreOf R mc ms (xPc E (.ref b :: As) G)) (PostOf (xQ E Ψ) mc ms (fun q => xb E ≤ q)) (vx_Post (xX E Ψ) mc ms (fun q => xb E ≤ q)) :=
    vx_back (bytes := bytes) (maxL := maxL) (ret := ret) (hM B.1) xPc_blind rfl rfl hR.1 (by show 8 + (maxL + 11) + (11000 + 64 * d) ≤ R.locals; omega) (fun w hw a' U hU => by rw [List.mem_singleton.mp hw]; exact B.1.word (State.WarmedH.trans hW hU) s9 a') List.mem_cons_self (fun a' U hU => B.1.word (State.WarmedH.trans hW hU) s8 a')
  obtain ⟨cellB, hcB, hoB, hclB⟩ := xrecv B hg hq
  obtain ⟨hfc, kB, hkB, -⟩ := xcat B hq
  have hkB' : s.vm.classes[cellB.cls]? = some kB := by rw [← Option.some.inj (hfc.symm.trans hclB)]; exact hkB
  intro T0 hT X
  rcases vx_callIG X B.2.1.1 (C := C) (J := J) B.2.1.2.2.2.2.2.1 (B.1.gd hW w1 args) (B.1.dc hW s1 args) (B.1.pm hW s2 args) (B.1.im hW s3 args) hland (B.1.word hW s7 args) (B.1.pm hW s4 args) (B.1.cs hW s5 args) s10 hK (by rw [hT]; exact hcB) hoB hclB hkB' (g := F0 m pc ls (st.map (xv E))) rfl (B.2.2.2.2.2.2.2.2.1.trans B.2.1.2.2.1.symm) (argsL := As.map (xv E)) (rest := rest.map (xv E)) (fun sig h => by rw [List.length_map]; exact hn.trans (x_len s12 sig h)) (xst hst) (xroom hrest) (by rw [B.2.1.2.1]; exact hd)
    (fun vm₁ hW₁ => ⟨by show cells + mc ≤ _; omega, by show slots + ms ≤ _; omega, rfl, State.WarmedH.trans hW hW₁, by show xWd E G T0.heap; rw [hT]; exact B.2.2.1⟩) with ⟨v, vm₁, ⟨U', l2, c2, s2⟩, hW₁, X', ⟨g', mk, t, L, e1, e2, hq', h1, hL, h2, h3⟩, stp⟩ | ⟨q, vm₁, ⟨U', l2, c2, s2⟩, hW₁, X', ⟨g', mk, t, L, En, ce, e1, e2, hq', hce, hcv, hcl, h1, hL, h2, h3⟩, stp⟩
  · dsimp only [Pt.U, Pt.locs, Pt.cells, Pt.slots] at X' e1 e2 h1 h2 h3 stp
    subst h1; subst h2; subst h3
    exact Or.inl ⟨v, (T0.setVm vm₁).calling g' mk (Value.ref (xb E + b) :: As.map (xv E)).toArray, t, U', L, hT, X', hL, e1, e2, hq', stp⟩
  · dsimp only [Pt.U, Pt.locs, Pt.cells, Pt.slots] at X' e1 e2 h1 h2 h3 stp hcl
    subst h1; subst h2; subst h3
    exact Or.inr ⟨q, (T0.setVm vm₁).calling g' mk (Value.ref (xb E + b) :: As.map (xv E)).toArray, t, U', L, En, ce, hT, X', hL, e1, e2, hq', hce, hcv, vx_cls hW₁ hcl, stp⟩
end XJ18

