/-! ===== the x layer, twenty-sixth part: calls by an interface without 'publicMethod' of the declarer: the link's own access check does it ===== -/
set_option maxRecDepth 100000
theorem plain_of {vm : Vm} {flags : Nat} {c : ClassId} {ck : Class} {t d : ClassId} {dk : Class} (h : plainAccess vm flags c ck t d dk = true) : vm.Plain flags c ck t d dk := by
  unfold plainAccess at h
  unfold Vm.Plain
  simp only [Bool.or_eq_true, Bool.and_eq_true, Bool.not_eq_true', beq_iff_eq] at h
  rcases h with ((h | h) | ⟨h1, h2⟩) | ⟨⟨⟨h1, h2⟩, h3⟩, h4⟩
  · exact Or.inl h
  · exact Or.inr (Or.inl h)
  · exact Or.inr (Or.inr (Or.inl ⟨h1, h2⟩))
  · refine Or.inr (Or.inr (Or.inr ⟨h1, h2, h3, ?_⟩))
    rcases h4 with (h4 | h4) | h4
    · exact Or.inl h4
    · exact Or.inr (Or.inl h4)
    · exact Or.inr (Or.inr h4)
theorem ml_face {args : Array Value} {first s : State} {o : Option Outcome} {ix : List Nat} {cls : String} {x : MethodName} {index d c : Nat} {ck ok : Class} {meth : Method} {mf : MethodId}
    (hd : s.vm.findClass cls = some d) (hc : s.vm.findClass x.cls = some c) (hck : s.vm.classes[c]? = some ck) (hvi : ck.isInterface = true) (hnone : ck.findMethod x.name x.desc = none)
    (hf : s.methodFound? x.cls x.name x.desc = some mf) (hok : s.vm.classes[mf.cls]? = some ok) (hm : ok.methods[mf.idx]? = some meth)
    (hnc : x.name ≠ "clone") (hx : x.cls ≠ "java/lang/invoke/MethodHandle" ∧ x.cls ≠ "java/lang/invoke/VarHandle")
    (h : (Cond.methodLink cls index x).holds args first o s ix = true) (pl : Platform) (hpl : pl.magicAccessors = ({} : Platform).magicAccessors) :
    ∃ ci, s.vm.MethodLinksFF pl d index ci c mf ∧ s.rightAt d index (.method mf) = true := by
  obtain ⟨k0, hk0, hname⟩ := Vm.findClass_spec hc
  cases hck.symm.trans hk0
  have hpoly : ∀ y, signaturePolymorphic ck y = false := fun y => by simp [signaturePolymorphic, hname, hx.1, hx.2]
  have hmeth : s.vm.method? mf = some meth := by simp [Vm.method?, hok, hm]
  have hff := State.faceFind_of_found hc hck hvi hpoly hnone hf
  simp only [Cond.holds, Cond.value, hd, hc] at h
  cases hme : s.memberEntry? cls index with
  | none => simp [hme] at h
  | some me =>
    obtain ⟨ci, via⟩ := me
    cases hcl : s.classLinks cls ci x.cls with
    | none => simp [hme, hcl, hf] at h
    | some linked =>
      cases hdk : s.vm.classes[d]? with
      | none => simp [hme, hcl, hdk, hf] at h
      | some dk =>
        simp only [hme, hcl, hdk, hck, hok, hmeth, hf, Option.bind_eq_bind, Option.bind_some, Option.pure_def, beq_iff_eq, bne_iff_ne, ne_eq, Option.some.injEq, Bool.and_eq_true, Option.isNone_iff_eq_none] at h
        obtain ⟨⟨⟨⟨⟨⟨⟨rfl, hnm⟩, hopen⟩, hvia⟩, -⟩, -⟩, hml⟩, hacc⟩ := h
        have hpa : plainAccess s.vm meth.accessFlags mf.cls ok c d dk = true := by
          rw [Bool.or_eq_true] at hacc
          rcases hacc with q | q
          · exact q
          · exfalso
            simp only [Bool.and_eq_true, beq_iff_eq] at q
            exact hnc q.1.2
        rw [hvi] at hvia
        subst hvia
        obtain ⟨cr, hcr, hlinks⟩ := State.classLinks_spec hd hcl pl hpl
        cases hc.symm.trans hcr
        obtain ⟨cp, hcp, hnames⟩ := State.names_spec hnm
        obtain ⟨dk', cf, hdk', hcf, rfl⟩ := State.poolOf?_spec hd hcp
        cases hdk.symm.trans hdk'
        obtain ⟨ci', nt, hent, hnt, -⟩ := namesOf?_method hnames
        have hent' : ci' = ci ∧ cf.constantPool[index]? = some (.interfaceMethodref ci nt) := by
          rcases hent with hent | hent
          · simp only [State.memberEntry?, hcp, Option.bind_eq_bind, Option.bind_some, hent, Option.some.injEq, Prod.mk.injEq] at hme
            exact absurd hme.2 (by simp)
          · simp only [State.memberEntry?, hcp, Option.bind_eq_bind, Option.bind_some, hent, Option.some.injEq, Prod.mk.injEq] at hme
            obtain ⟨rfl, -⟩ := hme
            exact ⟨rfl, hent⟩
        obtain ⟨rfl, hent2⟩ := hent'
        have hne : ci' ≠ index := by
          intro he
          obtain ⟨_, cf', name', _, hd', hcf', _, hname', _⟩ := hlinks.here
          cases hdk.symm.trans hd'
          cases hcf.symm.trans hcf'
          subst he
          simp [ConstantPool.className?, hent2] at hname'
        have hdl : dk.loader = none := by
          obtain ⟨dk', _, _, _, hd', _, hl', _⟩ := hlinks.here
          cases hdk.symm.trans hd'; exact hl'
        refine ⟨ci', ⟨dk, cf, nt, x.name, x.desc, ck, ok, meth, hdk, hcf, hent2, hnt, hlinks, hne, hck, hvi, hpoly, hnone, hff, hok, hm, hdl.trans hml.symm, plain_of hpa, State.openOr_spec hd hdk hopen⟩, ?_⟩
        simp [State.rightAt, hdk, hcf, hnames, hf]
section VXH
variable {p : Program} {l : Launch} {e : Env} {R : Room} {s : State} {m : MethodId} {args : Array Value} {below : List Frame} {meth : Method} {c : Code} {T : State} {locs : List Loc} {cells slots : Nat}
theorem ii_face (X : Stand p l e R s m args below meth c T locs cells slots) (hexec : p.tables.exec = Jvm.exec)
    {own J : String} {index count : Nat} {x : MethodName} (hown : s.vm.findClass own = some m.cls) (hlink : (Cond.methodLink own index x).before args s = true)
    (hface : (Cond.interfaceMethod x.cls J x.name x.desc).before args s = true)
    (hdecl : (Cond.declares ⟨J, x.name, x.desc⟩).before args s = true) (hnc : x.name ≠ "clone")
    (hxo : x.cls ≠ J) (hx : x.cls ≠ "java/lang/invoke/MethodHandle" ∧ x.cls ≠ "java/lang/invoke/VarHandle")
    {a : Addr} {cell : Cell} {kcell : Class} {cI : ClassId} (hcI : s.vm.findClass x.cls = some cI) (hcell : T.heap[a]? = some cell) (hobj : ∀ c, cell.vm ≠ .statics c) (hkcell : s.vm.classes[cell.cls]? = some kcell)
    (hinst : s.vm.assignable cell.cls cI = true)
    {r0 m' : MethodId} {r meth' : Method} (hn : s.methodNamed? ⟨J, x.name, x.desc⟩ = some r0) (hrm : s.vm.method? r0 = some r)
    (hsel : selectMethod e.platform s.vm cell.cls r0 = .method m') (hm' : s.vm.method? m' = some meth')
    (hway : ((cell.cls :: s.vm.superclasses cell.cls).any fun k => (declaredIn s.vm r.name r.desc k).any fun (_, y) => y.isPrivate || y.isStatic) = false)
    (hpub : hasFlag meth'.accessFlags Acc.public_ = true) (habs : meth'.isAbstract = false)
    {g : JFrame} (hg : g.method = m) {argsL rest : List Value} (hlen : argsL.length = r.sig.parameters.length) (hstack : g.stack = argsL.reverse ++ .ref a :: rest)
    (hdg : decode c.code g.pc = .ok (.invokeinterface index count, 5)) :
    ∃ vm', Stand p l e R s m args below meth c (T.setVm vm') locs cells slots ∧
      ∀ target, (∀ acts, Steps p.tables e below (doInvoke e ((T.setVm vm').setTop { g with stack := rest }) acts m' (.ref a :: argsL).toArray).1 target) → Steps p.tables e below (T.setTop g) target := by
  have hpl : e.platform.magicAccessors = ({} : Platform).magicAccessors := by rw [X.admits.platform]
  obtain ⟨r0', r', hn', hrm', hstR, -⟩ := Cond.declares_spec hdecl
  cases hn.symm.trans hn'
  cases hrm.symm.trans hrm'
  obtain ⟨ok, hok, hokname⟩ := className_of_methodNamed hn
  have hmO : ok.methods[r0.idx]? = some r := by simpa [Vm.method?, hok] using hrm
  obtain ⟨cL, kL, r1, hcL, hkL, hiL, hfoundL, hn1⟩ := Cond.interfaceMethod_spec hface
  cases hcI.symm.trans hcL
  cases hn.symm.trans hn1
  obtain ⟨kL', hkL', hnameL⟩ := Vm.findClass_spec hcL
  cases hkL.symm.trans hkL'
  have hpolyL : ∀ y, signaturePolymorphic kL y = false := fun y => by simp [signaturePolymorphic, hnameL, hx.1, hx.2]
  have hnone : kL.findMethod x.name x.desc = none := by
    cases hj : kL.findMethod x.name x.desc with
    | none => rfl
    | some j =>
      exfalso
      have hsome : (kL.methods[j]?).isSome := by
        obtain ⟨hlt, -, -⟩ := Array.findIdx?_eq_some_iff_getElem.mp hj
        simp [hlt]
      have h2 := State.methodFound?_declared hcL hkL hpolyL hj hsome
      rw [hfoundL] at h2
      have e1 : r0 = ⟨cI, j⟩ := Option.some.inj h2
      have e2 : r0.cls = cI := by rw [e1]
      rw [e2] at hok
      cases hkL.symm.trans hok
      exact hxo (hnameL.symm.trans hokname)
  obtain ⟨ci, hl, hright⟩ := ml_face hown hcL hkL hiL hnone hfoundL hok hmO hnc hx hlink e.platform hpl
  have hE : s.MethodEntryUp e T.vm m.cls index cI r0 ci := State.methodEntryFF X.warmed hl hright
  obtain ⟨dk, cfile, nt, _, _, ck, _, _, hd, hcf, hcp, -, -, -, hck, hvia, -⟩ := hl.here
  cases hkL.symm.trans hck
  have alike := hE.warmed.alike
  obtain ⟨dk₂, hdk₂, hres⟩ := hE.classReady
  obtain ⟨dk₃, hdk₃, hed⟩ := alike.2.2 _ _ hd
  cases hdk₂.symm.trans hdk₃
  obtain ⟨ck₂, hck₂, hec⟩ := alike.2.2 _ _ hck
  obtain ⟨kcell₂, hkcell₂, -⟩ := alike.2.2 _ _ hkcell
  refine ⟨T.vm.calledUp m.cls ci index cI r0, X.noted hE.warmed, fun target hrest => ?_⟩
  subst hg
  jvm_step X.here [hexec, hdg, invokeinterface.wp_coldFace (e := e) (s := T) (s₀ := s) (f := g) (count := count) X.here.top X.warmed hE hd hcf (Or.inr hcp) hck hvia,
    invokeinterface.wp_ready (e := e) (s := T.setVm (T.vm.calledUp g.method.cls ci index cI r0)) (f := g) (count := count) (r := r) (meth := meth') (m := m') (args := argsL) (rest := rest) (cell := cell) (kcell := kcell₂) (ck := dk₂) (nk := ck₂) (cf := cfile) (ci := ci) (nt := nt) (named := cI)
      X.here.top hE.ready (by show (T.vm.calledUp g.method.cls ci index cI r0).method? r0 = some r; rw [alike.method?]; exact hrm) hstR hlen hstack hcell hobj hkcell₂ hdk₂ (by rw [hed]; exact hcf) hcp hres hck₂ (by rw [hec]; exact hvia)
      (by show (T.vm.calledUp g.method.cls ci index cI r0).assignable cell.cls cI = true; rw [alike.assignable]; exact hinst)
      (by show selectMethod e.platform (T.vm.calledUp g.method.cls ci index cI r0) cell.cls r0 = .method m'; rw [alike.selectMethod]; exact hsel)
      (by show (T.vm.calledUp g.method.cls ci index cI r0).method? m' = some meth'; rw [alike.method?]; exact hm')
      (Or.inr (Or.inr (by show ((cell.cls :: (T.vm.calledUp g.method.cls ci index cI r0).superclasses cell.cls).any fun k => (declaredIn (T.vm.calledUp g.method.cls ci index cI r0) r.name r.desc k).any fun (_, y) => y.isPrivate || y.isStatic) = false; simp only [alike.superclasses, alike.declaredIn]; exact hway)))
      (Or.inl hpub) habs]
  exact hrest
end VXH
section VXJ
variable {p : Program} {l : Launch} {e : Env} {R : Room} {s : State} {m : MethodId} {args : Array Value} {below : List Frame} {meth : Method} {c : Code} {H : Heap} {locs : List Loc} {cells slots : Nat}
theorem vx_callIH {T : State} (X : Stand p l e R s m args below meth c T locs cells slots) (hexec : p.tables.exec = Jvm.exec) {own C J : String} {index count : Nat} {x y : MethodName}
    (hown : s.vm.findClass own = some m.cls) (hlink : (Cond.methodLink own index x).before args s = true) (hdecl : (Cond.declares ⟨J, x.name, x.desc⟩).before args s = true) (hnc : x.name ≠ "clone") (hface : (Cond.interfaceMethod x.cls J x.name x.desc).before args s = true)
    (hland : xland C ⟨J, x.name, x.desc⟩ y s) (hinst : (Cond.instanceMethod y).before args s = true) (hpub : (Cond.publicMethod y).before args s = true)
    (hcast : (Cond.castable C x.cls).before args s = true) (hx : x.cls ≠ "java/lang/invoke/MethodHandle" ∧ x.cls ≠ "java/lang/invoke/VarHandle")
    {W9 : Nat} {Pre : Pt → Array Value → Prop} {Post : Pt → Array Value → Option Value → Pt → Prop} {PostX : Pt → Array Value → Addr → Pt → Prop} (hK : vx_Back l R p e below s args y 5 W9 Pre Post PostX)
    {b : Addr} {cellB : Cell} {kB : Class} (hcell : T.heap[b]? = some cellB) (hobj : cellB.vm.isStatics = false) (hcls : s.vm.findClass C = some cellB.cls) (hkB : s.vm.classes[cellB.cls]? = some kB)
    {g : JFrame} (hg : g.method = m) (hsize : g.locals.size = c.maxLocals) {argsL rest : List Value} (hlen : ∀ sig, parseMethodDescriptor x.desc = some sig → argsL.length = sig.parameters.length)
    (hstack : g.stack = argsL.reverse ++ .ref b :: rest) (hW : 2 * g.monitorRoom + (rest.map fun v => v.category).sum ≤ W9) (hdg : decode c.code g.pc = .ok (.invokeinterface index count, 5))
    (hpre : ∀ vm₁, s.WarmedH vm₁ → Pre ⟨T.setVm vm₁, locs, cells, slots⟩ (Value.ref b :: argsL).toArray) :
    (∃ (v : Option Value) (vm₁ : Vm) (B : Pt), s.WarmedH vm₁ ∧ Stand p l e R s m args below meth c B.U B.locs B.cells B.slots ∧ Post ⟨T.setVm vm₁, locs, cells, slots⟩ (Value.ref b :: argsL).toArray v B ∧
      ∀ target, Steps p.tables e below (B.U.setTop { g with pc := g.pc + 5, stack := v.toList ++ rest }) target → Steps p.tables e below (T.setTop g) target) ∨
    (∃ (q : Addr) (vm₁ : Vm) (B : Pt), s.WarmedH vm₁ ∧ Stand p l e R s m args below meth c B.U B.locs B.cells B.slots ∧ PostX ⟨T.setVm vm₁, locs, cells, slots⟩ (Value.ref b :: argsL).toArray q B ∧
      Steps p.tables e below (T.setTop g) ((B.U.setTop { g with stack := rest }).pushFrame (.throwing q))) := by
  obtain ⟨r0, r, hn, hrm, hstR, hsigR⟩ := Cond.declares_spec hdecl
  obtain ⟨cL, kL, r1, hcL, hkL, hiL, hfoundL, hn1⟩ := Cond.interfaceMethod_spec hface
  cases hn.symm.trans hn1
  obtain ⟨mk, methM, hnamed, hmethM, -, habM⟩ := Cond.instanceMethod_spec hinst
  obtain ⟨c2, r2, m2, rm, q1, q2, q5, q3, q4, q6⟩ := hland
  cases hcls.symm.trans q1
  cases hn.symm.trans q2
  cases hrm.symm.trans q5
  cases hnamed.symm.trans q3
  have hselP : selectMethod e.platform s.vm cellB.cls r0 = .method mk := by rw [Launch.admits_selectMethod X.admits]; exact q4
  have hpubM : hasFlag methM.accessFlags Acc.public_ = true := Cond.publicMethod_spec hnamed hmethM hpub
  obtain ⟨c3, t3, w1, w2, w3⟩ := Cond.castable_spec hcast
  cases hcls.symm.trans w1
  cases hcL.symm.trans w2
  have key : ∃ vm₁, Stand p l e R s m args below meth c (T.setVm vm₁) locs cells slots ∧ ∀ target, (∀ acts, Steps p.tables e below (doInvoke e ((T.setVm vm₁).setTop { g with stack := rest }) acts mk (Value.ref b :: argsL).toArray).1 target) → Steps p.tables e below (T.setTop g) target := by
    by_cases hxo : x.cls = J
    · subst hxo
      have hr0cls : r0.cls = cL := Option.some.inj ((findClass_of_methodNamed hn).symm.trans hcL)
      exact X.invokeinterface hexec hown hlink hn hrm hstR (by rw [hr0cls]; exact hkL) hiL hx (a := b) (cell := cellB) (kcell := kB) hcell
        (fun z h => by rw [h] at hobj; cases hobj) hkB (by rw [hr0cls]; exact w3) hselP hmethM q6 hpubM habM (g := g) hg (argsL := argsL) (rest := rest) (hlen _ hsigR) hstack hdg
    · exact ii_face X hexec (J := J) hown hlink hface hdecl hnc hxo hx (a := b) (cell := cellB) (kcell := kB) hcL hcell
        (fun z h => by rw [h] at hobj; cases hobj) hkB w3 hn hrm hselP hmethM q6 hpubM habM (g := g) hg (argsL := argsL) (rest := rest) (hlen _ hsigR) hstack hdg
  obtain ⟨vm₁, X₁, hstep₁⟩ := key
  rcases hK m meth c ⟨T.setVm vm₁, locs, cells, slots⟩ { g with stack := rest } (.invokeinterface index count) mk (Value.ref b :: argsL).toArray X₁ hg hsize hdg hW (X₁.named hnamed) (hpre vm₁ X₁.warmed) with ⟨v, B, X', hpost, hsteps⟩ | ⟨q, B, X', hpost, hsteps⟩
  · exact Or.inl ⟨v, vm₁, B, X₁.warmed, X', hpost, fun target h => hstep₁ _ fun acts => by rw [doInvoke_state]; exact hsteps.trans h⟩
  · exact Or.inr ⟨q, vm₁, B, X₁.warmed, X', hpost, hstep₁ _ fun acts => by rw [doInvoke_state]; exact hsteps⟩
end VXJ
section XJ26
variable {E : xE} {I : xI} {R : Room} {Φ : xOut → xH → Prop} {nc ns pc : Nat} {lv : List (Option Value)} {st : List Value} {G : xH}
/-- an interface's method x, which J declares, on an object of the class C: y runs, a default or not -/
def xsH (C J : String) (x y : MethodName) (bytes : ByteArray) (maxL : Nat) (ret : Option FieldType) (n : Nat) : Prop :=
  xwd (Cond.declares ⟨J, x.name, x.desc⟩) ∧ x.name ≠ "clone" ∧ xwd (Cond.interfaceMethod x.cls J x.name x.desc) ∧ xwd (Cond.publicMethod y) ∧ xwd (Cond.castable C x.cls) ∧
  (xwd (Cond.landsInDefault C ⟨J, x.name, x.desc⟩ y) ∨ (xwd (Cond.selects C ⟨J, x.name, x.desc⟩ y) ∧ xwd (Cond.unhidden C x.name x.desc))) ∧ Cond.instanceMethod y ∈ lw_all ∧ Cond.initialized y.cls ∈ lw_all ∧ Cond.code y bytes maxL ret ∈ lw_all ∧
  (x.cls ≠ "java/lang/invoke/MethodHandle" ∧ x.cls ≠ "java/lang/invoke/VarHandle") ∧ (J ≠ "java/lang/invoke/MethodHandle" ∧ J ≠ "java/lang/invoke/VarHandle") ∧ (parseMethodDescriptor x.desc).map (fun d => d.parameters.length) = some n
theorem xj_callH {idx cnt d mc ms n b ci N : Nat} {x y : MethodName} {J : String} {bytes : ByteArray} {maxL : Nat} {ret : Option FieldType} {As rest fs : List Value} {C : String} {T : u_T} {Ψ : xOut → xH → Prop} (hd : decode I.2.1 pc = .ok (.invokeinterface idx cnt, 5)) (w1 : xgd (Cond.methodLink I.1.cls idx x)) (ks : xsH C J x y bytes maxL ret n) (hM : xMet E y bytes maxL ret d mc ms (.ref b :: As) G Ψ) (hg : G[b]? = some (cO ci fs)) (hq : xcl[ci]? = some (C, T, N)) (hn : As.length = n) (hst : st = As.reverse ++ .ref b :: rest) (hrest : (rest.map fun v => v.category).sum ≤ 8) (hR : d + 41 ≤ R.frames ∧ 11019 + maxL + 64 * d ≤ R.locals) (hc : mc ≤ nc) (hs : ms ≤ ns) (kt : ∀ (En : String) (w : Option Value) (G' : xH), Ψ (.inr (En, w)) G' → xJT E I R Φ (nc - mc) (ns - ms) pc lv G' En w) (k : ∀ (v : Option Value) (G' : xH), Ψ (.inl v) G' → xJ E I R Φ (nc - mc) (ns - ms) (pc + 5) lv (v.toList ++ rest) G') : xJ E I R Φ nc ns pc lv st G := by
  refine xrun5 (Ψ := Ψ) (a := (Value.ref (xb E + b) :: As.map (xv E)).toArray) (fun p e s m args below meth c H locs cells slots ls B => ?_) hc hs kt k
  have hW := B.2.1.2.2.2.2.2.2.1
  have hb6 := B.2.2.2.2.2.1
  have hb7 := B.2.2.2.2.2.2.1
  obtain ⟨s1, s2, s3, s4, s5, s6, s7, s8, s9, s10, s11, s12⟩ := ks
  have hland : xland C ⟨J, x.name, x.desc⟩ y s := xland.moved hW.alike (by
    rcases s6 with h | ⟨h, h'⟩
    · exact xland.lands (B.1.wd s1) s11 (B.1.wd h)
    · exact xland.sel (B.1.wd s1) s11 (B.1.wd h) (B.1.wd h'))
  have hK : vx_Back E.1 R p e below s args y 5 8 (PreOf R mc ms (xPc E (.ref b :: As) G)) (PostOf (xQ E Ψ) mc ms (fun q => xb E ≤ q)) (vx_Post (xX E Ψ) mc ms (fun q => xb E ≤ q)) :=
    vx_back (bytes := bytes) (maxL := maxL) (ret := ret) (hM B.1) xPc_blind rfl rfl hR.1 (by show 8 + (maxL + 11) + (11000 + 64 * d) ≤ R.locals; omega) (fun w hw a' U hU => by rw [List.mem_singleton.mp hw]; exact B.1.word (State.WarmedH.trans hW hU) s9 a') List.mem_cons_self (fun a' U hU => B.1.word (State.WarmedH.trans hW hU) s8 a')
  obtain ⟨cellB, hcB, hoB, hclB⟩ := xrecv B hg hq
  obtain ⟨hfc, kB, hkB, -⟩ := xcat B hq
  have hkB' : s.vm.classes[cellB.cls]? = some kB := by rw [← Option.some.inj (hfc.symm.trans hclB)]; exact hkB
  intro T0 hT X
  rcases vx_callIH X B.2.1.1 (C := C) (J := J) B.2.1.2.2.2.2.2.1 (B.1.gd hW w1 args) (B.1.dc hW s1 args) s2 (B.1.im hW s3 args) hland (B.1.word hW s7 args) (B.1.pm hW s4 args) (B.1.cs hW s5 args) s10 hK (by rw [hT]; exact hcB) hoB hclB hkB' (g := F0 m pc ls (st.map (xv E))) rfl (B.2.2.2.2.2.2.2.2.1.trans B.2.1.2.2.1.symm) (argsL := As.map (xv E)) (rest := rest.map (xv E)) (fun sig h => by rw [List.length_map]; exact hn.trans (x_len s12 sig h)) (xst hst) (xroom hrest) (by rw [B.2.1.2.1]; exact hd)
    (fun vm₁ hW₁ => ⟨by show cells + mc ≤ _; omega, by show slots + ms ≤ _; omega, rfl, State.WarmedH.trans hW hW₁, by show xWd E G T0.heap; rw [hT]; exact B.2.2.1⟩) with ⟨v, vm₁, ⟨U', l2, c2, s2⟩, hW₁, X', ⟨g', mk, t, L, e1, e2, hq', h1, hL, h2, h3⟩, stp⟩ | ⟨q, vm₁, ⟨U', l2, c2, s2⟩, hW₁, X', ⟨g', mk, t, L, En, ce, e1, e2, hq', hce, hcv, hcl, h1, hL, h2, h3⟩, stp⟩
  · dsimp only [Pt.U, Pt.locs, Pt.cells, Pt.slots] at X' e1 e2 h1 h2 h3 stp
    subst h1; subst h2; subst h3
    exact Or.inl ⟨v, (T0.setVm vm₁).calling g' mk (Value.ref (xb E + b) :: As.map (xv E)).toArray, t, U', L, hT, X', hL, e1, e2, hq', stp⟩
  · dsimp only [Pt.U, Pt.locs, Pt.cells, Pt.slots] at X' e1 e2 h1 h2 h3 stp hcl
    subst h1; subst h2; subst h3
    exact Or.inr ⟨q, (T0.setVm vm₁).calling g' mk (Value.ref (xb E + b) :: As.map (xv E)).toArray, t, U', L, En, ce, hT, X', hL, e1, e2, hq', hce, hcv, vx_cls hW₁ hcl, stp⟩
end XJ26
