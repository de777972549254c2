/-! ===== the x layer, nineteenth part: a call by a class's name that lands in an interface's default ===== -/
set_option maxRecDepth 100000
theorem xfold {A : Array Value} {s : State} : ∀ (L : List Cond), (L.foldr Cond.and Cond.tt).before A s = true → ∀ w ∈ L, w.before A s = true
  | [], _, w, hw => nomatch hw
  | a :: L, h, w, hw => by
    have h1 := xand_l (show (Cond.and a (L.foldr Cond.and Cond.tt)).before A s = true from h)
    have h2 := xand_r (show (Cond.and a (L.foldr Cond.and Cond.tt)).before A s = true from h)
    rcases List.mem_cons.mp hw with rfl | hw
    · exact h1
    · exact xfold L h2 w hw
section VXD
variable {p : Program} {l : Launch} {e : Env} {R : Room} {s : State} {m : MethodId} {args : Array Value} {below : List Frame} {meth : Method} {c : Code} {H : Heap} {locs : List Loc} {cells slots : Nat}
theorem vx_callVD {T : State} (X : Stand p l e R s m args below meth c T locs cells slots) (hexec : p.tables.exec = Jvm.exec) {own C owner : String} {index : Nat} {x y : MethodName}
    (hown : s.vm.findClass own = some m.cls) (hlink : (Cond.methodLink own index x).before args s = true) (hsame : (Cond.sameMethod x.cls owner x.name x.desc).before args s = true) (hdecl : (Cond.declares ⟨owner, x.name, x.desc⟩).before args s = true) (howner : owner ≠ "java/lang/invoke/MethodHandle" ∧ owner ≠ "java/lang/invoke/VarHandle")
    (hsel : (Cond.landsInDefault C x y).before args s = true) (hinst : (Cond.instanceMethod y).before args s = true)
    {W9 : Nat} {Pre : Pt → Array Value → Prop} {Post : Pt → Array Value → Option Value → Pt → Prop} {PostX : Pt → Array Value → Addr → Pt → Prop} (hK : vx_Back l R p e below s args y 3 W9 Pre Post PostX)
    {b : Addr} {cellB : Cell} (hcell : T.heap[b]? = some cellB) (hobj : cellB.vm.isStatics = false) (hcls : s.vm.findClass C = some cellB.cls)
    {g : JFrame} (hg : g.method = m) (hsize : g.locals.size = c.maxLocals) {argsL rest : List Value} (hlen : ∀ sig, parseMethodDescriptor x.desc = some sig → argsL.length = sig.parameters.length)
    (hstack : g.stack = argsL.reverse ++ .ref b :: rest) (hW : 2 * g.monitorRoom + (rest.map fun v => v.category).sum ≤ W9) (hdg : decode c.code g.pc = .ok (.invokevirtual index, 3))
    (hpre : ∀ vm₁, s.WarmedH vm₁ → Pre ⟨T.setVm vm₁, locs, cells, slots⟩ (Value.ref b :: argsL).toArray) :
    (∃ (v : Option Value) (vm₁ : Vm) (B : Pt), s.WarmedH vm₁ ∧ Stand p l e R s m args below meth c B.U B.locs B.cells B.slots ∧ Post ⟨T.setVm vm₁, locs, cells, slots⟩ (Value.ref b :: argsL).toArray v B ∧
      ∀ target, Steps p.tables e below (B.U.setTop { g with pc := g.pc + 3, stack := v.toList ++ rest }) target → Steps p.tables e below (T.setTop g) target) ∨
    (∃ (q : Addr) (vm₁ : Vm) (B : Pt), s.WarmedH vm₁ ∧ Stand p l e R s m args below meth c B.U B.locs B.cells B.slots ∧ PostX ⟨T.setVm vm₁, locs, cells, slots⟩ (Value.ref b :: argsL).toArray q B ∧
      Steps p.tables e below (T.setTop g) ((B.U.setTop { g with stack := rest }).pushFrame (.throwing q))) := by
  obtain ⟨r0, r, hn, hrm, hstR, hsigR⟩ := Cond.declares_spec hdecl
  obtain ⟨cn, ck, r1, hcn, hck, hni, hf, hn1⟩ := Cond.sameMethod_found hsame
  cases hn.symm.trans hn1
  obtain ⟨mk, methM, hnamed, hmethM, -, habM⟩ := Cond.instanceMethod_spec hinst
  obtain ⟨c2, r2, m2, rm, q1, q2, q3, q5, q4, ⟨kP, hkP, hkPi⟩, -, q7⟩ := Cond.landsInDefault_spec hsel
  cases hcls.symm.trans q1
  cases hf.symm.trans q2
  cases hnamed.symm.trans q3
  cases hrm.symm.trans q5
  have hselP : selectMethod e.platform s.vm cellB.cls r0 = .method mk := by rw [Launch.admits_selectMethod X.admits]; exact q4
  obtain ⟨vm₁, X₁, hstep₁⟩ := X.invokevirtualUpD hexec hown hlink hsame howner hn hrm hstR (a := b) (cell := cellB) hcell
    (fun z h => by rw [h] at hobj; cases hobj) hselP hmethM habM hkP hkPi q7 (g := g) hg (argsL := argsL) (rest := rest) (hlen _ hsigR) hstack hdg
  rcases hK m meth c ⟨T.setVm vm₁, locs, cells, slots⟩ { g with stack := rest } (.invokevirtual index) mk (Value.ref b :: argsL).toArray X₁ hg hsize hdg hW (X₁.named hnamed) (hpre vm₁ X₁.warmed) with ⟨v, B, X', hpost, hsteps⟩ | ⟨q, B, X', hpost, hsteps⟩
  · exact Or.inl ⟨v, vm₁, B, X₁.warmed, X', hpost, fun target h => hstep₁ _ fun acts => by rw [doInvoke_state]; exact hsteps.trans h⟩
  · exact Or.inr ⟨q, vm₁, B, X₁.warmed, X', hpost, hstep₁ _ fun acts => by rw [doInvoke_state]; exact hsteps⟩
end VXD
section XJ19
variable {E : xE} {I : xI} {R : Room} {Φ : xOut → xH → Prop} {nc ns pc : Nat} {lv : List (Option Value)} {st : List Value} {G : xH}
theorem xOK.ld {U : State} (ok : xOK E) (hW : E.2.1.WarmedH U.vm) {C : String} {x y : MethodName} (hw : xwd (Cond.landsInDefault C x y)) (A : Array Value) : (Cond.landsInDefault C x y).before A U = true := by
  have h1 : (Cond.landsInDefault C x y).before E.2.2.1 (E.2.1.setVm U.vm) = true := (Cond.landsInDefault_setVm (args := E.2.2.1) (args' := E.2.2.1) hW.alike (State.methodFound?_setVm hW.alike _ _ _)).trans (ok.wd hw)
  exact h1
/-- a call of x by a class's name on an object of the class C: the default y runs -/
def xsD (C owner : String) (x y : MethodName) (bytes : ByteArray) (maxL : Nat) (ret : Option FieldType) (n : Nat) : Prop :=
  xgd (Cond.sameMethod x.cls owner x.name x.desc) ∧ xwd (Cond.declares ⟨owner, x.name, x.desc⟩) ∧ (owner ≠ "java/lang/invoke/MethodHandle" ∧ owner ≠ "java/lang/invoke/VarHandle") ∧ xwd (Cond.landsInDefault C x y) ∧ Cond.instanceMethod y ∈ lw_all ∧ Cond.initialized y.cls ∈ lw_all ∧ Cond.code y bytes maxL ret ∈ lw_all ∧ (parseMethodDescriptor x.desc).map (fun d => d.parameters.length) = some n
theorem xj_callD {idx d mc ms n b ci N : Nat} {x y : MethodName} {owner : String} {bytes : ByteArray} {maxL : Nat} {ret : Option FieldType} {As rest fs : List Value} {C : String} {T : u_T} {Ψ : xOut → xH → Prop} (hd : decode I.2.1 pc = .ok (.invokevirtual idx, 3)) (w1 : xgd (Cond.methodLink I.1.cls idx x)) (ks : xsD C owner x y bytes maxL ret n) (hM : xMet E y bytes maxL ret d mc ms (.ref b :: As) G Ψ) (hg : G[b]? = some (cO ci fs)) (hq : xcl[ci]? = some (C, T, N)) (hn : As.length = n) (hst : st = As.reverse ++ .ref b :: rest) (hrest : (rest.map fun v => v.category).sum ≤ 8) (hR : d + 41 ≤ R.frames ∧ 11019 + maxL + 64 * d ≤ R.locals) (hc : mc ≤ nc) (hs : ms ≤ ns) (kt : ∀ (En : String) (w : Option Value) (G' : xH), Ψ (.inr (En, w)) G' → xJT E I R Φ (nc - mc) (ns - ms) pc lv G' En w) (k : ∀ (v : Option Value) (G' : xH), Ψ (.inl v) G' → xJ E I R Φ (nc - mc) (ns - ms) (pc + 3) lv (v.toList ++ rest) G') : xJ E I R Φ nc ns pc lv st G := by
  refine xrun (Ψ := Ψ) (a := (Value.ref (xb E + b) :: As.map (xv E)).toArray) (fun p e s m args below meth c H locs cells slots ls B => ?_) hc hs kt k
  have hW := B.2.1.2.2.2.2.2.2.1
  have hb6 := B.2.2.2.2.2.1
  have hb7 := B.2.2.2.2.2.2.1
  obtain ⟨s1, s2, s3, s4, s7, s8, s9, s12⟩ := ks
  have hK : vx_Back E.1 R p e below s args y 3 8 (PreOf R mc ms (xPc E (.ref b :: As) G)) (PostOf (xQ E Ψ) mc ms (fun q => xb E ≤ q)) (vx_Post (xX E Ψ) mc ms (fun q => xb E ≤ q)) :=
    vx_back (bytes := bytes) (maxL := maxL) (ret := ret) (hM B.1) xPc_blind rfl rfl hR.1 (by show 8 + (maxL + 11) + (11000 + 64 * d) ≤ R.locals; omega) (fun w hw a' U hU => by rw [List.mem_singleton.mp hw]; exact B.1.word (State.WarmedH.trans hW hU) s9 a') List.mem_cons_self (fun a' U hU => B.1.word (State.WarmedH.trans hW hU) s8 a')
  obtain ⟨cellB, hcB, hoB, hclB⟩ := xrecv B hg hq
  intro T0 hT X
  rcases vx_callVD X B.2.1.1 (C := C) (owner := owner) B.2.1.2.2.2.2.2.1 (B.1.gd hW w1 args) (B.1.gd hW s1 args) (B.1.dc hW s2 args) s3 (B.1.ld hW s4 args) (B.1.word hW s7 args) hK (by rw [hT]; exact hcB) hoB hclB (g := F0 m pc ls (st.map (xv E))) rfl (B.2.2.2.2.2.2.2.2.1.trans B.2.1.2.2.1.symm) (argsL := As.map (xv E)) (rest := rest.map (xv E)) (fun sig h => by rw [List.length_map]; exact hn.trans (x_len s12 sig h)) (xst hst) (xroom hrest) (by rw [B.2.1.2.1]; exact hd)
    (fun vm₁ hW₁ => ⟨by show cells + mc ≤ _; omega, by show slots + ms ≤ _; omega, rfl, State.WarmedH.trans hW hW₁, by show xWd E G T0.heap; rw [hT]; exact B.2.2.1⟩) with ⟨v, vm₁, ⟨U', l2, c2, s2⟩, hW₁, X', ⟨g', mk, t, L, e1, e2, hq', h1, hL, h2, h3⟩, stp⟩ | ⟨q, vm₁, ⟨U', l2, c2, s2⟩, hW₁, X', ⟨g', mk, t, L, En, ce, e1, e2, hq', hce, hcv, hcl, h1, hL, h2, h3⟩, stp⟩
  · dsimp only [Pt.U, Pt.locs, Pt.cells, Pt.slots] at X' e1 e2 h1 h2 h3 stp
    subst h1; subst h2; subst h3
    exact Or.inl ⟨v, (T0.setVm vm₁).calling g' mk (Value.ref (xb E + b) :: As.map (xv E)).toArray, t, U', L, hT, X', hL, e1, e2, hq', stp⟩
  · dsimp only [Pt.U, Pt.locs, Pt.cells, Pt.slots] at X' e1 e2 h1 h2 h3 stp hcl
    subst h1; subst h2; subst h3
    exact Or.inr ⟨q, (T0.setVm vm₁).calling g' mk (Value.ref (xb E + b) :: As.map (xv E)).toArray, t, U', L, En, ce, hT, X', hL, e1, e2, hq', hce, hcv, vx_cls hW₁ hcl, stp⟩
end XJ19
theorem xdw_good : (defaultWords_1.all fun w => goodWord w) = true := by decide +kernel
