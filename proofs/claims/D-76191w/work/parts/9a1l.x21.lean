/-! ===== the x layer, twenty-first part: super.m(..) that lands in an interface's default: rows; a call on null ===== -/
set_option maxRecDepth 100000
theorem ld_priv {args : Array Value} {s : State} {cls : String} {x y : MethodName} {r : MethodId} {rm : Method} (h : (Cond.landsInDefault cls x y).before args s = true) (hr : s.methodFound? x.cls x.name x.desc = some r) (hrm : s.vm.method? r = some rm) : rm.isPrivate = false := by
  simp only [Cond.before, Cond.holds, Cond.value] at h
  cases hc : s.vm.findClass cls with
  | none => simp [hc] at h
  | some c =>
  cases hm : s.methodNamed? y with
  | none => simp [hc, hr, hm] at h
  | some m =>
  simp only [hc, hr, hm, hrm, Option.map_some, beq_iff_eq, Option.some.injEq] at h
  split at h
  · simp only [Bool.and_eq_true, Bool.not_eq_true'] at h
    exact h.1.1.2
  · cases h
section VXSD
variable {p : Program} {l : Launch} {e : Env} {R : Room} {s : State} {m : MethodId} {args : Array Value} {below : List Frame} {meth : Method} {c : Code} {H : Heap} {locs : List Loc} {cells slots : Nat}
theorem vx_callSD {T : State} (X : Stand p l e R s m args below meth c T locs cells slots) (hexec : p.tables.exec = Jvm.exec) {own owner : String} {index : Nat} {x : MethodName}
    (hown : s.vm.findClass own = some m.cls) (hlink : (Cond.methodLink own index x).before args s = true) (hsame : (Cond.sameMethod x.cls owner x.name x.desc).before args s = true) (hsup : (Cond.superclass own x.cls).before args s = true)
    (hinst : (Cond.instanceMethod ⟨owner, x.name, x.desc⟩).before args s = true) (hdecl : (Cond.declares ⟨owner, x.name, x.desc⟩).before args s = true) (hsel : (Cond.landsInDefault x.cls x ⟨owner, x.name, x.desc⟩).before args s = true) (hno : x.name ≠ "<init>")
    {W9 : Nat} {Pre : Pt → Array Value → Prop} {Post : Pt → Array Value → Option Value → Pt → Prop} {PostX : Pt → Array Value → Addr → Pt → Prop} (hK : vx_Back l R p e below s args ⟨owner, x.name, x.desc⟩ 3 W9 Pre Post PostX)
    {b : Addr} {cellB : Cell} {kB : Class} (hcell : T.heap[b]? = some cellB) (hobj : cellB.vm.isStatics = false) (hkB : s.vm.classes[cellB.cls]? = some kB)
    {g : JFrame} (hg : g.method = m) (hsize : g.locals.size = c.maxLocals) {argsL rest : List Value} (hlen : ∀ sig, parseMethodDescriptor x.desc = some sig → argsL.length = sig.parameters.length)
    (hstack : g.stack = argsL.reverse ++ .ref b :: rest) (hW : 2 * g.monitorRoom + (rest.map fun v => v.category).sum ≤ W9) (hdg : decode c.code g.pc = .ok (.invokespecial index, 3))
    (hpre : ∀ vm₁, s.WarmedH vm₁ → Pre ⟨T.setVm vm₁, locs, cells, slots⟩ (Value.ref b :: argsL).toArray) :
    (∃ (v : Option Value) (vm₁ : Vm) (B : Pt), s.WarmedH vm₁ ∧ Stand p l e R s m args below meth c B.U B.locs B.cells B.slots ∧ Post ⟨T.setVm vm₁, locs, cells, slots⟩ (Value.ref b :: argsL).toArray v B ∧
      ∀ target, Steps p.tables e below (B.U.setTop { g with pc := g.pc + 3, stack := v.toList ++ rest }) target → Steps p.tables e below (T.setTop g) target) ∨
    (∃ (q : Addr) (vm₁ : Vm) (B : Pt), s.WarmedH vm₁ ∧ Stand p l e R s m args below meth c B.U B.locs B.cells B.slots ∧ PostX ⟨T.setVm vm₁, locs, cells, slots⟩ (Value.ref b :: argsL).toArray q B ∧
      Steps p.tables e below (T.setTop g) ((B.U.setTop { g with stack := rest }).pushFrame (.throwing q))) := by
  have hpl : e.platform.magicAccessors = ({} : Platform).magicAccessors := by rw [X.admits.platform]
  obtain ⟨mk, methM, hnamed, hmethM, hstM, habM⟩ := Cond.instanceMethod_spec hinst
  obtain ⟨r9, r, hn9, hrm9, -, hsigR⟩ := Cond.declares_spec hdecl
  cases hnamed.symm.trans hn9
  cases hmethM.symm.trans hrm9
  obtain ⟨cn, ck, r1, hcn, hck, hni, hf, hn1⟩ := Cond.sameMethod_found hsame
  cases hnamed.symm.trans hn1
  obtain ⟨ps, dk, kp, hps, hdk, hkp, hsuper, -, -, hnid⟩ := Cond.superclass_spec hown hsup
  cases hcn.symm.trans hps
  obtain ⟨ci, hl, hright⟩ := Cond.methodLink_specUp hown hcn hck hni hf hlink e.platform hpl (by rw [X.admits.platform])
  obtain ⟨kr, hkr, -⟩ := className_of_methodNamed hnamed
  obtain ⟨hrn, hrd⟩ := name_of_methodNamed hnamed hmethM
  obtain ⟨dk₀, cfile, nt, _, _, ck₀, _, _, hd₀, hcf, hcp, -, -, -, hc₀, -, hpoly, -⟩ := hl.here
  cases hdk.symm.trans hd₀
  cases hck.symm.trans hc₀
  have hpr := ld_priv hsel hf hmethM
  obtain ⟨c2, r2, m2, rm, q1, q2, q3, q5, q4, ⟨kP, hkP, hkPi⟩, -, -⟩ := Cond.landsInDefault_spec hsel
  cases hcn.symm.trans q1
  cases hf.symm.trans q2
  cases hnamed.symm.trans q3
  have hup : s.vm.lookupUp cn x.name x.desc = some mk := ((State.methodFound?_class hcn hck hni hpoly mk).mp hf).1
  have hfound0 : lookupSpecial s.vm cn x.name x.desc = .method mk := ls_default hck hni hup hmethM hstM q4 hpr (by rw [hkP]; exact hkPi) hrn hrd
  subst hg
  obtain ⟨vm₁, hW', st⟩ := Steps.invokeSuperColdArgs (tb := p.tables) (e := e) (s₀ := s) (U := T) (f := g) (args := argsL) (rest := rest) (a := b) (cell := cellB) (m := mk) X.here hexec hdg X.warmed hl hright hdk hcf hcp hmethM hck
    (by rw [hrn]; simp [hno]) hstM (by rw [hrn, hrd, hsuper]; simpa using hfound0) hnid hkr habM (hlen _ hsigR) hstack hcell (fun z h => by rw [h] at hobj; cases hobj) hkB
  have X₁ := X.noted hW'
  rcases hK g.method meth c ⟨T.setVm vm₁, locs, cells, slots⟩ { g with stack := rest } (.invokespecial index) mk (Value.ref b :: argsL).toArray X₁ rfl hsize hdg hW (X₁.named hnamed) (hpre vm₁ X₁.warmed) with ⟨v, B, X', hpost, hsteps⟩ | ⟨q, B, X', hpost, hsteps⟩
  · exact Or.inl ⟨v, vm₁, B, X₁.warmed, X', hpost, fun target h => st _ (hsteps.trans h)⟩
  · exact Or.inr ⟨q, vm₁, B, X₁.warmed, X', hpost, st _ hsteps⟩
end VXSD
section XJ21
variable {E : xE} {I : xI} {R : Room} {Φ : xOut → xH → Prop} {nc ns pc : Nat} {lv : List (Option Value)} {st : List Value} {G : xH}
/-- super.x(..) runs the default that owner declares -/
def xsQ (own owner : String) (x : MethodName) (bytes : ByteArray) (maxL : Nat) (ret : Option FieldType) (n : Nat) : Prop :=
  xgd (Cond.sameMethod x.cls owner x.name x.desc) ∧ Cond.superclass own x.cls ∈ lw_all ∧ xwd (Cond.declares ⟨owner, x.name, x.desc⟩) ∧ xwd (Cond.landsInDefault x.cls x ⟨owner, x.name, x.desc⟩) ∧ Cond.instanceMethod ⟨owner, x.name, x.desc⟩ ∈ lw_all ∧ Cond.initialized owner ∈ lw_all ∧ Cond.code ⟨owner, x.name, x.desc⟩ bytes maxL ret ∈ lw_all ∧ x.name ≠ "<init>" ∧ (parseMethodDescriptor x.desc).map (fun d => d.parameters.length) = some n
theorem xj_callQ {idx d mc ms n b ci N : Nat} {x : MethodName} {owner : String} {bytes : ByteArray} {maxL : Nat} {ret : Option FieldType} {As rest fs : List Value} {C : String} {T : u_T} {Ψ : xOut → xH → Prop} (hd : decode I.2.1 pc = .ok (.invokespecial idx, 3)) (w1 : xgd (Cond.methodLink I.1.cls idx x)) (ks : xsQ I.1.cls owner x bytes maxL ret n) (hM : xMet E ⟨owner, x.name, x.desc⟩ bytes maxL ret d mc ms (.ref b :: As) G Ψ) (hg : G[b]? = some (cO ci fs)) (hq : xcl[ci]? = some (C, T, N)) (hn : As.length = n) (hst : st = As.reverse ++ .ref b :: rest) (hrest : (rest.map fun v => v.category).sum ≤ 8) (hR : d + 41 ≤ R.frames ∧ 11019 + maxL + 64 * d ≤ R.locals) (hc : mc ≤ nc) (hs : ms ≤ ns) (kt : ∀ (En : String) (w : Option Value) (G' : xH), Ψ (.inr (En, w)) G' → xJT E I R Φ (nc - mc) (ns - ms) pc lv G' En w) (k : ∀ (v : Option Value) (G' : xH), Ψ (.inl v) G' → xJ E I R Φ (nc - mc) (ns - ms) (pc + 3) lv (v.toList ++ rest) G') : xJ E I R Φ nc ns pc lv st G := by
  refine xrun (Ψ := Ψ) (a := (Value.ref (xb E + b) :: As.map (xv E)).toArray) (fun p e s m args below meth c H locs cells slots ls B => ?_) hc hs kt k
  have hW := B.2.1.2.2.2.2.2.2.1
  have hb6 := B.2.2.2.2.2.1
  have hb7 := B.2.2.2.2.2.2.1
  obtain ⟨s1, s2, s3, s4, s7, s8, s9, s10, s12⟩ := ks
  have hK : vx_Back E.1 R p e below s args ⟨owner, x.name, x.desc⟩ 3 8 (PreOf R mc ms (xPc E (.ref b :: As) G)) (PostOf (xQ E Ψ) mc ms (fun q => xb E ≤ q)) (vx_Post (xX E Ψ) mc ms (fun q => xb E ≤ q)) :=
    vx_back (bytes := bytes) (maxL := maxL) (ret := ret) (hM B.1) xPc_blind rfl rfl hR.1 (by show 8 + (maxL + 11) + (11000 + 64 * d) ≤ R.locals; omega) (fun w hw a' U hU => by rw [List.mem_singleton.mp hw]; exact B.1.word (State.WarmedH.trans hW hU) s9 a') List.mem_cons_self (fun a' U hU => B.1.word (State.WarmedH.trans hW hU) s8 a')
  obtain ⟨cellB, hcB, hoB, hclB⟩ := xrecv B hg hq
  obtain ⟨hfc, kB, hkB, -⟩ := xcat B hq
  have hkB' : s.vm.classes[cellB.cls]? = some kB := by rw [← Option.some.inj (hfc.symm.trans hclB)]; exact hkB
  intro T0 hT X
  rcases vx_callSD X B.2.1.1 (owner := owner) B.2.1.2.2.2.2.2.1 (B.1.gd hW w1 args) (B.1.gd hW s1 args) (B.1.word hW s2 args) (B.1.word hW s7 args) (B.1.dc hW s3 args) (B.1.ld hW s4 args) s10 hK (by rw [hT]; exact hcB) hoB hkB' (g := F0 m pc ls (st.map (xv E))) rfl (B.2.2.2.2.2.2.2.2.1.trans B.2.1.2.2.1.symm) (argsL := As.map (xv E)) (rest := rest.map (xv E)) (fun sig h => by rw [List.length_map]; exact hn.trans (x_len s12 sig h)) (xst hst) (xroom hrest) (by rw [B.2.1.2.1]; exact hd)
    (fun vm₁ hW₁ => ⟨by show cells + mc ≤ _; omega, by show slots + ms ≤ _; omega, rfl, State.WarmedH.trans hW hW₁, by show xWd E G T0.heap; rw [hT]; exact B.2.2.1⟩) with ⟨v, vm₁, ⟨U', l2, c2, s2⟩, hW₁, X', ⟨g', mk, t, L, e1, e2, hq', h1, hL, h2, h3⟩, stp⟩ | ⟨q, vm₁, ⟨U', l2, c2, s2⟩, hW₁, X', ⟨g', mk, t, L, En, ce, e1, e2, hq', hce, hcv, hcl, h1, hL, h2, h3⟩, stp⟩
  · dsimp only [Pt.U, Pt.locs, Pt.cells, Pt.slots] at X' e1 e2 h1 h2 h3 stp
    subst h1; subst h2; subst h3
    exact Or.inl ⟨v, (T0.setVm vm₁).calling g' mk (Value.ref (xb E + b) :: As.map (xv E)).toArray, t, U', L, hT, X', hL, e1, e2, hq', stp⟩
  · dsimp only [Pt.U, Pt.locs, Pt.cells, Pt.slots] at X' e1 e2 h1 h2 h3 stp hcl
    subst h1; subst h2; subst h3
    exact Or.inr ⟨q, (T0.setVm vm₁).calling g' mk (Value.ref (xb E + b) :: As.map (xv E)).toArray, t, U', L, En, ce, hT, X', hL, e1, e2, hq', hce, hcv, vx_cls hW₁ hcl, stp⟩
/-- a method of null -/
theorem xj_invN {idx n maxL : Nat} {y : MethodName} {C : String} {bytes : ByteArray} {ret : Option FieldType} {As rest : List Value} (hd : decode I.2.1 pc = .ok (.invokevirtual idx, 3)) (w1 : Cond.methodLink I.1.cls idx y ∈ lw_all) (w2 : Cond.instanceMethod y ∈ lw_all) (w3 : Cond.code y bytes maxL ret ∈ lw_all) (w4 : Cond.selects C y y ∈ lw_all) (hx : y.cls ≠ "java/lang/invoke/MethodHandle" ∧ y.cls ≠ "java/lang/invoke/VarHandle") (hp : (parseMethodDescriptor y.desc).map (fun d => d.parameters.length) = some n) (hn : As.length = n) (hst : st = As.reverse ++ .null :: rest) (hr : xrm R nc ns rest 1 8)
    (k : ∀ j : Nat, xJT E I R Φ (nc - 1) (ns - 8) pc lv (G ++ List.replicate j cX) "java/lang/NullPointerException" none) : xJ E I R Φ nc ns pc lv st G := by
  intro p e s m args below meth c H locs cells slots ls B
  have hW := B.2.1.2.2.2.2.2.2.1
  exact vx_invokeN (As := As.map (xv E)) (rest := rest.map (xv E)) B.2.1.1 B.2.1.2.1 B.2.1.2.2.2.2.2.1 (B.1.word hW w1 args) (B.1.word hW w2 args) (B.1.word hW w3 args) (B.1.word hW w4 args) hx (by rw [List.length_map, hn]; exact hp) hd (xntN hr k B) (by rw [hst]; simp [xv])
end XJ21
