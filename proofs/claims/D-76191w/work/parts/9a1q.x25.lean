/-! ===== the x layer, twenty-fifth part: calls that land in defaults ===== -/
set_option maxRecDepth 100000
section XJ25
variable {E : xE} {I : xI} {R : Room} {Φ : xOut → xH → Prop} {nc ns pc : Nat} {lv : List (Option Value)} {st : List Value} {G : xH}
def xsGI (C J : String) (x y : MethodName) (bytes : ByteArray) (maxL : Nat) (ret : Option FieldType) (n : Nat) : Prop :=
  xwd (Cond.declares ⟨J, x.name, x.desc⟩) ∧ xwd (Cond.publicMethod ⟨J, x.name, x.desc⟩) ∧ xwd (Cond.interfaceMethod x.cls J x.name x.desc) ∧ xwd (Cond.publicMethod y) ∧ xwd (Cond.castable C x.cls) ∧
  (xwd (Cond.landsInDefault C ⟨J, x.name, x.desc⟩ y) ∨ (xwd (Cond.selects C ⟨J, x.name, x.desc⟩ y) ∧ xwd (Cond.unhidden C x.name x.desc))) ∧ Cond.instanceMethod y ∈ lw_all ∧ Cond.code y bytes maxL ret ∈ lw_all ∧
  (x.cls ≠ "java/lang/invoke/MethodHandle" ∧ x.cls ≠ "java/lang/invoke/VarHandle") ∧ (J ≠ "java/lang/invoke/MethodHandle" ∧ J ≠ "java/lang/invoke/VarHandle") ∧ (parseMethodDescriptor x.desc).map (fun d => d.parameters.length) = some n
theorem xj_callGI {idx cnt d mc ms n b ci N : Nat} {x y : MethodName} {J : String} {bytes : ByteArray} {maxL : Nat} {ret : Option FieldType} {As rest fs : List Value} {C : String} {T : u_T} {Ψ : xOut → xH → Prop} (hd : decode I.2.1 pc = .ok (.invokeinterface idx cnt, 5)) (w1 : xgd (Cond.methodLink I.1.cls idx x)) (ks : xsGI C J x y bytes maxL ret n) (hM : xMetI E y bytes maxL ret d mc ms (.ref b :: As) G Ψ) (hg : G[b]? = some (cO ci fs)) (hq : xcl[ci]? = some (C, T, N)) (hn : As.length = n) (hst : st = As.reverse ++ .ref b :: rest) (hrest : (rest.map fun v => v.category).sum ≤ 8) (hR : d + 41 ≤ R.frames ∧ 11019 + maxL + 64 * d ≤ R.locals) (hc : mc ≤ nc) (hs : ms ≤ ns) (kt : ∀ (En : String) (w : Option Value) (G' : xH), Ψ (.inr (En, w)) G' → xJT E I R Φ (nc - mc) (ns - ms) pc lv G' En w) (k : ∀ (v : Option Value) (G' : xH), Ψ (.inl v) G' → xJ E I R Φ (nc - mc) (ns - ms) (pc + 5) lv (v.toList ++ rest) G') : xJ E I R Φ nc ns pc lv st G := by
  refine xrun5 (Ψ := Ψ) (a := (Value.ref (xb E + b) :: As.map (xv E)).toArray) (fun p e s m args below meth c H locs cells slots ls B => ?_) hc hs kt k
  have hW := B.2.1.2.2.2.2.2.2.1
  have hb6 := B.2.2.2.2.2.1
  have hb7 := B.2.2.2.2.2.2.1
  obtain ⟨s1, s2, s3, s4, s5, s6, s7, s9, s10, s11, s12⟩ := ks
  have hland : xland C ⟨J, x.name, x.desc⟩ y s := xland.moved hW.alike (by
    rcases s6 with h | ⟨h, h'⟩
    · exact xland.lands (B.1.wd s1) s11 (B.1.wd h)
    · exact xland.sel (B.1.wd s1) s11 (B.1.wd h) (B.1.wd h'))
  have hK : vx_Back E.1 R p e below s args y 5 8 (PreOf R mc ms (xPc E (.ref b :: As) G)) (PostOf (xQ E Ψ) mc ms (fun q => xb E ≤ q)) (vx_Post (xX E Ψ) mc ms (fun q => xb E ≤ q)) :=
    vx_backI (bytes := bytes) (maxL := maxL) (ret := ret) (hM B.1) xPc_blind rfl rfl hR.1 (by show 8 + (maxL + 11) + (11000 + 64 * d) ≤ R.locals; omega) (fun w hw a' U hU => by rw [List.mem_singleton.mp hw]; exact B.1.word (State.WarmedH.trans hW hU) s9 a') List.mem_cons_self
  obtain ⟨cellB, hcB, hoB, hclB⟩ := xrecv B hg hq
  obtain ⟨hfc, kB, hkB, -⟩ := xcat B hq
  have hkB' : s.vm.classes[cellB.cls]? = some kB := by rw [← Option.some.inj (hfc.symm.trans hclB)]; exact hkB
  intro T0 hT X
  rcases vx_callIG X B.2.1.1 (C := C) (J := J) B.2.1.2.2.2.2.2.1 (B.1.gd hW w1 args) (B.1.dc hW s1 args) (B.1.pm hW s2 args) (B.1.im hW s3 args) hland (B.1.word hW s7 args) (B.1.pm hW s4 args) (B.1.cs hW s5 args) s10 hK (by rw [hT]; exact hcB) hoB hclB hkB' (g := F0 m pc ls (st.map (xv E))) rfl (B.2.2.2.2.2.2.2.2.1.trans B.2.1.2.2.1.symm) (argsL := As.map (xv E)) (rest := rest.map (xv E)) (fun sig h => by rw [List.length_map]; exact hn.trans (x_len s12 sig h)) (xst hst) (xroom hrest) (by rw [B.2.1.2.1]; exact hd)
    (fun vm₁ hW₁ => ⟨by show cells + mc ≤ _; omega, by show slots + ms ≤ _; omega, rfl, State.WarmedH.trans hW hW₁, by show xWd E G T0.heap; rw [hT]; exact B.2.2.1⟩) with ⟨v, vm₁, ⟨U', l2, c2, s2⟩, hW₁, X', ⟨g', mk, t, L, e1, e2, hq', h1, hL, h2, h3⟩, stp⟩ | ⟨q, vm₁, ⟨U', l2, c2, s2⟩, hW₁, X', ⟨g', mk, t, L, En, ce, e1, e2, hq', hce, hcv, hcl, h1, hL, h2, h3⟩, stp⟩
  · dsimp only [Pt.U, Pt.locs, Pt.cells, Pt.slots] at X' e1 e2 h1 h2 h3 stp
    subst h1; subst h2; subst h3
    exact Or.inl ⟨v, (T0.setVm vm₁).calling g' mk (Value.ref (xb E + b) :: As.map (xv E)).toArray, t, U', L, hT, X', hL, e1, e2, hq', stp⟩
  · dsimp only [Pt.U, Pt.locs, Pt.cells, Pt.slots] at X' e1 e2 h1 h2 h3 stp hcl
    subst h1; subst h2; subst h3
    exact Or.inr ⟨q, (T0.setVm vm₁).calling g' mk (Value.ref (xb E + b) :: As.map (xv E)).toArray, t, U', L, En, ce, hT, X', hL, e1, e2, hq', hce, hcv, vx_cls hW₁ hcl, stp⟩

def xsDI (C owner : String) (x y : MethodName) (bytes : ByteArray) (maxL : Nat) (ret : Option FieldType) (n : Nat) : Prop :=
  xgd (Cond.sameMethod x.cls owner x.name x.desc) ∧ xwd (Cond.declares ⟨owner, x.name, x.desc⟩) ∧ (owner ≠ "java/lang/invoke/MethodHandle" ∧ owner ≠ "java/lang/invoke/VarHandle") ∧ xwd (Cond.landsInDefault C x y) ∧ Cond.instanceMethod y ∈ lw_all ∧ Cond.code y bytes maxL ret ∈ lw_all ∧ (parseMethodDescriptor x.desc).map (fun d => d.parameters.length) = some n
theorem xj_callDI {idx d mc ms n b ci N : Nat} {x y : MethodName} {owner : String} {bytes : ByteArray} {maxL : Nat} {ret : Option FieldType} {As rest fs : List Value} {C : String} {T : u_T} {Ψ : xOut → xH → Prop} (hd : decode I.2.1 pc = .ok (.invokevirtual idx, 3)) (w1 : xgd (Cond.methodLink I.1.cls idx x)) (ks : xsDI C owner x y bytes maxL ret n) (hM : xMetI E y bytes maxL ret d mc ms (.ref b :: As) G Ψ) (hg : G[b]? = some (cO ci fs)) (hq : xcl[ci]? = some (C, T, N)) (hn : As.length = n) (hst : st = As.reverse ++ .ref b :: rest) (hrest : (rest.map fun v => v.category).sum ≤ 8) (hR : d + 41 ≤ R.frames ∧ 11019 + maxL + 64 * d ≤ R.locals) (hc : mc ≤ nc) (hs : ms ≤ ns) (kt : ∀ (En : String) (w : Option Value) (G' : xH), Ψ (.inr (En, w)) G' → xJT E I R Φ (nc - mc) (ns - ms) pc lv G' En w) (k : ∀ (v : Option Value) (G' : xH), Ψ (.inl v) G' → xJ E I R Φ (nc - mc) (ns - ms) (pc + 3) lv (v.toList ++ rest) G') : xJ E I R Φ nc ns pc lv st G := by
  refine xrun (Ψ := Ψ) (a := (Value.ref (xb E + b) :: As.map (xv E)).toArray) (fun p e s m args below meth c H locs cells slots ls B => ?_) hc hs kt k
  have hW := B.2.1.2.2.2.2.2.2.1
  have hb6 := B.2.2.2.2.2.1
  have hb7 := B.2.2.2.2.2.2.1
  obtain ⟨s1, s2, s3, s4, s7, s9, s12⟩ := ks
  have hK : vx_Back E.1 R p e below s args y 3 8 (PreOf R mc ms (xPc E (.ref b :: As) G)) (PostOf (xQ E Ψ) mc ms (fun q => xb E ≤ q)) (vx_Post (xX E Ψ) mc ms (fun q => xb E ≤ q)) :=
    vx_backI (bytes := bytes) (maxL := maxL) (ret := ret) (hM B.1) xPc_blind rfl rfl hR.1 (by show 8 + (maxL + 11) + (11000 + 64 * d) ≤ R.locals; omega) (fun w hw a' U hU => by rw [List.mem_singleton.mp hw]; exact B.1.word (State.WarmedH.trans hW hU) s9 a') List.mem_cons_self
  obtain ⟨cellB, hcB, hoB, hclB⟩ := xrecv B hg hq
  intro T0 hT X
  rcases vx_callVD X B.2.1.1 (C := C) (owner := owner) B.2.1.2.2.2.2.2.1 (B.1.gd hW w1 args) (B.1.gd hW s1 args) (B.1.dc hW s2 args) s3 (B.1.ld hW s4 args) (B.1.word hW s7 args) hK (by rw [hT]; exact hcB) hoB hclB (g := F0 m pc ls (st.map (xv E))) rfl (B.2.2.2.2.2.2.2.2.1.trans B.2.1.2.2.1.symm) (argsL := As.map (xv E)) (rest := rest.map (xv E)) (fun sig h => by rw [List.length_map]; exact hn.trans (x_len s12 sig h)) (xst hst) (xroom hrest) (by rw [B.2.1.2.1]; exact hd)
    (fun vm₁ hW₁ => ⟨by show cells + mc ≤ _; omega, by show slots + ms ≤ _; omega, rfl, State.WarmedH.trans hW hW₁, by show xWd E G T0.heap; rw [hT]; exact B.2.2.1⟩) with ⟨v, vm₁, ⟨U', l2, c2, s2⟩, hW₁, X', ⟨g', mk, t, L, e1, e2, hq', h1, hL, h2, h3⟩, stp⟩ | ⟨q, vm₁, ⟨U', l2, c2, s2⟩, hW₁, X', ⟨g', mk, t, L, En, ce, e1, e2, hq', hce, hcv, hcl, h1, hL, h2, h3⟩, stp⟩
  · dsimp only [Pt.U, Pt.locs, Pt.cells, Pt.slots] at X' e1 e2 h1 h2 h3 stp
    subst h1; subst h2; subst h3
    exact Or.inl ⟨v, (T0.setVm vm₁).calling g' mk (Value.ref (xb E + b) :: As.map (xv E)).toArray, t, U', L, hT, X', hL, e1, e2, hq', stp⟩
  · dsimp only [Pt.U, Pt.locs, Pt.cells, Pt.slots] at X' e1 e2 h1 h2 h3 stp hcl
    subst h1; subst h2; subst h3
    exact Or.inr ⟨q, (T0.setVm vm₁).calling g' mk (Value.ref (xb E + b) :: As.map (xv E)).toArray, t, U', L, En, ce, hT, X', hL, e1, e2, hq', hce, hcv, vx_cls hW₁ hcl, stp⟩

def xsQI (own owner : String) (x : MethodName) (bytes : ByteArray) (maxL : Nat) (ret : Option FieldType) (n : Nat) : Prop :=
  xgd (Cond.sameMethod x.cls owner x.name x.desc) ∧ Cond.superclass own x.cls ∈ lw_all ∧ xwd (Cond.declares ⟨owner, x.name, x.desc⟩) ∧ xwd (Cond.landsInDefault x.cls x ⟨owner, x.name, x.desc⟩) ∧ Cond.instanceMethod ⟨owner, x.name, x.desc⟩ ∈ lw_all ∧ Cond.code ⟨owner, x.name, x.desc⟩ bytes maxL ret ∈ lw_all ∧ x.name ≠ "<init>" ∧ (parseMethodDescriptor x.desc).map (fun d => d.parameters.length) = some n
theorem xj_callQI {idx d mc ms n b ci N : Nat} {x : MethodName} {owner : String} {bytes : ByteArray} {maxL : Nat} {ret : Option FieldType} {As rest fs : List Value} {C : String} {T : u_T} {Ψ : xOut → xH → Prop} (hd : decode I.2.1 pc = .ok (.invokespecial idx, 3)) (w1 : xgd (Cond.methodLink I.1.cls idx x)) (ks : xsQI I.1.cls owner x bytes maxL ret n) (hM : xMetI E ⟨owner, x.name, x.desc⟩ bytes maxL ret d mc ms (.ref b :: As) G Ψ) (hg : G[b]? = some (cO ci fs)) (hq : xcl[ci]? = some (C, T, N)) (hn : As.length = n) (hst : st = As.reverse ++ .ref b :: rest) (hrest : (rest.map fun v => v.category).sum ≤ 8) (hR : d + 41 ≤ R.frames ∧ 11019 + maxL + 64 * d ≤ R.locals) (hc : mc ≤ nc) (hs : ms ≤ ns) (kt : ∀ (En : String) (w : Option Value) (G' : xH), Ψ (.inr (En, w)) G' → xJT E I R Φ (nc - mc) (ns - ms) pc lv G' En w) (k : ∀ (v : Option Value) (G' : xH), Ψ (.inl v) G' → xJ E I R Φ (nc - mc) (ns - ms) (pc + 3) lv (v.toList ++ rest) G') : xJ E I R Φ nc ns pc lv st G := by
  refine xrun (Ψ := Ψ) (a := (Value.ref (xb E + b) :: As.map (xv E)).toArray) (fun p e s m args below meth c H locs cells slots ls B => ?_) hc hs kt k
  have hW := B.2.1.2.2.2.2.2.2.1
  have hb6 := B.2.2.2.2.2.1
  have hb7 := B.2.2.2.2.2.2.1
  obtain ⟨s1, s2, s3, s4, s7, s9, s10, s12⟩ := ks
  have hK : vx_Back E.1 R p e below s args ⟨owner, x.name, x.desc⟩ 3 8 (PreOf R mc ms (xPc E (.ref b :: As) G)) (PostOf (xQ E Ψ) mc ms (fun q => xb E ≤ q)) (vx_Post (xX E Ψ) mc ms (fun q => xb E ≤ q)) :=
    vx_backI (bytes := bytes) (maxL := maxL) (ret := ret) (hM B.1) xPc_blind rfl rfl hR.1 (by show 8 + (maxL + 11) + (11000 + 64 * d) ≤ R.locals; omega) (fun w hw a' U hU => by rw [List.mem_singleton.mp hw]; exact B.1.word (State.WarmedH.trans hW hU) s9 a') List.mem_cons_self
  obtain ⟨cellB, hcB, hoB, hclB⟩ := xrecv B hg hq
  obtain ⟨hfc, kB, hkB, -⟩ := xcat B hq
  have hkB' : s.vm.classes[cellB.cls]? = some kB := by rw [← Option.some.inj (hfc.symm.trans hclB)]; exact hkB
  intro T0 hT X
  rcases vx_callSD X B.2.1.1 (owner := owner) B.2.1.2.2.2.2.2.1 (B.1.gd hW w1 args) (B.1.gd hW s1 args) (B.1.word hW s2 args) (B.1.word hW s7 args) (B.1.dc hW s3 args) (B.1.ld hW s4 args) s10 hK (by rw [hT]; exact hcB) hoB hkB' (g := F0 m pc ls (st.map (xv E))) rfl (B.2.2.2.2.2.2.2.2.1.trans B.2.1.2.2.1.symm) (argsL := As.map (xv E)) (rest := rest.map (xv E)) (fun sig h => by rw [List.length_map]; exact hn.trans (x_len s12 sig h)) (xst hst) (xroom hrest) (by rw [B.2.1.2.1]; exact hd)
    (fun vm₁ hW₁ => ⟨by show cells + mc ≤ _; omega, by show slots + ms ≤ _; omega, rfl, State.WarmedH.trans hW hW₁, by show xWd E G T0.heap; rw [hT]; exact B.2.2.1⟩) with ⟨v, vm₁, ⟨U', l2, c2, s2⟩, hW₁, X', ⟨g', mk, t, L, e1, e2, hq', h1, hL, h2, h3⟩, stp⟩ | ⟨q, vm₁, ⟨U', l2, c2, s2⟩, hW₁, X', ⟨g', mk, t, L, En, ce, e1, e2, hq', hce, hcv, hcl, h1, hL, h2, h3⟩, stp⟩
  · dsimp only [Pt.U, Pt.locs, Pt.cells, Pt.slots] at X' e1 e2 h1 h2 h3 stp
    subst h1; subst h2; subst h3
    exact Or.inl ⟨v, (T0.setVm vm₁).calling g' mk (Value.ref (xb E + b) :: As.map (xv E)).toArray, t, U', L, hT, X', hL, e1, e2, hq', stp⟩
  · dsimp only [Pt.U, Pt.locs, Pt.cells, Pt.slots] at X' e1 e2 h1 h2 h3 stp hcl
    subst h1; subst h2; subst h3
    exact Or.inr ⟨q, (T0.setVm vm₁).calling g' mk (Value.ref (xb E + b) :: As.map (xv E)).toArray, t, U', L, En, ce, hT, X', hL, e1, e2, hq', hce, hcv, vx_cls hW₁ hcl, stp⟩

end XJ25
