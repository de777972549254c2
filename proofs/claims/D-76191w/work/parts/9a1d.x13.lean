/-! ===== the x layer, thirteenth part: a cast that fails ===== -/
set_option maxRecDepth 100000
/-- the modules are named as the statement says -/
def xMod (E : xE) : Prop := modulesRight_1 E.2.1 = true
theorem fc_spec {vm : Vm} {C : String} {c : ClassId} (h : vm.findClass C = some c) : ∃ k : Class, vm.classes[c]? = some k ∧ k.name = C ∧ k.hidden = none ∧ k.loader = none := by
  unfold Vm.findClass at h
  obtain ⟨hlt, hp, -⟩ := Array.findIdx?_eq_some_iff_getElem.mp h
  refine ⟨_, Array.getElem?_eq_getElem hlt, ?_⟩
  simp only [Bool.and_eq_true, Option.isNone_iff_eq_none, beq_iff_eq] at hp
  exact ⟨hp.1.1.1, hp.1.1.2, hp.2⟩
def xmr (vm : Vm) : Prop := (vm.modules.all fun m => m.loader.isSome || m.name == "java.base" || !(castPackages_1.any fun p => m.packages.contains p)) = true
theorem xmr_name {vm : Vm} {k : Class} {m : ModuleInfo} (hm : xmr vm) (hl : k.loader = none) (hp : packageOf k.name ∈ castPackages_1) (h : vm.moduleOf k = some m) : m.name = "java.base" := by
  unfold Vm.moduleOf at h
  split at h
  · have := List.find?_some h
    simpa using this
  · have h1 := List.find?_some h
    have h2 := List.mem_of_find?_eq_some h
    have h3 := List.all_eq_true.mp hm m h2
    simp only [Bool.and_eq_true, beq_iff_eq, hl] at h1
    rw [h1.1] at h3
    have h4 : (castPackages_1.any fun p => m.packages.contains p) = true := List.any_eq_true.mpr ⟨_, hp, h1.2⟩
    rw [h4] at h3
    simpa using h3
theorem home_le {vm : Vm} {k : Class} (hm : xmr vm) (hl : k.loader = none) (hp : packageOf k.name ∈ castPackages_1) : (vm.home k).toList.length ≤ 38 := by
  unfold Vm.home
  rw [hl]
  show ((match vm.moduleOf k with | some m => "module " ++ m.name | none => "unnamed module") ++ " of loader " ++ "'bootstrap'").toList.length ≤ 38
  cases h : vm.moduleOf k with
  | none => decide
  | some m =>
    show ("module " ++ m.name ++ " of loader " ++ "'bootstrap'").toList.length ≤ 38
    rw [xmr_name hm hl hp h]
    decide
theorem shown_eq {k : Class} (h : k.hidden = none) : k.shown = dotted k.name := by
  unfold Class.shown
  rw [h]
theorem homes_le {vm : Vm} {a b : Class} {x : Nat} (hm : xmr vm) (ha : a.loader = none) (hb : b.loader = none) (pa : packageOf a.name ∈ castPackages_1) (pb : packageOf b.name ∈ castPackages_1) (h : a.shown.toList.length + b.shown.toList.length ≤ x) : (vm.homes a b).toList.length ≤ x + 92 := by
  have e1 := home_le hm ha pa
  have e2 := home_le hm hb pb
  unfold Vm.homes
  split
  · show (toString a.shown ++ toString " and " ++ toString b.shown ++ toString " are in " ++ toString (vm.home a)).toList.length ≤ _
    simp only [String.toList_append, List.length_append]
    have a1 : (toString " and ").toList.length = 5 := by decide
    have a2 : (toString " are in ").toList.length = 8 := by decide
    have a3 : (toString a.shown).toList.length = a.shown.toList.length := rfl
    have a4 : (toString b.shown).toList.length = b.shown.toList.length := rfl
    have a5 : (toString (vm.home a)).toList.length = (vm.home a).toList.length := rfl
    omega
  · show (toString a.shown ++ toString " is in " ++ toString (vm.home a) ++ toString "; " ++ toString b.shown ++ toString " is in " ++ toString (vm.home b)).toList.length ≤ _
    simp only [String.toList_append, List.length_append]
    have a1 : (toString " is in ").toList.length = 7 := by decide
    have a2 : (toString "; ").toList.length = 2 := by decide
    have a3 : (toString a.shown).toList.length = a.shown.toList.length := rfl
    have a4 : (toString b.shown).toList.length = b.shown.toList.length := rfl
    have a5 : (toString (vm.home a)).toList.length = (vm.home a).toList.length := rfl
    have a6 : (toString (vm.home b)).toList.length = (vm.home b).toList.length := rfl
    omega
theorem ccmsg_le {vm : Vm} {a b : Class} {x : Nat} (hm : xmr vm) (ha : a.loader = none) (hb : b.loader = none) (pa : packageOf a.name ∈ castPackages_1) (pb : packageOf b.name ∈ castPackages_1) (h : a.shown.toList.length + b.shown.toList.length ≤ x) : (stringBytes (stringToUtf16 (checkcast.message vm a b))).size ≤ 8 * x + 504 := by
  have b1 := stringBytes_size_le (stringToUtf16 (checkcast.message vm a b))
  have b2 := utf16_size_le (checkcast.message vm a b)
  have b4 := homes_le hm ha hb pa pb h
  have b3 : (checkcast.message vm a b).toList.length ≤ 2 * x + 126 := by
    show (toString "class " ++ toString a.shown ++ toString " cannot be cast to class " ++ toString b.shown ++ toString " (" ++ toString (vm.homes a b) ++ toString ")").toList.length ≤ _
    simp only [String.toList_append, List.length_append]
    have a1 : (toString "class ").toList.length = 6 := by decide
    have a2 : (toString " cannot be cast to class ").toList.length = 25 := by decide
    have a7 : (toString " (").toList.length = 2 := by decide
    have a8 : (toString ")").toList.length = 1 := by decide
    have a3 : (toString a.shown).toList.length = a.shown.toList.length := rfl
    have a4 : (toString b.shown).toList.length = b.shown.toList.length := rfl
    have a5 : (toString (vm.homes a b)).toList.length = (vm.homes a b).toList.length := rfl
    omega
  omega
theorem ccmsg_ok {vm : Vm} {a b : Class} : ((checkcast.message vm a b) == notModelled) = false := by
  rw [beq_eq_false_iff_ne]
  intro h
  have h2 := congrArg String.toList h
  have h3 : ∃ r, (checkcast.message vm a b).toList = 'c' :: r := by
    refine ⟨"lass ".toList ++ (toString a.shown).toList ++ (toString " cannot be cast to class ").toList ++ (toString b.shown).toList ++ (toString " (").toList ++ (toString (vm.homes a b)).toList ++ (toString ")").toList, ?_⟩
    show (toString "class " ++ toString a.shown ++ toString " cannot be cast to class " ++ toString b.shown ++ toString " (" ++ toString (vm.homes a b) ++ toString ")").toList = _
    simp only [String.toList_append]
    rfl
  obtain ⟨r, hr⟩ := h3
  rw [hr] at h2
  have h4 : notModelled.toList = '\u0000' :: " a message that is not modelled".toList := by decide
  rw [h4] at h2
  simp at h2
section VXC
variable {p : Program} {l : Launch} {e : Env} {R : Room} {s : State} {m : MethodId} {args : Array Value} {below : List Frame} {meth : Method} {c : Code} {T : State} {H : Heap} {locs : List Loc} {cells slots : Nat}
theorem vx_castAt (X : Stand p l e R s m args below meth c T locs cells slots) (hexec : p.tables.exec = Jvm.exec)
    {own name : String} {index : Nat} (hown : s.vm.findClass own = some m.cls) (hlink : (Cond.classLink own index name).before args s = true)
    {a : Addr} {cell : Cell} {cT : ClassId} {C : String} (h1 : T.heap[a]? = some cell) (hobj : cell.vm.isStatics = false) (hks : s.vm.findClass C = some cell.cls)
    (hcT : s.vm.findClass name = some cT) (hasg : s.vm.assignable cell.cls cT = false)
    {g : JFrame} (hg : g.method = m) {rest : List Value} (hstack : g.stack = .ref a :: rest) (hdg : decode c.code g.pc = .ok (.checkcast index, 3)) :
    ∃ (vm' : Vm) (ks kt : Class), Stand p l e R s m args below meth c (T.setVm vm') locs cells slots ∧ s.WarmedH vm' ∧ (ks.name = C ∧ ks.hidden = none ∧ ks.loader = none) ∧ (kt.name = name ∧ kt.hidden = none ∧ kt.loader = none) ∧
      ∀ target, Steps p.tables e below (((T.setVm vm').setTop g).pushFrame (.throwNew "java/lang/ClassCastException" (some (checkcast.message vm' ks kt)) none)) target → Steps p.tables e below (T.setTop g) target := by
  have hpl : e.platform.magicAccessors = ({} : Platform).magicAccessors := by rw [X.admits.platform]
  obtain ⟨cc, hcc, hcl⟩ := Cond.classLink_spec hown hlink e.platform hpl
  cases hcT.symm.trans hcc
  obtain ⟨dk, _, _, kt, hd, _, _, _, _, hkt, _, hopen⟩ := hcl.here
  have hcl₀ := X.warmed.classLinks hcl
  have hW' : s.WarmedH (T.vm.noted m.cls index (.cls cT)) := X.warmed.noted hd hopen (State.rightAt_cls hcl)
  obtain ⟨ks', hks', n1⟩ := fc_spec (show (T.vm.noted m.cls index (.cls cT)).findClass C = some cell.cls by rw [hW'.alike.findClass]; exact hks)
  obtain ⟨kt', hkt', n2⟩ := fc_spec (show (T.vm.noted m.cls index (.cls cT)).findClass name = some cT by rw [hW'.alike.findClass]; exact hcT)
  refine ⟨_, ks', kt', X.noted hW', hW', n1, n2, fun target hrest => ?_⟩
  subst hg
  jvm_step X.here [hexec, hdg, Op.checkcast.wp_cold (e := e) (s := T) (f := g) X.here.top hstack (resolveClass_links e.toSetting hcl₀) hcl₀.ready,
    Op.checkcast.wp_ready (e := e) (s := T.setVm (T.vm.noted g.method.cls index (.cls cT))) (f := g) X.here.top hcl₀.ready hstack]
  refine ⟨cell, h1, VmData.noStatics_of hobj, ks', hks', kt', hkt', ?_⟩
  have h4 : (T.vm.noted g.method.cls index (Resolved.cls cT)).assignable cell.cls cT = false := by rw [hW'.alike.assignable]; exact hasg
  rw [if_neg (by rw [h4]; decide)]
  exact hrest
end VXC
section XJ13
variable {E : xE} {I : xI} {R : Room} {Φ : xOut → xH → Prop} {nc ns pc : Nat} {lv : List (Option Value)} {st : List Value} {G : xH}
/-- a pair of names whose message is short -/
def xcp (C D : String) : Bool := decide (packageOf C ∈ castPackages_1) && decide (packageOf D ∈ castPackages_1) && decide ((dotted C).toList.length + (dotted D).toList.length ≤ 48)
theorem xj_castNo {idx a : Nat} {x : xC} {C nm : String} (hmod : xMod E) (hd : decode I.2.1 pc = .ok (.checkcast idx, 3)) (w1 : Cond.classLink I.1.cls idx nm ∈ lw_all) (hg : G[a]? = some x) (hn : xnm C x) (hc : xnc C nm) (hp : xcp C nm = true) (hr : xrm R nc ns (.ref a :: st) 3 898)
    (k : ∀ j : Nat, xJT E I R Φ (nc - 3) (ns - 898) pc lv (G ++ List.replicate j cX) "java/lang/ClassCastException" none) : xJ E I R Φ nc ns pc lv (.ref a :: st) G := by
  intro p e s m args below meth c H locs cells slots ls B
  have hW := B.2.1.2.2.2.2.2.2.1
  obtain ⟨cell, h1, h2, h3⟩ := xcel B hg hn
  obtain ⟨c0, t0, f1, f2, f3⟩ := B.1.ncast hW hc
  cases h3.symm.trans f1
  simp only [xcp, Bool.and_eq_true, decide_eq_true_eq] at hp
  intro T hT X
  obtain ⟨vm', ks, kt, X1, hW1, n1, n2, st1⟩ := vx_castAt X B.2.1.1 B.2.1.2.2.2.2.2.1 (B.1.word hW w1 args) (by rw [hT]; exact h1) h2 h3 f2 f3 (g := F0 m pc ls ((.ref a :: st).map (xv E))) rfl rfl (by rw [B.2.1.2.1]; exact hd)
  have hmr : xmr vm' := by
    show (vm'.modules.all _) = true
    rw [hW1.1]
    show (s.vm.modules.all _) = true
    rw [hW.1]
    exact hmod
  have hlen := ccmsg_le (x := 48) hmr n1.2.2 n2.2.2 (by rw [n1.1]; exact hp.1.1) (by rw [n2.1]; exact hp.1.2) (by rw [shown_eq n1.2.1, shown_eq n2.2.1, n1.1, n2.1]; exact hp.2)
  obtain ⟨t, q1, q2⟩ := xntCC (nb := 888) ccmsg_ok hlen (by decide) hr k B (T.setVm vm') hT X1
  exact ⟨t, st1 t q1, q2⟩
end XJ13
