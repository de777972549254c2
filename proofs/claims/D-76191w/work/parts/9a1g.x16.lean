/-! ===== the x layer, sixteenth part: null to System.arraycopy ===== -/
set_option maxRecDepth 100000
section XNO
variable {p : Program} {e : Env} {below base : List Frame} {s₀ W : State}
/-- the exception's constructor is entered over any frames -/
theorem xno_in (hO : Over W base below) (a : Addr) {m : MethodId} {meth : Method} {code : Code} (hm : W.vm.method? m = some meth) (hc : meth.code = some code) (hp : W.plainMethod m) :
    (W.setFrames (.thenThrow a :: base)).frames = .thenThrow a :: base ∧ At ((W.setFrames (.thenThrow a :: base)).pushFrame (.java (pass0J m a 0 []))) m code below ∧ ((W.setFrames (.thenThrow a :: base)).pushFrame (.java (pass0J m a 0 []))).frames = .java (pass0J m a 0 []) :: .thenThrow a :: base := by
  obtain ⟨mid, hmid⟩ := hO.above
  have f1 : (W.setFrames (.thenThrow a :: base)).frames = .thenThrow a :: base := State.frames_setFrames _ hO.cur
  have f2 := State.cur_lt_of_frames f1
  have f3 : (W.setFrames (.thenThrow a :: base)).goesOn := ⟨hO.running, by simpa using hO.runnable, by simpa using hO.alone⟩
  refine ⟨f1, At.pushOn _ f3 f2 ⟨.thenThrow a :: mid, by rw [f1, hmid]; rfl⟩ hm hc hp, ?_⟩
  show ((W.setFrames (.thenThrow a :: base)).setFrames (.java (pass0J m a 0 []) :: (W.setFrames (.thenThrow a :: base)).frames)).frames = _
  rw [State.frames_setFrames _ f2, f1]
/-- it returns: what it made is thrown -/
theorem xno_out (hexec : p.tables.exec = Jvm.exec) (hO : Over W base below) (a : Addr) (x : Cell) {m : MethodId} {meth : Method} {code : Code} (hm : W.vm.method? m = some meth) (hc : meth.code = some code) (hp : W.plainMethod m) (hlk : meth.locks = false) (h5 : decode code.code 4 = .ok (.return_, 1)) {target : State}
    (hrest : Steps p.tables e below ((W.setCell a x).setFrames (.throwing a :: base)) target) :
    Steps p.tables e below ((((W.setFrames (.thenThrow a :: base)).pushFrame (.java (pass0J m a 0 []))).setCell a x).setTop (pass0J m a 4 [])) target := by
  obtain ⟨f1, f2, f3⟩ := xno_in hO a hm hc hp
  obtain ⟨mid, hmid⟩ := hO.above
  have hH : HeapOnly (fun u => u.setCell a x) := heapOnly_id.thenSetCell a x
  have hB : At (((W.setFrames (.thenThrow a :: base)).pushFrame (.java (pass0J m a 0 []))).setCell a x) m code below := hH.at_ f2
  jvm_step hB [hexec, h5, return_.wp_sem]
  intro acts2
  have g1 : (((W.setFrames (.thenThrow a :: base)).pushFrame (.java (pass0J m a 0 []))).setCell a x).frames = .java (pass0J m a 0 []) :: .thenThrow a :: base := f3
  rw [ret_to (t := ((W.setFrames (.thenThrow a :: base)).pushFrame (.java (pass0J m a 0 []))).setCell a x) (f := pass0J m a 4 []) (f₀ := pass0J m a 0 []) (below := .thenThrow a :: base) (fs := .thenThrow a :: base) (meth := meth) g1 hm hlk rfl rfl rfl acts2]
  have g2 : ∀ F : List Frame, (((W.setFrames (.thenThrow a :: base)).pushFrame (.java (pass0J m a 0 []))).setCell a x).setFrames F = (W.setCell a x).setFrames F := fun F => by
    have q1 := hH.setFrames (W.setFrames (.thenThrow a :: base)) (.java (pass0J m a 0 []) :: (W.setFrames (.thenThrow a :: base)).frames)
    have q2 := hH.setFrames W (.thenThrow a :: base)
    show (((W.setFrames (.thenThrow a :: base)).setFrames (.java (pass0J m a 0 []) :: (W.setFrames (.thenThrow a :: base)).frames)).setCell a x).setFrames F = _
    rw [q1, q2, State.setFrames_setFrames, State.setFrames_setFrames]
  have g3 := State.cur_lt_of_frames g1
  have g4 : ((((W.setFrames (.thenThrow a :: base)).pushFrame (.java (pass0J m a 0 []))).setCell a x).setFrames (.thenThrow a :: base)).frames = .thenThrow a :: base := State.frames_setFrames _ g3
  refine Steps.head ⟨hB.running, by simpa using hB.runnable, by simpa using hB.alone⟩ ⟨.thenThrow a :: mid, by rw [g4, hmid]; rfl, by simp, by simp⟩ ?_
  rw [stepThread_thenThrow g4]
  show Steps p.tables e below (((((W.setFrames (.thenThrow a :: base)).pushFrame (.java (pass0J m a 0 []))).setCell a x).setFrames (.thenThrow a :: base)).setFrames (.throwing a :: base)) target
  rw [State.setFrames_setFrames, g2]
  exact hrest
/-- the whole constructor -/
theorem xno_ctor (hexec : p.tables.exec = Jvm.exec) (hO : Over W base below) (T : ThrowableC) (Lt : T.Links e.platform s₀) (Z : Init0T) (LZ : Z.Laid T.toThrowableT) (N : NpeC) (LN : N.Links T e.platform s₀) (hW : s₀.WarmedH W.vm) (a : Addr)
    {u0 sen : RefV} {cell cellS : Cell} {kc : Class} (hcell : W.heap[a]? = some cell) (hvm : cell.vm = .none) (hfree : cell.monitor.owner = none) (hkc : s₀.vm.classes[cell.cls]? = some kc)
    (hsel0 : selectMethod e.platform s₀.vm cell.cls T.fill0 = .method T.fill0) (hcellS : W.heap[T.aS]? = some cellS) (hne : T.aS ≠ a) (hknownS : cellS.vm ≠ .unknown) (hvU : cellS.slots[T.fUnassigned.slot]? = some u0.v)
    (hv0 : cell.slots[N.fState.slot]? = some (.int 0)) (n1 : T.fCause.slot ≠ N.fState.slot) (n2 : T.fStack.slot ≠ N.fState.slot) (n3 : T.fSupp.slot ≠ N.fState.slot) (htS : Takes s₀ cell T.fStack u0.v) (ht1 : Takes s₀ cell N.fState (.int 1))
    (hskip : SkipFacts T e.platform s₀ (fun u => u) u0 ((npeCell N.toNpeT (preparedCellV T.toThrowableT cell a u0 sen) W.cur).withEntry W.cur))
    (hnat : u0.v ≠ .null → ∀ u : State, At u T.fill T.codeFill below → s₀.WarmedH u.vm → u.heap[a]? = some ((npeCell N.toNpeT (preparedCellV T.toThrowableT cell a u0 sen) W.cur).withEntry W.cur) →
      e.platform.stackFull (((u.setTop (fillJ T.fill a 16 [])).threads[(u.setTop (fillJ T.fill a 16 [])).cur]?).getD { frames := [] }) (u.setTop (fillJ T.fill a 16 [])).frames (nativeFrameWords "java/lang/Throwable" "fillInStackTrace" 2) = false → ∀ t' : State,
      Steps p.tables e below (u.setTop (fillJ T.fill a 19 [.ref a])) t' → Steps p.tables e below (doInvoke e (u.setTop (fillJ T.fill a 16 [])) [] T.fill0 #[.ref a, .int 0]).1 t')
    (hselF : selectMethod e.platform s₀.vm cell.cls T.fill = .method N.fill) (hvSen : cellS.slots[T.fSentinel.slot]? = some sen.v) (htC : Takes s₀ cell T.fCause (.ref a)) (htP : Takes s₀ cell T.fSupp sen.v) (hobj : T.codeObj.maxLocals = 1)
    (P1 : PassC) (L1 : P1.Links0 e.platform s₀) (Ps : List PassC) (hL : ∀ P, P ∈ Ps → P.Links0 e.platform s₀) (hlink1 : P1.sup = firstOf (Z.m T.toThrowableT) (Ps.map (·.toPassT))) (hlink : PassesOn (Z.m T.toThrowableT) (Ps.map (·.toPassT)))
    {lim : Nat × Nat} (hlim : e.platform.stackLimits W.me = lim) (hfr : base.length + Ps.length + 5 < lim.1) (hwd : (stackUse base).2 + 13 * Ps.length + 68 ≤ lim.2) :
    ∃ vm', s₀.WarmedH vm' ∧ ∀ target, Steps p.tables e below (((W.setVm vm').setCell a ((((npeCell N.toNpeT (preparedCellV T.toThrowableT cell a u0 sen) W.cur).withEntry W.cur).setSlot T.fStack.slot u0.v).left.left)).setFrames (.throwing a :: base)) target →
      Steps p.tables e below (doInvoke e (W.setFrames (.thenThrow a :: base)) [] P1.m #[.ref a]).1 target := by
  have hmW := hW.methodAt L1.method
  obtain ⟨f1, f2, f3⟩ := xno_in hO a hmW L1.code (hW.plainAt L1.plain)
  have hlimN : e.platform.stackLimits (W.setFrames (.thenThrow a :: base)).me = lim := by rw [State.stackLimits_setFrames]; exact hlim
  have hroom := roomAbove (pl := e.platform) (u := W.setFrames (.thenThrow a :: base)) (vars := 1) (pushed := [.thenThrow a]) (base := base) (free := 13 * Ps.length + 68) (lim := lim) f1 hlimN
    (by simp only [List.length_cons, List.length_nil]; omega) (by omega) (by rw [stackUse_light _ _ (fun f hf => by cases hf) rfl, stackUse_nil]; show 0 + 1 + 11 ≤ _; omega)
  obtain ⟨vm1, hW1, st1⟩ := Steps.invokeInitCold (tb := p.tables) (s₀ := s₀) (U := ((W.setFrames (.thenThrow a :: base)).pushFrame (.java (pass0J P1.m a 0 [])))) (f := pass0J P1.m a 1 [.ref a]) (args := []) (rest := []) (a := a) f2 hexec L1.at1 hW L1.links L1.right L1.notHandle L1.cls L1.file L1.pool
    L1.supClass L1.supMethod L1.supName L1.supStatic L1.supAbstract L1.supFound L1.supParams.symm rfl
  have hA1 : W.vm.Alike vm1 := hW.alike.symm.trans hW1.alike
  have hI1 := f2.setVm hA1
  obtain ⟨-, -, f4⟩ := xno_in (hO.setVm hA1) a (hW1.methodAt L1.method) L1.code (hW1.plainAt (U := W.setVm vm1) L1.plain)
  have hs : ∃ vm2, s₀.WarmedH vm2 ∧ ∀ t' : State, Steps p.tables e below ((((((W.setVm vm1).setFrames (.thenThrow a :: base)).pushFrame (.java (pass0J P1.m a 0 []))).setVm vm2).setCell a ((((npeCell N.toNpeT (preparedCellV T.toThrowableT cell a u0 sen) W.cur).withEntry W.cur).setSlot T.fStack.slot u0.v).left.left)).setTop (pass0J P1.m a 4 [])) t' →
      Steps p.tables e below (doInvoke e ((((W.setVm vm1).setFrames (.thenThrow a :: base)).pushFrame (.java (pass0J P1.m a 0 []))).setTop (pass0J P1.m a 1 [])) [] (firstOf (Z.m T.toThrowableT) (Ps.map (·.toPassT))) #[.ref a]).1 t' := by
    have xc : (((W.setVm vm1).setFrames (.thenThrow a :: base)).pushFrame (.java (pass0J P1.m a 0 []))).heap[a]? = some cell := hcell
    have xS : (((W.setVm vm1).setFrames (.thenThrow a :: base)).pushFrame (.java (pass0J P1.m a 0 []))).heap[T.aS]? = some cellS := hcellS
    have xu : (((W.setVm vm1).setFrames (.thenThrow a :: base)).pushFrame (.java (pass0J P1.m a 0 []))).cur = W.cur := rfl
    have xW : s₀.WarmedH (((W.setVm vm1).setFrames (.thenThrow a :: base)).pushFrame (.java (pass0J P1.m a 0 []))).vm := hW1
    have xl : e.platform.stackLimits (((W.setVm vm1).setFrames (.thenThrow a :: base)).pushFrame (.java (pass0J P1.m a 0 []))).me = lim := by rw [State.stackLimits_pushFrame, State.stackLimits_setFrames]; exact hlim
    have xI : At (((W.setVm vm1).setFrames (.thenThrow a :: base)).pushFrame (.java (pass0J P1.m a 0 []))) P1.m P1.code below := hI1
    generalize (((W.setVm vm1).setFrames (.thenThrow a :: base)).pushFrame (.java (pass0J P1.m a 0 []))) = Y at xc xS xu xW xl xI f4 ⊢
    exact Steps.initNpe0ColdByV p (V := Y) (g := pass0J P1.m a 1 []) (c := P1.code) (self := a) xI hexec T Lt Z LZ N LN xW xu (Nn := fun u => u) heapOnly_id (fun _ _ => rfl) (fun _ => rfl) (fun u x y => setCell_twice _ _ _ _) (fun _ => Nat.le_refl _) xc
      (by intro k hk; rw [hvm] at hk; cases hk) (by rw [hvm]; intro hk; cases hk) hfree hkc hsel0 xS hne hknownS hvU hv0 n1 n2 n3 htS ht1
      (cN := ((npeCell N.toNpeT (preparedCellV T.toThrowableT cell a u0 sen) W.cur).withEntry W.cur)) (fun _ hu => hu) (fun _ hu => hu) rfl rfl rfl (by simp [npeCell, preparedCellV, Cell.setSlot, Cell.withEntry]) hskip hnat hselF hvSen htC htP hobj Ps hL hlink (ig := .invokespecial P1.index) (len := 3) [] xl
      (by rw [f4]; simp only [List.length_cons]; omega)
      (by rw [f4, List.tail_cons, stackUse_java, stackUse_light _ _ (fun f hf => by cases hf) rfl]
          show (stackUse base).2 + (1 + 11 + 2 * 0 + operandWords []) + 13 * Ps.length + 55 ≤ lim.2
          simp only [operandWords, List.foldl_nil]
          omega)
      L1.at1
  obtain ⟨vm2, hW2, st2⟩ := hs
  refine ⟨vm2, hW2, fun target hrest => ?_⟩
  rw [(doInvoke_java (s := (W.setFrames (.thenThrow a :: base))) (e := e) (acts := []) (args := #[.ref a]) (meth := P1.meth) (code := P1.code) hmW L1.code L1.locks (by rw [L1.locals]; exact hroom)).1, L1.locals]
  show Steps p.tables e below ((W.setFrames (.thenThrow a :: base)).pushFrame (.java (pass0J P1.m a 0 []))) target
  rw [← State.setTop_self (s := ((W.setFrames (.thenThrow a :: base)).pushFrame (.java (pass0J P1.m a 0 [])))) (State.topJava?_of_frames f3)]
  jvm_step f2 [hexec, L1.at0, Value.isRef]
  refine st1 target ?_
  rw [hlink1]
  refine st2 target ?_
  have hA2 : W.vm.Alike vm2 := hW.alike.symm.trans hW2.alike
  exact xno_out (W := W.setVm vm2) hexec (hO.setVm hA2) a _ (hW2.methodAt L1.method) L1.code (hW2.plainAt (U := W.setVm vm2) L1.plain) L1.locks L1.at4 hrest
end XNO

