/-! ===== the x layer, twenty-fourth part: walks of an interface's defaults ===== -/
set_option maxRecDepth 100000
theorem vx_ofI {l : Launch} {y : MethodName} {rm : Room} {Pc : Array Value → State → Prop} {Qc : Array Value → State → Outcome → State → Prop} {XC : String → Addr → State → State → Prop} {mc ms : Nat} {free : Addr → Prop} {cc : ByteArray} {maxL : Nat} {ret : Option FieldType}
    (hy : plainName y.cls = true)
    (body : ∀ p e s m args below meth c, p.tables.exec = Jvm.exec → c.code = cc → c.maxLocals = maxL → meth.sig.returnType = ret → meth.locks = false → s.methodNamed? y = some m → s.vm.method? m = some meth → (∀ x ∈ c.exceptionTable.toList, False) → Pc args s →
      W p l e rm s m args below meth c s.heap [] 0 0 (vx_MQ below Qc XC args s mc ms free) (entryFrame m args maxL)) : vx_MetI l y [Cond.code y cc maxL ret] rm Pc Qc XC mc ms free := by
  intro p e ha hc hk s m args below hf happ hP
  obtain ⟨hrun, hable, halone, hname, hhears, hroom, hpre⟩ := happ
  obtain ⟨meth, c, hmeth, hcode, hbytes, hlocals, hret, hlocks, h7, -⟩ := Cond.code_spec hname (atoms_spec (ws := [Cond.code y cc maxL ret]) hpre _ List.mem_cons_self)
  have hcur := State.cur_lt_of_frames hf
  have hf1 : (s.setFrames (.java (entryFrame m args maxL) :: below)).frames = .java (entryFrame m args maxL) :: below := State.frames_setFrames _ hcur
  have ht1 := State.topJava?_of_frames hf1
  have hplain : (s.setFrames (.java (entryFrame m args maxL) :: below)).plainMethod m := State.plainMethod.of_named (s := s) (plainFor_of_name hy) hname hmeth
  have hAt : At (s.setFrames (.java (entryFrame m args maxL) :: below)) m c below :=
    ⟨by rw [ht1]; rfl, ⟨[], by rw [hf1]; rfl⟩, hrun, by simpa using hable, by simpa using halone, by rw [State.code?_eq]; simp [State.setFrames, hmeth, hcode], hplain⟩
  have hstep : (stepThread p.tables e s).1 = (s.setFrames (.java (entryFrame m args maxL) :: below)).setTop (entryFrame m args maxL) := by
    have hfull : e.platform.stackFull (s.setFrames below).me (s.setFrames below).frames c.maxLocals = false := by
      obtain ⟨-, h1, -, h2⟩ := State.hasRoom_stack hroom
      rw [hf, List.length_cons] at h1
      rw [State.localsInUse_invoking hf hmeth hcode] at h2
      have hw := stackUse_le_stackWeight below
      rw [State.frames_setFrames _ hcur]
      exact Platform.stackFull_eq_false (by rw [State.stackLimits_setFrames]; omega) (by rw [State.stackLimits_setFrames]; omega)
    rw [stepThread_invoking hf, (doInvoke_java (s := s.setFrames below) (e := e) (meth := meth) (code := c) hmeth hcode hlocks hfull).1, State.setTop_self ht1]
    simp only [State.pushFrame, State.frames_setFrames _ hcur, State.setFrames_setFrames, hlocals, entryFrame]
  have X : Stand p l e rm s m args below meth c (s.setFrames (.java (entryFrame m args maxL) :: below)) [] 0 0 := by
    obtain ⟨t, ht, -⟩ := State.frames_cons hf
    refine ⟨ha, hc, hk, hf, hroom, hhears, hmeth, hcode, hAt, by rw [hf1]; rfl, State.WarmedH.refl s, by rw [State.stackLimits_setFrames], by rw [State.stackBytes_setFrames], ?_⟩
    exact (State.sameButNew.refl s ht).setFrames (.java (entryFrame m args maxL) :: below) hcur
  have htb : ∀ x ∈ c.exceptionTable.toList, False := by
    intro x hx
    rw [Array.isEmpty_iff.mp h7] at hx
    cases hx
  obtain ⟨s₂, hs, o, hr, he, hp⟩ := body p e s m args below meth c (by cases p <;> rfl) hbytes hlocals hret hlocks hname hmeth htb hP (s.setFrames (.java (entryFrame m args maxL) :: below)) rfl X
  obtain ⟨n, hn, hw⟩ := Steps.head (tb := p.tables) (e := e) ⟨hrun, hable, halone⟩ ⟨[.invoking m args], hf, by simp, by simp⟩ (hstep ▸ hs)
  exact ⟨n, o, hw, hn ▸ hr, hn ▸ he, hn ▸ hp⟩
section XMI
variable {E : xE} {G : xH} {lv : List (Option Value)}
/-- a contract of an interface's default -/
def xMetI (E : xE) (y : MethodName) (bytes : ByteArray) (maxL : Nat) (ret : Option FieldType) (d mc ms : Nat) (args : List Value) (G : xH) (Ψ : xOut → xH → Prop) : Prop :=
  xOK E → vx_MetI E.1 y [Cond.code y bytes maxL ret] (xR d mc ms) (xPc E args G) (xQ E Ψ) (xX E Ψ) mc ms (fun q => xb E ≤ q)
theorem xMetI.of {y : MethodName} {bytes : ByteArray} {maxL d mc ms : Nat} {ret : Option FieldType} {args : List Value} {Ψ : xOut → xH → Prop} (hy : plainName y.cls = true) (hlv : xent args maxL = lv) (hn : (xent0 args).length ≤ maxL)
    (k : xJ E (y, bytes, maxL, ret, []) (xR d mc ms) Ψ mc ms 0 lv [] G) : xMetI E y bytes maxL ret d mc ms args G Ψ := by
  intro ok
  refine vx_ofI (cc := bytes) (maxL := maxL) (ret := ret) hy ?_
  intro p e s m a below meth c b1 b2 hml b3 b4 b5 b6 htab hv
  obtain ⟨rfl, hW, hw⟩ := hv
  subst hlv
  rw [lg_entry_eq]
  exact k p e s m _ below meth c s.heap [] 0 0 _ ⟨ok, ⟨b1, b2, hml, b3, b4, findClass_of_methodNamed b5, hW, (name_of_methodNamed b5 b6).1, by
    cases h : c.exceptionTable.toList with
    | nil => rfl
    | cons x l => exact (htab x (by rw [h]; exact List.mem_cons_self)).elim⟩, hw, Nat.le_refl _, (fun z hz => by cases hz), by show 0 + mc ≤ mc; omega, by show 0 + ms ≤ ms; omega, xl_ent args hn⟩
end XMI
