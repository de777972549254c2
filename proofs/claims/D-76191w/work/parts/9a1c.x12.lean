/-! ===== the x layer, twelfth part: what the machine throws by itself ===== -/
set_option maxRecDepth 100000
section VXH
variable {p : Program} {l : Launch} {e : Env} {R : Room} {s : State} {m : MethodId} {args : Array Value} {below : List Frame} {meth : Method} {c : Code} {H : Heap} {locs : List Loc} {cells slots : Nat}
theorem vx_vm2 {pc : Nat} {ls : Array Slot} {rest : List Value} {Q : State → Prop} (hexec : p.tables.exec = Jvm.exec) (hl : l.stackTraces = false) {cls text : String} {names : List String} {nb : Nat} {A : Nat → Prop}
    (hcls : Bundle.fit cls = true) (hnames : ∀ n ∈ names, Bundle.fit n = true) (hsoe : (cls == "java/lang/StackOverflowError") = false) (hoom : (cls == "java/lang/OutOfMemoryError") = false)
    (hat : ∀ w ∈ vx_atM cls names, w.before args s = true) (hgood : ∀ w ∈ vx_atM cls names, vx_ot w = true)
    (hU : vx_Zq Bundle.tN "UNASSIGNED_STACK" Bundle.steD A s H) (hN : vx_Zq Bundle.tN "SUPPRESSED_SENTINEL" Bundle.listD A s H) (hsize : ls.size = c.maxLocals)
    (htext : (text == notModelled) = false) (hnb : (stringBytes (stringToUtf16 text)).size ≤ nb) (hnb1 : nb ≤ 1000)
    (hRframes : names.length + 4 < R.frames) (hRlocals : (rest.map fun v => v.category).sum + 10240 ≤ R.locals) (hshort : 13 * names.length + 55 ≤ 10240) (hRcells : cells + 3 ≤ R.cells) (hRslots : slots + (nb + 10) ≤ R.slots) (hlocks : meth.locks = false)
    (k : ∀ (H1 : Heap) (q9 : Addr) (ce : Cell), H.size ≤ H1.size → (∀ q : Nat, q < H.size → H1[q]? = H[q]?) → H1[q9]? = some ce → ce.vm = .none → s.vm.findClass cls = some ce.cls → vx_W p l e R s m args below meth c H1 locs (cells + 3) (slots + (nb + 10)) Q (F0 m pc ls rest) q9) :
    vx_Note p l e R s m args below meth c H locs cells slots Q (F0 m pc ls rest) cls text := by
  intro T hT X
  have htr : e.platform.stackTraces = false := (show e.platform.stackTraces = l.stackTraces by rw [X.admits.platform]).trans hl
  have Y := vx_rebase X (R' := { frames := R.frames, locals := R.locals, cells := 3, slots := nb + 10 }) (Nat.le_refl _) (Nat.le_refl _) hRcells hRslots
  have hhp : ((T.setVm s.vm).setFrames (.invoking m args :: below)).heap = H := hT
  have hW0 : s.WarmedH ((T.setVm s.vm).setFrames (.invoking m args :: below)).vm := State.WarmedH.refl s
  have hat' : ∀ w ∈ vx_atM cls names, w.before args ((T.setVm s.vm).setFrames (.invoking m args :: below)) = true := fun w hw => vx_ot_at hW0 rfl (hgood w hw) (hat w hw)
  have hU' : vx_Zq Bundle.tN "UNASSIGNED_STACK" Bundle.steD A ((T.setVm s.vm).setFrames (.invoking m args :: below)) ((T.setVm s.vm).setFrames (.invoking m args :: below)).heap := by rw [hhp]; exact vx_Zq.moved hW0.alike hU
  have hN' : vx_Zq Bundle.tN "SUPPRESSED_SENTINEL" Bundle.listD A ((T.setVm s.vm).setFrames (.invoking m args :: below)) ((T.setVm s.vm).setFrames (.invoking m args :: below)).heap := by rw [hhp]; exact vx_Zq.moved hW0.alike hN
  obtain ⟨S, q, ce, st, Z, hce, hcl', hv⟩ := vx_vmAt Y hexec htr (cls := cls) (names := names) (text := text) hcls hnames hsoe hoom (vx_own hat' (vx_isRefq hU'.1) (vx_isRefq hN'.1) hU'.2.word hN'.2.word) (fun x hx => nomatch hx) htext
    (by rw [Launch.admits_arrayLengthLimit X.admits]; omega) (by rw [Launch.admits_maxHeapBytes X.admits]; simp only [componentBytes]; omega)
    (g := F0 m pc ls rest) rfl hsize hRframes (by show 2 * 0 + (rest.map fun v => v.category).sum + 10240 ≤ R.locals; omega) hshort (by show 0 + 3 ≤ 3; omega) (by show 0 + (_ + 4 + 6) ≤ nb + 10; omega) hlocks
  obtain ⟨f1, f2⟩ := vx_frame Z.same
  have f1' : H.size ≤ S.heap.size := by rw [← hT]; exact f1
  have f2' : ∀ q : Nat, q < H.size → S.heap[q]? = H[q]? := fun q hq => by
    rw [← hT]
    exact f2 q (by rw [← hT] at hq; exact hq) (fun z hz => nomatch hz)
  have X5 := vx_back9 X Y Z
  have X6 : Stand p l e R s m args below meth c S locs (cells + 3) (slots + (nb + 10)) := { X5 with same := X5.same.mono (by omega) (by omega) }
  obtain ⟨t, a1, b1⟩ := k S.heap q ce f1' f2' hce hv hcl' S rfl X6
  exact ⟨t, st t a1, b1⟩
theorem vx_npe2 {pc : Nat} {ls : Array Slot} {rest : List Value} {Q : State → Prop} (hexec : p.tables.exec = Jvm.exec) (hl : l.stackTraces = false) {nb : Nat} {A : Nat → Prop}
    (hat : ∀ w ∈ vx_atN nb, w.before args s = true) (hgood : ∀ w ∈ vx_atN nb, vx_ot w = true)
    (hU : vx_Zq Bundle.tN "UNASSIGNED_STACK" Bundle.steD A s H) (hN : vx_Zq Bundle.tN "SUPPRESSED_SENTINEL" Bundle.listD A s H) (hsize : ls.size = c.maxLocals)
    (hRframes : 7 < R.frames) (hRlocals : (rest.map fun v => v.category).sum + 10240 ≤ R.locals) (hRcells : cells + 1 ≤ R.cells) (hRslots : slots + nb ≤ R.slots) (hlocks : meth.locks = false)
    (k : ∀ (H1 : Heap) (q9 : Addr) (ce : Cell), H.size ≤ H1.size → (∀ q : Nat, q < H.size → H1[q]? = H[q]?) → H1[q9]? = some ce → ce.vm = .none → s.vm.findClass "java/lang/NullPointerException" = some ce.cls → vx_W p l e R s m args below meth c H1 locs (cells + 1) (slots + nb) Q (F0 m pc ls rest) q9) :
    vx_NoteN p l e R s m args below meth c H locs cells slots Q (F0 m pc ls rest) := by
  intro T hT X
  have htr : e.platform.stackTraces = false := (show e.platform.stackTraces = l.stackTraces by rw [X.admits.platform]).trans hl
  have Y := vx_rebase X (R' := { frames := R.frames, locals := R.locals, cells := 1, slots := nb }) (Nat.le_refl _) (Nat.le_refl _) hRcells hRslots
  have hhp : ((T.setVm s.vm).setFrames (.invoking m args :: below)).heap = H := hT
  have hW0 : s.WarmedH ((T.setVm s.vm).setFrames (.invoking m args :: below)).vm := State.WarmedH.refl s
  have hat' : ∀ w ∈ vx_atN nb, w.before args ((T.setVm s.vm).setFrames (.invoking m args :: below)) = true := fun w hw => vx_ot_at hW0 rfl (hgood w hw) (hat w hw)
  have hU' : vx_Zq Bundle.tN "UNASSIGNED_STACK" Bundle.steD A ((T.setVm s.vm).setFrames (.invoking m args :: below)) ((T.setVm s.vm).setFrames (.invoking m args :: below)).heap := by rw [hhp]; exact vx_Zq.moved hW0.alike hU
  have hN' : vx_Zq Bundle.tN "SUPPRESSED_SENTINEL" Bundle.listD A ((T.setVm s.vm).setFrames (.invoking m args :: below)) ((T.setVm s.vm).setFrames (.invoking m args :: below)).heap := by rw [hhp]; exact vx_Zq.moved hW0.alike hN
  obtain ⟨S, q, ce, st, Z, hce, hcl', hv⟩ := vx_npeAt Y hexec htr (n := nb) (vx_own hat' (vx_isRefq hU'.1) (vx_isRefq hN'.1) hU'.2.word hN'.2.word) (fun x hx => nomatch hx)
    (g := F0 m pc ls rest) rfl hsize hRframes (by show 2 * 0 + (rest.map fun v => v.category).sum + 10240 ≤ R.locals; omega) (by show 0 + 1 ≤ 1; omega) (by show 0 + nb ≤ nb; omega) hlocks
  obtain ⟨f1, f2⟩ := vx_frame Z.same
  have f1' : H.size ≤ S.heap.size := by rw [← hT]; exact f1
  have f2' : ∀ q : Nat, q < H.size → S.heap[q]? = H[q]? := fun q hq => by
    rw [← hT]
    exact f2 q (by rw [← hT] at hq; exact hq) (fun z hz => nomatch hz)
  have X5 := vx_back9 X Y Z
  have X6 : Stand p l e R s m args below meth c S locs (cells + 1) (slots + nb) := { X5 with same := X5.same.mono (by omega) (by omega) }
  obtain ⟨t, a1, b1⟩ := k S.heap q ce f1' f2' hce hv hcl' S rfl X6
  exact ⟨t, st t a1, b1⟩
end VXH

section XM
variable {E : xE} {I : xI} {R : Room} {Φ : xOut → xH → Prop} {nc ns pc : Nat} {lv : List (Option Value)} {st : List Value} {G : xH}
theorem xand_l {a b : Cond} {A : Array Value} {s : State} (h : (Cond.and a b).before A s = true) : a.before A s = true := by
  rw [Cond.before_and, Bool.and_eq_true] at h
  exact h.1
theorem xand_r {a b : Cond} {A : Array Value} {s : State} (h : (Cond.and a b).before A s = true) : b.before A s = true := by
  rw [Cond.before_and, Bool.and_eq_true] at h
  exact h.2
theorem xOK.nar (ok : xOK E) : narrow_1_1.before E.2.2.1 E.2.1 = true := xand_l (xand_l (show (Cond.and (Cond.and narrow_1_1 narrow_1_2) (Cond.and narrow_1_3 narrow_1_4)).before E.2.2.1 E.2.1 = true from xand_r ok.2.2.1))
theorem xOK.ref3 (ok : xOK E) : (Cond.and (.isRef (.static "java/lang/Throwable" "UNASSIGNED_STACK" "[Ljava/lang/StackTraceElement;")) (Cond.and (.isRef (.static "java/lang/Throwable" "SUPPRESSED_SENTINEL" "Ljava/util/List;")) (.eq (.static "java/lang/String" "COMPACT_STRINGS" "Z") (.int 1)))).before E.2.2.1 E.2.1 = true :=
  xand_r (xand_l (xand_l (xand_l (xand_l (xand_l (xand_l ok.nar))))))
theorem xOK.zU (ok : xOK E) {s : State} {H : Heap} (hW : E.2.1.WarmedH s.vm) (w : xWd E G H) : vx_Zq Bundle.tN "UNASSIGNED_STACK" Bundle.steD (fun q => xb E ≤ q) s H :=
  vx_Zq.moved hW.alike ((vx_Zqof (ok.2.1 _ q230) (ok.2.1 _ (lw_all_tbl q152)) (xand_l ok.ref3) (fun a ha hb => absurd ha (Nat.not_lt.mpr hb))).kept (fun a ha _ => w.2.1 a ha))
theorem xOK.zN (ok : xOK E) {s : State} {H : Heap} (hW : E.2.1.WarmedH s.vm) (w : xWd E G H) : vx_Zq Bundle.tN "SUPPRESSED_SENTINEL" Bundle.listD (fun q => xb E ≤ q) s H :=
  vx_Zq.moved hW.alike ((vx_Zqof (ok.2.1 _ q232) (ok.2.1 _ (lw_all_tbl q152)) (xand_l (xand_r ok.ref3)) (fun a ha hb => absurd ha (Nat.not_lt.mpr hb))).kept (fun a ha _ => w.2.1 a ha))
/-- room for an exception of the machine -/
def xrm (R : Room) (nc ns : Nat) (st : List Value) (a b : Nat) : Prop := 8 ≤ R.frames ∧ (st.map fun v => v.category).sum + 10240 ≤ R.locals ∧ a ≤ nc ∧ b ≤ ns
theorem xrm_R {d mc ms nc ns a b : Nat} {st : List Value} (h : (st.map fun v => v.category).sum ≤ 700) (h1 : a ≤ nc) (h2 : b ≤ ns) : xrm (xR d mc ms) nc ns st a b :=
  ⟨by show 8 ≤ d + 40; omega, by show _ + 10240 ≤ 11000 + 64 * d; omega, h1, h2⟩
theorem xnt {En text : String} {names : List String} {nb : Nat} (hcls : Bundle.fit En = true) (hnames : ∀ n ∈ names, Bundle.fit n = true) (hsoe : (En == "java/lang/StackOverflowError") = false) (hoom : (En == "java/lang/OutOfMemoryError") = false)
    (hat : ∀ (s : State) (args : Array Value), xOK E → E.2.1.WarmedH s.vm → ∀ w ∈ vx_atM En names, w.before args s = true) (hgood : ∀ w ∈ vx_atM En names, vx_ot w = true) (hnl : names.length ≤ 3)
    (htext : (text == notModelled) = false) (hnb : (stringBytes (stringToUtf16 text)).size ≤ nb) (hnb1 : nb ≤ 1000) (hr : xrm R nc ns st 3 (nb + 10))
    (k : ∀ j : Nat, xJT E I R Φ (nc - 3) (ns - (nb + 10)) pc lv (G ++ List.replicate j cX) En none)
    {p : Program} {e : Env} {s : State} {m : MethodId} {args : Array Value} {below : List Frame} {meth : Method} {c : Code} {H : Heap} {locs : List Loc} {cells slots : Nat} {ls : Array Slot} (B : xB E I R nc ns lv G p s m meth c H locs cells slots ls) :
    vx_Note p E.1 e R s m args below meth c H locs cells slots (vx_MQ below (xQ E Φ) (xX E Φ) args s R.cells R.slots (fun q => xb E ≤ q)) (F0 m pc ls (st.map (xv E))) En text := by
  obtain ⟨r1, r2, r3, r4⟩ := hr
  have hW := B.2.1.2.2.2.2.2.2.1
  obtain ⟨b1, b2, b3, b4, b5, b6, b7, b8⟩ := B
  refine vx_vm2 (A := fun q => xb E ≤ q) b2.1 b1.1 hcls hnames hsoe hoom (hat s args b1 hW) hgood (b1.zU hW b3) (b1.zN hW b3) (by rw [b2.2.2.1]; exact b8.2.1) htext hnb hnb1 (by omega) (by rw [xv_cats]; exact r2) (by omega) (by omega) (by omega) b2.2.2.2.2.1 ?_
  intro H1 q9 ce g1 g2 g3 g4 g5
  exact k _ p e s m args below meth c H1 locs (cells + 3) (slots + (nb + 10)) ls _ q9 ce ⟨b1, b2, b3.junk g1 g2, Nat.le_trans b4 g1, b5, by omega, by omega, b8⟩ (fun v hv => nomatch hv) g3 g4 g5
theorem xntN (hr : xrm R nc ns st 1 8) (k : ∀ j : Nat, xJT E I R Φ (nc - 1) (ns - 8) pc lv (G ++ List.replicate j cX) "java/lang/NullPointerException" none)
    {p : Program} {e : Env} {s : State} {m : MethodId} {args : Array Value} {below : List Frame} {meth : Method} {c : Code} {H : Heap} {locs : List Loc} {cells slots : Nat} {ls : Array Slot} (B : xB E I R nc ns lv G p s m meth c H locs cells slots ls) :
    vx_NoteN p E.1 e R s m args below meth c H locs cells slots (vx_MQ below (xQ E Φ) (xX E Φ) args s R.cells R.slots (fun q => xb E ≤ q)) (F0 m pc ls (st.map (xv E))) := by
  obtain ⟨r1, r2, r3, r4⟩ := hr
  have hW := B.2.1.2.2.2.2.2.2.1
  obtain ⟨b1, b2, b3, b4, b5, b6, b7, b8⟩ := B
  refine vx_npe2 (nb := 8) (A := fun q => xb E ≤ q) b2.1 b1.1 (xa_NP b1 hW) xg_NP (b1.zU hW b3) (b1.zN hW b3) (by rw [b2.2.2.1]; exact b8.2.1) (by omega) (by rw [xv_cats]; exact r2) (by omega) (by omega) b2.2.2.2.2.1 ?_
  intro H1 q9 ce g1 g2 g3 g4 g5
  exact k _ p e s m args below meth c H1 locs (cells + 1) (slots + 8) ls _ q9 ce ⟨b1, b2, b3.junk g1 g2, Nat.le_trans b4 g1, b5, by omega, by omega, b8⟩ (fun v hv => nomatch hv) g3 g4 g5
/-! the five with a text -/
theorem xntAE {text : String} {nb : Nat} (htext : (text == notModelled) = false) (hnb : (stringBytes (stringToUtf16 text)).size ≤ nb) (hnb1 : nb ≤ 1000) (hr : xrm R nc ns st 3 (nb + 10)) (k : ∀ j : Nat, xJT E I R Φ (nc - 3) (ns - (nb + 10)) pc lv (G ++ List.replicate j cX) "java/lang/ArithmeticException" none)
    {p : Program} {e : Env} {s : State} {m : MethodId} {args : Array Value} {below : List Frame} {meth : Method} {c : Code} {H : Heap} {locs : List Loc} {cells slots : Nat} {ls : Array Slot} (B : xB E I R nc ns lv G p s m meth c H locs cells slots ls) :
    vx_Note p E.1 e R s m args below meth c H locs cells slots (vx_MQ below (xQ E Φ) (xX E Φ) args s R.cells R.slots (fun q => xb E ≤ q)) (F0 m pc ls (st.map (xv E))) "java/lang/ArithmeticException" text :=
  xnt (names := ["java/lang/RuntimeException", "java/lang/Exception"]) (by decide) (by decide) (by decide) (by decide) (fun _ _ ok hW => xa_AE ok hW) xg_AE (by decide) htext hnb hnb1 hr k B

theorem xntAI {text : String} {nb : Nat} (htext : (text == notModelled) = false) (hnb : (stringBytes (stringToUtf16 text)).size ≤ nb) (hnb1 : nb ≤ 1000) (hr : xrm R nc ns st 3 (nb + 10)) (k : ∀ j : Nat, xJT E I R Φ (nc - 3) (ns - (nb + 10)) pc lv (G ++ List.replicate j cX) "java/lang/ArrayIndexOutOfBoundsException" none)
    {p : Program} {e : Env} {s : State} {m : MethodId} {args : Array Value} {below : List Frame} {meth : Method} {c : Code} {H : Heap} {locs : List Loc} {cells slots : Nat} {ls : Array Slot} (B : xB E I R nc ns lv G p s m meth c H locs cells slots ls) :
    vx_Note p E.1 e R s m args below meth c H locs cells slots (vx_MQ below (xQ E Φ) (xX E Φ) args s R.cells R.slots (fun q => xb E ≤ q)) (F0 m pc ls (st.map (xv E))) "java/lang/ArrayIndexOutOfBoundsException" text :=
  xnt (names := ["java/lang/IndexOutOfBoundsException", "java/lang/RuntimeException", "java/lang/Exception"]) (by decide) (by decide) (by decide) (by decide) (fun _ _ ok hW => xa_AI ok hW) xg_AI (by decide) htext hnb hnb1 hr k B
theorem xntCC {text : String} {nb : Nat} (htext : (text == notModelled) = false) (hnb : (stringBytes (stringToUtf16 text)).size ≤ nb) (hnb1 : nb ≤ 1000) (hr : xrm R nc ns st 3 (nb + 10)) (k : ∀ j : Nat, xJT E I R Φ (nc - 3) (ns - (nb + 10)) pc lv (G ++ List.replicate j cX) "java/lang/ClassCastException" none)
    {p : Program} {e : Env} {s : State} {m : MethodId} {args : Array Value} {below : List Frame} {meth : Method} {c : Code} {H : Heap} {locs : List Loc} {cells slots : Nat} {ls : Array Slot} (B : xB E I R nc ns lv G p s m meth c H locs cells slots ls) :
    vx_Note p E.1 e R s m args below meth c H locs cells slots (vx_MQ below (xQ E Φ) (xX E Φ) args s R.cells R.slots (fun q => xb E ≤ q)) (F0 m pc ls (st.map (xv E))) "java/lang/ClassCastException" text :=
  xnt (names := ["java/lang/RuntimeException", "java/lang/Exception"]) (by decide) (by decide) (by decide) (by decide) (fun _ _ ok hW => xa_CC ok hW) xg_CC (by decide) htext hnb hnb1 hr k B
theorem xntNA {text : String} {nb : Nat} (htext : (text == notModelled) = false) (hnb : (stringBytes (stringToUtf16 text)).size ≤ nb) (hnb1 : nb ≤ 1000) (hr : xrm R nc ns st 3 (nb + 10)) (k : ∀ j : Nat, xJT E I R Φ (nc - 3) (ns - (nb + 10)) pc lv (G ++ List.replicate j cX) "java/lang/NegativeArraySizeException" none)
    {p : Program} {e : Env} {s : State} {m : MethodId} {args : Array Value} {below : List Frame} {meth : Method} {c : Code} {H : Heap} {locs : List Loc} {cells slots : Nat} {ls : Array Slot} (B : xB E I R nc ns lv G p s m meth c H locs cells slots ls) :
    vx_Note p E.1 e R s m args below meth c H locs cells slots (vx_MQ below (xQ E Φ) (xX E Φ) args s R.cells R.slots (fun q => xb E ≤ q)) (F0 m pc ls (st.map (xv E))) "java/lang/NegativeArraySizeException" text :=
  xnt (names := ["java/lang/RuntimeException", "java/lang/Exception"]) (by decide) (by decide) (by decide) (by decide) (fun _ _ ok hW => xa_NA ok hW) xg_NA (by decide) htext hnb hnb1 hr k B
theorem xntAS {text : String} {nb : Nat} (htext : (text == notModelled) = false) (hnb : (stringBytes (stringToUtf16 text)).size ≤ nb) (hnb1 : nb ≤ 1000) (hr : xrm R nc ns st 3 (nb + 10)) (k : ∀ j : Nat, xJT E I R Φ (nc - 3) (ns - (nb + 10)) pc lv (G ++ List.replicate j cX) "java/lang/ArrayStoreException" none)
    {p : Program} {e : Env} {s : State} {m : MethodId} {args : Array Value} {below : List Frame} {meth : Method} {c : Code} {H : Heap} {locs : List Loc} {cells slots : Nat} {ls : Array Slot} (B : xB E I R nc ns lv G p s m meth c H locs cells slots ls) :
    vx_Note p E.1 e R s m args below meth c H locs cells slots (vx_MQ below (xQ E Φ) (xX E Φ) args s R.cells R.slots (fun q => xb E ≤ q)) (F0 m pc ls (st.map (xv E))) "java/lang/ArrayStoreException" text :=
  xnt (names := ["java/lang/RuntimeException", "java/lang/Exception"]) (by decide) (by decide) (by decide) (by decide) (fun _ _ ok hW => xa_AS ok hW) xg_AS (by decide) htext hnb hnb1 hr k B

/-! rows -/
theorem xj_idivZ {a b : Int32} (hd : decode I.2.1 pc = .ok (.idiv, 1)) (h0 : b = 0) (hr : xrm R nc ns st 3 19) (k : ∀ j : Nat, xJT E I R Φ (nc - 3) (ns - 19) pc lv (G ++ List.replicate j cX) "java/lang/ArithmeticException" none) : xJ E I R Φ nc ns pc lv (.int b :: .int a :: st) G := by
  intro p e s m args below meth c H locs cells slots ls B
  exact vx_idivZ B.2.1.1 B.2.1.2.1 h0 hd (xntAE (nb := 9) (by decide +kernel) (by decide +kernel) (by decide) hr k B)
theorem xj_newarrayZ {atype : ArrayType} {n : Int32} (hd : decode I.2.1 pc = .ok (.newarray atype, 2)) (h0 : n < 0) (hr : xrm R nc ns st 3 54) (k : ∀ j : Nat, xJT E I R Φ (nc - 3) (ns - 54) pc lv (G ++ List.replicate j cX) "java/lang/NegativeArraySizeException" none) : xJ E I R Φ nc ns pc lv (.int n :: st) G := by
  intro p e s m args below meth c H locs cells slots ls B
  exact vx_newarrayZ B.2.1.1 B.2.1.2.1 h0 hd (fun tx htx => by subst htx; exact xntNA (nb := 44) (negative_text_modelled h0) (negative_text_bytes n) (by decide) hr k B)
theorem xj_alenN (hd : decode I.2.1 pc = .ok (.arraylength, 1)) (hr : xrm R nc ns st 1 8) (k : ∀ j : Nat, xJT E I R Φ (nc - 1) (ns - 8) pc lv (G ++ List.replicate j cX) "java/lang/NullPointerException" none) : xJ E I R Φ nc ns pc lv (.null :: st) G := by
  intro p e s m args below meth c H locs cells slots ls B
  exact vx_arraylengthN B.2.1.1 B.2.1.2.1 hd (xntN hr k B)
theorem xj_bastZ {a k : Nat} {i x : Int32} {L : List Int32} (hd : decode I.2.1 pc = .ok (.bastore, 1)) (hg : G[a]? = some (cI 1 L)) (hout : ¬ vp_in i L.length) (h31 : L.length < 2147483648) (hr : xrm R nc ns st 3 222) (k : ∀ j : Nat, xJT E I R Φ (nc - 3) (ns - 222) pc lv (G ++ List.replicate j cX) "java/lang/ArrayIndexOutOfBoundsException" none) : xJ E I R Φ nc ns pc lv (.int x :: .int i :: .ref a :: st) G := by
  intro p e s m args below meth c H locs cells slots ls B
  have hP : va_P E.2.2.2.1 xcl [(xb E + a, .inl (E.2.2.2.2.1 1, L.length, .inl (fun j => L.getD j 0)))] H := xP1 (B.2.2.1.2.2 a _ hg)
  exact vx_bastZ B.2.1.1 B.2.1.2.1 (B.1.Ka B.2.1.2.2.2.2.2.2.1 (t := 1) rfl) hP 0 0 rfl rfl hout hd (fun tx htx => by subst htx; exact xntAI (nb := 212) (index_text_modelled i L.length) (index_text_bytes i (by omega)) (by decide) hr k B)
theorem xj_baldZ {a k : Nat} {i : Int32} {L : List Int32} (hd : decode I.2.1 pc = .ok (.baload, 1)) (hg : G[a]? = some (cI 1 L)) (hout : ¬ vp_in i L.length) (h31 : L.length < 2147483648) (hr : xrm R nc ns st 3 222) (k : ∀ j : Nat, xJT E I R Φ (nc - 3) (ns - 222) pc lv (G ++ List.replicate j cX) "java/lang/ArrayIndexOutOfBoundsException" none) : xJ E I R Φ nc ns pc lv (.int i :: .ref a :: st) G := by
  intro p e s m args below meth c H locs cells slots ls B
  have hP : va_P E.2.2.2.1 xcl [(xb E + a, .inl (E.2.2.2.2.1 1, L.length, .inl (fun j => L.getD j 0)))] H := xP1 (B.2.2.1.2.2 a _ hg)
  exact vx_baldZ B.2.1.1 B.2.1.2.1 (B.1.Ka B.2.1.2.2.2.2.2.2.1 (t := 1) rfl) hP 0 0 rfl rfl hout hd (fun tx htx => by subst htx; exact xntAI (nb := 212) (index_text_modelled i L.length) (index_text_bytes i (by omega)) (by decide) hr k B)
end XM

