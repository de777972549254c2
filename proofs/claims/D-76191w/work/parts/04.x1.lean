/-! ===== the x layer: abstract heaps over the kit. An abstract address i is the real address xb E + i; .float k stands for the outer reference number k ===== -/
set_option maxRecDepth 100000
abbrev xE : Type := Launch × State × Array Value × va_G × (Nat → ClassId) × (Nat → Nat)
def xb (E : xE) : Nat := E.2.1.heap.size
def xv (E : xE) : Value → Value
  | .ref i => .ref (xb E + i)
  | .float u => .ref (E.2.2.2.2.2 u.toNat)
  | .int x => .int x
  | .long x => .long x
  | .double x => .double x
  | .null => .null
  | .retAddr x => .retAddr x
def xo (E : xE) : Value → Option Nat
  | .ref i => some (xb E + i)
  | .float u => some (E.2.2.2.2.2 u.toNat)
  | _ => none
def xrf : Value → Bool
  | .ref _ => true
  | .float _ => true
  | .null => true
  | _ => false
theorem xo_rf {E : xE} {v : Value} (h : xrf v = true) : va_rf (xo E v) = xv E v := by
  cases v <;> first | rfl | (exact absurd h (by decide)) | (simp [xrf] at h)
theorem xv_cat (E : xE) (v : Value) : (xv E v).category = v.category := by cases v <;> rfl
theorem xv_cats (E : xE) (st : List Value) : ((st.map (xv E)).map fun v => v.category).sum = (st.map fun v => v.category).sum := by
  rw [List.map_map]
  congr 1
  exact List.map_congr_left fun v _ => xv_cat E v
abbrev xC : Type := Option ((Nat × List Int32) ⊕ (Nat × List Int64) ⊕ (Nat × List Value) ⊕ (Nat × List Value))
abbrev xH : Type := List xC
def cI (t : Nat) (L : List Int32) : xC := some (.inl (t, L))
def cL (t : Nat) (L : List Int64) : xC := some (.inr (.inl (t, L)))
def cR (t : Nat) (L : List Value) : xC := some (.inr (.inr (.inl (t, L))))
def cO (ci : Nat) (fs : List Value) : xC := some (.inr (.inr (.inr (ci, fs))))
def cX : xC := none
def xat (E : xE) (c : xC) (a : Nat) (H : Heap) : Prop := match c with
  | none => True
  | some (.inl q) => H[a]? = some (vp_cell (E.2.2.2.2.1 q.1) (q.2.length, .inl (fun j => q.2.getD j 0)))
  | some (.inr (.inl q)) => H[a]? = some (vp_cell (E.2.2.2.2.1 q.1) (q.2.length, .inr (.inl (fun j => q.2.getD j 0))))
  | some (.inr (.inr (.inl q))) => H[a]? = some (vp_cell (E.2.2.2.2.1 q.1) (q.2.length, .inr (.inr (.inr (.inr (fun j => xo E (q.2.getD j .null))))))) ∧ ∀ v ∈ q.2, xrf v = true
  | some (.inr (.inr (.inr q))) => ∃ r : vw_C, xcl[q.1]? = some r ∧ t_OB a (E.2.2.2.1.1 q.1) r.2.2 (E.2.2.2.1.2 q.1) H (vp_V (q.2.map (xv E)))
theorem xat.kept {E : xE} {c : xC} {a : Nat} {H H1 : Heap} (h : xat E c a H) (hq : H1[a]? = H[a]?) : xat E c a H1 := by
  match c, h with
  | none, _ => trivial
  | some (.inl q), h => exact hq.trans h
  | some (.inr (.inl q)), h => exact hq.trans h
  | some (.inr (.inr (.inl q))), h => exact ⟨hq.trans h.1, h.2⟩
  | some (.inr (.inr (.inr q))), h =>
    obtain ⟨r, h1, h2⟩ := h
    exact ⟨r, h1, h2.kept hq⟩
/-- the real heap holds the abstract one; what was there at the law's start stays -/
def xWd (E : xE) (G : xH) (H : Heap) : Prop :=
  H.size = xb E + G.length ∧ (∀ q : Nat, q < xb E → H[q]? = E.2.1.heap[q]?) ∧ ∀ (i : Nat) (c : xC), G[i]? = some c → xat E c (xb E + i) H
theorem xWd.set {E : xE} {G : xH} {H H1 : Heap} {i : Nat} {c' : xC} (w : xWd E G H) (hz : H1.size = H.size) (ho : ∀ q : Nat, q ≠ xb E + i → H1[q]? = H[q]?) (hn : xat E c' (xb E + i) H1) : xWd E (G.set i c') H1 := by
  obtain ⟨w1, w2, w3⟩ := w
  refine ⟨by rw [hz, w1, List.length_set], fun q hq => by rw [ho q (by omega)]; exact w2 q hq, fun j d hj => ?_⟩
  by_cases e : j = i
  · subst e
    have hl : j < (G.set j c').length := (List.getElem?_eq_some_iff.mp hj).1
    rw [List.length_set] at hl
    rw [List.getElem?_set_self hl] at hj
    cases hj
    exact hn
  · rw [List.getElem?_set_ne (fun q => e q.symm)] at hj
    exact (w3 j d hj).kept (ho _ (by omega))
theorem xWd.push {E : xE} {G : xH} {H H1 : Heap} {c : xC} (w : xWd E G H) (hz : H1.size = H.size + 1) (ho : ∀ q : Nat, q < H.size → H1[q]? = H[q]?) (hn : xat E c H.size H1) : xWd E (G ++ [c]) H1 := by
  obtain ⟨w1, w2, w3⟩ := w
  refine ⟨by rw [hz, w1, List.length_append]; simp only [List.length_cons, List.length_nil]; omega, fun q hq => by rw [ho q (by omega)]; exact w2 q hq, fun j d hj => ?_⟩
  by_cases e : j < G.length
  · rw [List.getElem?_append_left e] at hj
    exact (w3 j d hj).kept (ho _ (by omega))
  · have hl := (List.getElem?_eq_some_iff.mp hj).1
    simp only [List.length_append, List.length_cons, List.length_nil] at hl
    have e2 : j = G.length := by omega
    subst e2
    rw [List.getElem?_append_right (Nat.le_refl _), Nat.sub_self] at hj
    cases hj
    rw [← w1]
    exact hn
/-- cells of which nothing is known have come -/
theorem xWd.junk {E : xE} {G : xH} {H H1 : Heap} (w : xWd E G H) (hz : H.size ≤ H1.size) (ho : ∀ q : Nat, q < H.size → H1[q]? = H[q]?) : xWd E (G ++ List.replicate (H1.size - H.size) cX) H1 := by
  obtain ⟨w1, w2, w3⟩ := w
  refine ⟨by rw [List.length_append, List.length_replicate]; omega, fun q hq => by rw [ho q (by omega)]; exact w2 q hq, fun j d hj => ?_⟩
  by_cases e : j < G.length
  · rw [List.getElem?_append_left e] at hj
    exact (w3 j d hj).kept (ho _ (by omega))
  · rw [List.getElem?_append_right (by omega)] at hj
    obtain ⟨h1, h2⟩ := List.getElem?_eq_some_iff.mp hj
    rw [List.getElem_replicate] at h2
    subst h2
    trivial
theorem xWd.ge {E : xE} {G : xH} {H : Heap} (w : xWd E G H) {i : Nat} : xb E ≤ xb E + i := Nat.le_add_right _ _
/-! the environment's facts -/
def xOK (E : xE) : Prop := E.1.stackTraces = false ∧ (∀ w ∈ lw_tbl, w.before E.2.2.1 E.2.1 = true) ∧ (Jvm.Cond.and given_1 narrow_1).before E.2.2.1 E.2.1 = true ∧
  (∀ (k : Nat) (q : vw_C), xcl[k]? = some q → u_Kn E.2.1 q.1 q.2.1 q.2.2 (E.2.2.2.1.1 k) (E.2.2.2.1.2 k)) ∧
  (∀ (k : Nat) (ty : FieldType), xtys[k]? = some ty → ArrOfT E.2.1 (E.2.2.2.2.1 k) ty ∧ va_RA E.2.1 (E.2.2.2.2.1 k) ty ∧ ∀ t : FieldType, ty = .array t → ∃ (kA : Class) (comp : ClassId), E.2.1.vm.classes[E.2.2.2.2.1 k]? = some kA ∧ kA.kind = .array comp (.array t) ∧ E.2.1.vm.findClass (FieldType.array t).toString = some comp) ∧
  xStr E.2.1 E.2.2.2.2.2
theorem xOK.word {E : xE} (ok : xOK E) {U : State} (hW : E.2.1.WarmedH U.vm) {w : Cond} (hw : w ∈ lw_all) (a : Array Value) : w.before a U = true :=
  word_at hW (good_of_word (List.mem_filter.mp hw).2) (ok.2.1 w (lw_all_tbl hw))
theorem xOK.words {E : xE} (ok : xOK E) {U : State} (hW : E.2.1.WarmedH U.vm) (a : Array Value) : ∀ w ∈ lw_all, w.before a U = true := fun _ hw => ok.word hW hw a
theorem xOK.K {E : xE} (ok : xOK E) {U : State} (hW : E.2.1.WarmedH U.vm) : va_K E.2.2.2.1 xcl [] U := ⟨fun c q hq => u_Kn_moved hW.alike (ok.2.2.2.1 c q hq), fun k q hk => by cases hk⟩
theorem xOK.Ka {E : xE} (ok : xOK E) {U : State} (hW : E.2.1.WarmedH U.vm) {t : Nat} {ty : FieldType} (ht : xtys[t]? = some ty) : va_K E.2.2.2.1 xcl [(E.2.2.2.2.1 t, ty)] U := ⟨fun c q hq => u_Kn_moved hW.alike (ok.2.2.2.1 c q hq), fun k q hk => by
  have hz : k < 1 := (List.getElem?_eq_some_iff.mp hk).1
  rw [show k = 0 by omega] at hk
  cases hk
  exact ⟨arrOfT_moved hW.alike (ok.2.2.2.2.1 t ty ht).1, (ok.2.2.2.2.1 t ty ht).2.1.moved hW.alike⟩⟩
/-! locals by their slots -/
def xl (E : xE) (nL : Nat) (lv : List (Option Value)) (ls : Array Slot) : Prop := lv.length = nL ∧ ls.size = nL ∧ lv_wf ls ∧ ∀ (i : Nat) (v : Value), lv[i]? = some (some v) → ls[i]? = some (.val (xv E v))
def xll (E : xE) (lv : List (Option Value)) : List (Nat × Value) := (List.range lv.length).filterMap (fun i => (lv[i]?).bind (fun o => o.map (fun v => (i, xv E v))))
theorem xll_mem {E : xE} {lv : List (Option Value)} {i : Nat} {v : Value} (h : lv[i]? = some (some v)) : (i, xv E v) ∈ xll E lv := by
  have hi : i < lv.length := (List.getElem?_eq_some_iff.mp h).1
  exact List.mem_filterMap.mpr ⟨i, List.mem_range.mpr hi, by rw [h]; rfl⟩
theorem xll_of {E : xE} {lv : List (Option Value)} {q : Nat × Value} (h : q ∈ xll E lv) : ∃ v, lv[q.1]? = some (some v) ∧ q.2 = xv E v := by
  obtain ⟨i, -, hi⟩ := List.mem_filterMap.mp h
  cases h1 : lv[i]? with
  | none => rw [h1] at hi; cases hi
  | some o =>
    rw [h1] at hi
    cases o with
    | none => cases hi
    | some v =>
      cases hi
      exact ⟨v, h1, rfl⟩
theorem xl.has {E : xE} {nL : Nat} {lv : List (Option Value)} {ls : Array Slot} (h : xl E nL lv ls) : lv_has ls nL (xll E lv) := by
  refine ⟨h.2.1, h.2.2.1, fun q hq => ?_⟩
  obtain ⟨v, h1, h2⟩ := xll_of hq
  rw [h2]
  exact h.2.2.2 _ _ h1
def xpv : Option Value → Bool
  | some (.long _) => false
  | some (.double _) => false
  | _ => true
def xprev (lv : List (Option Value)) : Nat → Bool
  | 0 => true
  | j + 1 => xpv ((lv[j]?).getD none)
theorem xprev_cat {lv : List (Option Value)} {j : Nat} {u : Value} (hp : xprev lv (j + 1) = true) (h : lv[j]? = some (some u)) : u.category = 1 := by
  have hp' : xpv ((lv[j]?).getD none) = true := hp
  rw [h] at hp'
  cases u <;> first | rfl | (exact absurd hp' (by simp [xpv]))
theorem xpv_prev {lv : List (Option Value)} {j : Nat} {a : Option Value} (h : lv[j]? = some a) (hp : xpv a = true) : xprev lv (j + 1) = true := by
  show xpv ((lv[j]?).getD none) = true
  rw [h]
  exact hp
theorem xl_set1 {E : xE} {nL i : Nat} {lv : List (Option Value)} {ls' : Array Slot} {v : Value} (hlen : lv.length = nL) (hp : xprev lv i = true)
    (h : lv_has ls' nL ((i, xv E v) :: (xll E lv).filter (fun q => !(q.1 == i) && !(q.1 + 1 == i && q.2.category == 2)))) : xl E nL (lv.set i (some v)) ls' := by
  refine ⟨by rw [List.length_set]; exact hlen, h.1, h.2.1, fun j u hj => ?_⟩
  by_cases e : j = i
  · subst e
    have hl : j < (lv.set j (some v)).length := (List.getElem?_eq_some_iff.mp hj).1
    rw [List.length_set] at hl
    rw [List.getElem?_set_self hl] at hj
    cases hj
    exact h.2.2 (j, xv E v) List.mem_cons_self
  · rw [List.getElem?_set_ne (fun q => e q.symm)] at hj
    refine h.2.2 (j, xv E u) (List.mem_cons_of_mem _ (List.mem_filter.mpr ⟨xll_mem hj, ?_⟩))
    have h1 : (j == i) = false := by simpa using e
    have h2 : (j + 1 == i && (xv E u).category == 2) = false := by
      by_cases e2 : j + 1 = i
      · subst e2
        rw [xv_cat, xprev_cat hp hj]
        simp
      · have : (j + 1 == i) = false := by simpa using e2
        rw [this]
        rfl
    show (!(j == i) && !(j + 1 == i && (xv E u).category == 2)) = true
    rw [h1, h2]
    rfl
theorem xl_set2 {E : xE} {nL i : Nat} {lv : List (Option Value)} {ls' : Array Slot} {v : Value} (hlen : lv.length = nL) (hp : xprev lv i = true)
    (h : lv_has ls' nL ((i, xv E v) :: (xll E lv).filter (fun q => !(q.1 == i) && (!(q.1 == i + 1) && !(q.1 + 1 == i && q.2.category == 2))))) : xl E nL ((lv.set i (some v)).set (i + 1) none) ls' := by
  refine ⟨by rw [List.length_set, List.length_set]; exact hlen, h.1, h.2.1, fun j u hj => ?_⟩
  by_cases e0 : j = i + 1
  · subst e0
    have hl : i + 1 < ((lv.set i (some v)).set (i + 1) none).length := (List.getElem?_eq_some_iff.mp hj).1
    rw [List.length_set] at hl
    rw [List.getElem?_set_self hl] at hj
    cases hj
  rw [List.getElem?_set_ne (fun q => e0 q.symm)] at hj
  by_cases e : j = i
  · subst e
    have hl : j < (lv.set j (some v)).length := (List.getElem?_eq_some_iff.mp hj).1
    rw [List.length_set] at hl
    rw [List.getElem?_set_self hl] at hj
    cases hj
    exact h.2.2 (j, xv E v) List.mem_cons_self
  · rw [List.getElem?_set_ne (fun q => e q.symm)] at hj
    refine h.2.2 (j, xv E u) (List.mem_cons_of_mem _ (List.mem_filter.mpr ⟨xll_mem hj, ?_⟩))
    have h1 : (j == i) = false := by simpa using e
    have h3 : (j == i + 1) = false := by simpa using e0
    have h2 : (j + 1 == i && (xv E u).category == 2) = false := by
      by_cases e2 : j + 1 = i
      · subst e2
        rw [xv_cat, xprev_cat hp hj]
        simp
      · have : (j + 1 == i) = false := by simpa using e2
        rw [this]
        rfl
    show (!(j == i) && (!(j == i + 1) && !(j + 1 == i && (xv E u).category == 2))) = true
    rw [h1, h2, h3]
    rfl
/-! the judgement at an instruction -/
abbrev xI : Type := MethodName × ByteArray × Nat × Option FieldType × List (Nat × Nat × Nat × Nat)
abbrev xOut : Type := Option Value ⊕ (String × Option Value)
def xR (d mc ms : Nat) : Room := { frames := d + 40, cells := mc, slots := ms, locals := 11000 + 64 * d }
def xQ (E : xE) (Φ : xOut → xH → Prop) : Array Value → State → Outcome → State → Prop := fun _ _ o t => ∃ (v : Option Value) (G : xH), o = .returned (v.map (xv E)) ∧ Φ (.inl v) G ∧ xWd E G t.heap
def xX (E : xE) (Φ : xOut → xH → Prop) : String → Addr → State → State → Prop := fun En q _ t => ∃ (w : Option Value) (G : xH), (∀ v, w = some v → xv E v = .ref q) ∧ Φ (.inr (En, w)) G ∧ xWd E G t.heap
def xF (E : xE) (I : xI) (p : Program) (s : State) (m : MethodId) (meth : Method) (c : Code) : Prop :=
  p.tables.exec = Jvm.exec ∧ c.code = I.2.1 ∧ c.maxLocals = I.2.2.1 ∧ meth.sig.returnType = I.2.2.2.1 ∧ meth.locks = false ∧ s.vm.findClass I.1.cls = some m.cls ∧ E.2.1.WarmedH s.vm ∧ meth.name = I.1.name ∧ c.exceptionTable.toList = tableOf I.2.2.2.2
/-- what holds between the abstract and the real state inside a method -/
def xB (E : xE) (I : xI) (R : Room) (nc ns : Nat) (lv : List (Option Value)) (G : xH) (p : Program) (s : State) (m : MethodId) (meth : Method) (c : Code) (H : Heap) (locs : List Loc) (cells slots : Nat) (ls : Array Slot) : Prop :=
  xOK E ∧ xF E I p s m meth c ∧ xWd E G H ∧ s.heap.size ≤ H.size ∧ (∀ z ∈ locs, xb E ≤ z.base) ∧ cells + nc ≤ R.cells ∧ slots + ns ≤ R.slots ∧ xl E I.2.2.1 lv ls
def xJ (E : xE) (I : xI) (R : Room) (Φ : xOut → xH → Prop) (nc ns pc : Nat) (lv : List (Option Value)) (st : List Value) (G : xH) : Prop :=
  ∀ (p : Program) (e : Env) (s : State) (m : MethodId) (args : Array Value) (below : List Frame) (meth : Method) (c : Code) (H : Heap) (locs : List Loc) (cells slots : Nat) (ls : Array Slot),
    xB E I R nc ns lv G p s m meth c H locs cells slots ls →
    W p E.1 e R s m args below meth c H locs cells slots (vx_MQ below (xQ E Φ) (xX E Φ) args s R.cells R.slots (fun q => xb E ≤ q)) (F0 m pc ls (st.map (xv E)))
/-- an exception of class En is on its way at pc; w: the object, if it is known -/
def xJT (E : xE) (I : xI) (R : Room) (Φ : xOut → xH → Prop) (nc ns pc : Nat) (lv : List (Option Value)) (G : xH) (En : String) (w : Option Value) : Prop :=
  ∀ (p : Program) (e : Env) (s : State) (m : MethodId) (args : Array Value) (below : List Frame) (meth : Method) (c : Code) (H : Heap) (locs : List Loc) (cells slots : Nat) (ls : Array Slot) (rest : List Value) (q : Addr) (ce : Cell),
    xB E I R nc ns lv G p s m meth c H locs cells slots ls → (∀ v, w = some v → xv E v = .ref q) → H[q]? = some ce → ce.vm = .none → s.vm.findClass En = some ce.cls →
    vx_W p E.1 e R s m args below meth c H locs cells slots (vx_MQ below (xQ E Φ) (xX E Φ) args s R.cells R.slots (fun q => xb E ≤ q)) (F0 m pc ls rest) q
section XJ
variable {E : xE} {I : xI} {R : Room} {Φ : xOut → xH → Prop} {nc ns pc : Nat} {lv : List (Option Value)} {st : List Value} {G : xH}
theorem xj_wk {nc' ns' : Nat} (h1 : nc' ≤ nc) (h2 : ns' ≤ ns) (k : xJ E I R Φ nc' ns' pc lv st G) : xJ E I R Φ nc ns pc lv st G := by
  intro p e s m args below meth c H locs cells slots ls B
  obtain ⟨b1, b2, b3, b4, b5, b6, b7, b8⟩ := B
  exact k p e s m args below meth c H locs cells slots ls ⟨b1, b2, b3, b4, b5, by omega, by omega, b8⟩
theorem xj_eq {lv' : List (Option Value)} {st' : List Value} {G' : xH} (h1 : lv = lv') (h2 : st = st') (h3 : G = G') (k : xJ E I R Φ nc ns pc lv' st' G') : xJ E I R Φ nc ns pc lv st G := by
  subst h1; subst h2; subst h3; exact k
theorem xj_iadd {x y : Int32} (hd : decode I.2.1 pc = .ok (.iadd, 1)) (k : xJ E I R Φ nc ns (pc + 1) lv (.int (x + y) :: st) G) : xJ E I R Φ nc ns pc lv (.int y :: .int x :: st) G := by
  intro p e s m args below meth c H locs cells slots ls B
  exact lv_iadd B.2.1.1 B.2.1.2.1 hd (k p e s m args below meth c H locs cells slots ls B)
theorem xj_isub {x y : Int32} (hd : decode I.2.1 pc = .ok (.isub, 1)) (k : xJ E I R Φ nc ns (pc + 1) lv (.int (x - y) :: st) G) : xJ E I R Φ nc ns pc lv (.int y :: .int x :: st) G := by
  intro p e s m args below meth c H locs cells slots ls B
  exact lv_isub B.2.1.1 B.2.1.2.1 hd (k p e s m args below meth c H locs cells slots ls B)
theorem xj_imul {x y : Int32} (hd : decode I.2.1 pc = .ok (.imul, 1)) (k : xJ E I R Φ nc ns (pc + 1) lv (.int (x * y) :: st) G) : xJ E I R Φ nc ns pc lv (.int y :: .int x :: st) G := by
  intro p e s m args below meth c H locs cells slots ls B
  exact lv_imul B.2.1.1 B.2.1.2.1 hd (k p e s m args below meth c H locs cells slots ls B)
theorem xj_iand {x y : Int32} (hd : decode I.2.1 pc = .ok (.iand, 1)) (k : xJ E I R Φ nc ns (pc + 1) lv (.int (x &&& y) :: st) G) : xJ E I R Φ nc ns pc lv (.int y :: .int x :: st) G := by
  intro p e s m args below meth c H locs cells slots ls B
  exact lv_iand B.2.1.1 B.2.1.2.1 hd (k p e s m args below meth c H locs cells slots ls B)
theorem xj_ior {x y : Int32} (hd : decode I.2.1 pc = .ok (.ior, 1)) (k : xJ E I R Φ nc ns (pc + 1) lv (.int (x ||| y) :: st) G) : xJ E I R Φ nc ns pc lv (.int y :: .int x :: st) G := by
  intro p e s m args below meth c H locs cells slots ls B
  exact lv_ior B.2.1.1 B.2.1.2.1 hd (k p e s m args below meth c H locs cells slots ls B)
theorem xj_ixor {x y : Int32} (hd : decode I.2.1 pc = .ok (.ixor, 1)) (k : xJ E I R Φ nc ns (pc + 1) lv (.int (x ^^^ y) :: st) G) : xJ E I R Φ nc ns pc lv (.int y :: .int x :: st) G := by
  intro p e s m args below meth c H locs cells slots ls B
  exact lv_ixor B.2.1.1 B.2.1.2.1 hd (k p e s m args below meth c H locs cells slots ls B)
theorem xj_ladd {x y : Int64} (hd : decode I.2.1 pc = .ok (.ladd, 1)) (k : xJ E I R Φ nc ns (pc + 1) lv (.long (x + y) :: st) G) : xJ E I R Φ nc ns pc lv (.long y :: .long x :: st) G := by
  intro p e s m args below meth c H locs cells slots ls B
  exact lv_ladd B.2.1.1 B.2.1.2.1 hd (k p e s m args below meth c H locs cells slots ls B)
theorem xj_lsub {x y : Int64} (hd : decode I.2.1 pc = .ok (.lsub, 1)) (k : xJ E I R Φ nc ns (pc + 1) lv (.long (x - y) :: st) G) : xJ E I R Φ nc ns pc lv (.long y :: .long x :: st) G := by
  intro p e s m args below meth c H locs cells slots ls B
  exact lv_lsub B.2.1.1 B.2.1.2.1 hd (k p e s m args below meth c H locs cells slots ls B)
theorem xj_land {x y : Int64} (hd : decode I.2.1 pc = .ok (.land, 1)) (k : xJ E I R Φ nc ns (pc + 1) lv (.long (x &&& y) :: st) G) : xJ E I R Φ nc ns pc lv (.long y :: .long x :: st) G := by
  intro p e s m args below meth c H locs cells slots ls B
  exact lv_land B.2.1.1 B.2.1.2.1 hd (k p e s m args below meth c H locs cells slots ls B)
theorem xj_lor {x y : Int64} (hd : decode I.2.1 pc = .ok (.lor, 1)) (k : xJ E I R Φ nc ns (pc + 1) lv (.long (x ||| y) :: st) G) : xJ E I R Φ nc ns pc lv (.long y :: .long x :: st) G := by
  intro p e s m args below meth c H locs cells slots ls B
  exact lv_lor B.2.1.1 B.2.1.2.1 hd (k p e s m args below meth c H locs cells slots ls B)
theorem xj_lxor {x y : Int64} (hd : decode I.2.1 pc = .ok (.lxor, 1)) (k : xJ E I R Φ nc ns (pc + 1) lv (.long (x ^^^ y) :: st) G) : xJ E I R Φ nc ns pc lv (.long y :: .long x :: st) G := by
  intro p e s m args below meth c H locs cells slots ls B
  exact lv_lxor B.2.1.1 B.2.1.2.1 hd (k p e s m args below meth c H locs cells slots ls B)
theorem xj_idiv {x y : Int32} (hd : decode I.2.1 pc = .ok (.idiv, 1)) (hne : ¬ y = 0) (k : xJ E I R Φ nc ns (pc + 1) lv (.int (x / y) :: st) G) : xJ E I R Φ nc ns pc lv (.int y :: .int x :: st) G := by
  intro p e s m args below meth c H locs cells slots ls B
  exact lv_idiv B.2.1.1 B.2.1.2.1 hd hne (k p e s m args below meth c H locs cells slots ls B)
theorem xj_irem {x y : Int32} (hd : decode I.2.1 pc = .ok (.irem, 1)) (hne : ¬ y = 0) (k : xJ E I R Φ nc ns (pc + 1) lv (.int (x - x / y * y) :: st) G) : xJ E I R Φ nc ns pc lv (.int y :: .int x :: st) G := by
  intro p e s m args below meth c H locs cells slots ls B
  exact lv_irem B.2.1.1 B.2.1.2.1 hd hne (k p e s m args below meth c H locs cells slots ls B)
theorem xj_ineg {x : Int32} (hd : decode I.2.1 pc = .ok (.ineg, 1)) (k : xJ E I R Φ nc ns (pc + 1) lv (.int (-x) :: st) G) : xJ E I R Φ nc ns pc lv (.int x :: st) G := by
  intro p e s m args below meth c H locs cells slots ls B
  exact lv_ineg B.2.1.1 B.2.1.2.1 hd (k p e s m args below meth c H locs cells slots ls B)
theorem xj_ishl {x y : Int32} (hd : decode I.2.1 pc = .ok (.ishl, 1)) (k : xJ E I R Φ nc ns (pc + 1) lv (.int (x <<< (y &&& 31)) :: st) G) : xJ E I R Φ nc ns pc lv (.int y :: .int x :: st) G := by
  intro p e s m args below meth c H locs cells slots ls B
  exact lv_ishl B.2.1.1 B.2.1.2.1 hd (k p e s m args below meth c H locs cells slots ls B)
theorem xj_ishr {x y : Int32} (hd : decode I.2.1 pc = .ok (.ishr, 1)) (k : xJ E I R Φ nc ns (pc + 1) lv (.int (x >>> (y &&& 31)) :: st) G) : xJ E I R Φ nc ns pc lv (.int y :: .int x :: st) G := by
  intro p e s m args below meth c H locs cells slots ls B
  exact lv_ishr B.2.1.1 B.2.1.2.1 hd (k p e s m args below meth c H locs cells slots ls B)
theorem xj_iushr {x y : Int32} (hd : decode I.2.1 pc = .ok (.iushr, 1)) (k : xJ E I R Φ nc ns (pc + 1) lv (.int ((x.toUInt32 >>> (y.toUInt32 &&& Int32.toUInt32 31)).toInt32) :: st) G) : xJ E I R Φ nc ns pc lv (.int y :: .int x :: st) G := by
  intro p e s m args below meth c H locs cells slots ls B
  exact lv_iushr B.2.1.1 B.2.1.2.1 hd rfl (k p e s m args below meth c H locs cells slots ls B)
theorem xj_lushr {x : Int64} {y : Int32} (hd : decode I.2.1 pc = .ok (.lushr, 1)) (k : xJ E I R Φ nc ns (pc + 1) lv (.long ((x.toUInt64 >>> (y.toInt64.toUInt64 &&& Int64.toUInt64 63)).toInt64) :: st) G) : xJ E I R Φ nc ns pc lv (.int y :: .long x :: st) G := by
  intro p e s m args below meth c H locs cells slots ls B
  exact lv_lushr B.2.1.1 B.2.1.2.1 hd rfl (k p e s m args below meth c H locs cells slots ls B)
theorem xj_lshl {x : Int64} {y : Int32} (hd : decode I.2.1 pc = .ok (.lshl, 1)) (k : xJ E I R Φ nc ns (pc + 1) lv (.long (x <<< (y.toInt64 &&& 63)) :: st) G) : xJ E I R Φ nc ns pc lv (.int y :: .long x :: st) G := by
  intro p e s m args below meth c H locs cells slots ls B
  exact lv_lshl B.2.1.1 B.2.1.2.1 hd rfl (k p e s m args below meth c H locs cells slots ls B)
theorem xj_lshr {x : Int64} {y : Int32} (hd : decode I.2.1 pc = .ok (.lshr, 1)) (k : xJ E I R Φ nc ns (pc + 1) lv (.long (x >>> (y.toInt64 &&& 63)) :: st) G) : xJ E I R Φ nc ns pc lv (.int y :: .long x :: st) G := by
  intro p e s m args below meth c H locs cells slots ls B
  exact lv_lshr B.2.1.1 B.2.1.2.1 hd rfl (k p e s m args below meth c H locs cells slots ls B)
theorem xj_i2l {x : Int32} (hd : decode I.2.1 pc = .ok (.i2l, 1)) (k : xJ E I R Φ nc ns (pc + 1) lv (.long x.toInt64 :: st) G) : xJ E I R Φ nc ns pc lv (.int x :: st) G := by
  intro p e s m args below meth c H locs cells slots ls B
  exact lv_i2l B.2.1.1 B.2.1.2.1 hd rfl (k p e s m args below meth c H locs cells slots ls B)
theorem xj_l2i {x : Int64} (hd : decode I.2.1 pc = .ok (.l2i, 1)) (k : xJ E I R Φ nc ns (pc + 1) lv (.int x.toInt32 :: st) G) : xJ E I R Φ nc ns pc lv (.long x :: st) G := by
  intro p e s m args below meth c H locs cells slots ls B
  exact lv_l2i B.2.1.1 B.2.1.2.1 hd rfl (k p e s m args below meth c H locs cells slots ls B)
theorem xj_i2b {x : Int32} (hd : decode I.2.1 pc = .ok (.i2b, 1)) (k : xJ E I R Φ nc ns (pc + 1) lv (.int x.toInt8.toInt32 :: st) G) : xJ E I R Φ nc ns pc lv (.int x :: st) G := by
  intro p e s m args below meth c H locs cells slots ls B
  exact lv_i2b B.2.1.1 B.2.1.2.1 hd rfl (k p e s m args below meth c H locs cells slots ls B)
theorem xj_i2s {x : Int32} (hd : decode I.2.1 pc = .ok (.i2s, 1)) (k : xJ E I R Φ nc ns (pc + 1) lv (.int x.toInt16.toInt32 :: st) G) : xJ E I R Φ nc ns pc lv (.int x :: st) G := by
  intro p e s m args below meth c H locs cells slots ls B
  exact lv_i2s B.2.1.1 B.2.1.2.1 hd rfl (k p e s m args below meth c H locs cells slots ls B)
theorem xj_lcmp {x y : Int64} (hd : decode I.2.1 pc = .ok (.lcmp, 1)) (k : xJ E I R Φ nc ns (pc + 1) lv (.int (lg_cmp x y) :: st) G) : xJ E I R Φ nc ns pc lv (.long y :: .long x :: st) G := by
  intro p e s m args below meth c H locs cells slots ls B
  exact W.lcmp B.2.1.1 B.2.1.2.1 hd (k p e s m args below meth c H locs cells slots ls B)
theorem xj_icm1  (hd : decode I.2.1 pc = .ok (.iconst (-1), 1)) (k : xJ E I R Φ nc ns (pc + 1) lv (.int (-1) :: st) G) : xJ E I R Φ nc ns pc lv (st) G := by
  intro p e s m args below meth c H locs cells slots ls B
  exact lv_iconst B.2.1.1 B.2.1.2.1 hd (by decide) (k p e s m args below meth c H locs cells slots ls B)
theorem xj_ic0  (hd : decode I.2.1 pc = .ok (.iconst 0, 1)) (k : xJ E I R Φ nc ns (pc + 1) lv (.int 0 :: st) G) : xJ E I R Φ nc ns pc lv (st) G := by
  intro p e s m args below meth c H locs cells slots ls B
  exact lv_iconst B.2.1.1 B.2.1.2.1 hd (by decide) (k p e s m args below meth c H locs cells slots ls B)
theorem xj_ic1  (hd : decode I.2.1 pc = .ok (.iconst 1, 1)) (k : xJ E I R Φ nc ns (pc + 1) lv (.int 1 :: st) G) : xJ E I R Φ nc ns pc lv (st) G := by
  intro p e s m args below meth c H locs cells slots ls B
  exact lv_iconst B.2.1.1 B.2.1.2.1 hd (by decide) (k p e s m args below meth c H locs cells slots ls B)
theorem xj_ic2  (hd : decode I.2.1 pc = .ok (.iconst 2, 1)) (k : xJ E I R Φ nc ns (pc + 1) lv (.int 2 :: st) G) : xJ E I R Φ nc ns pc lv (st) G := by
  intro p e s m args below meth c H locs cells slots ls B
  exact lv_iconst B.2.1.1 B.2.1.2.1 hd (by decide) (k p e s m args below meth c H locs cells slots ls B)
theorem xj_ic3  (hd : decode I.2.1 pc = .ok (.iconst 3, 1)) (k : xJ E I R Φ nc ns (pc + 1) lv (.int 3 :: st) G) : xJ E I R Φ nc ns pc lv (st) G := by
  intro p e s m args below meth c H locs cells slots ls B
  exact lv_iconst B.2.1.1 B.2.1.2.1 hd (by decide) (k p e s m args below meth c H locs cells slots ls B)
theorem xj_ic4  (hd : decode I.2.1 pc = .ok (.iconst 4, 1)) (k : xJ E I R Φ nc ns (pc + 1) lv (.int 4 :: st) G) : xJ E I R Φ nc ns pc lv (st) G := by
  intro p e s m args below meth c H locs cells slots ls B
  exact lv_iconst B.2.1.1 B.2.1.2.1 hd (by decide) (k p e s m args below meth c H locs cells slots ls B)
theorem xj_ic5  (hd : decode I.2.1 pc = .ok (.iconst 5, 1)) (k : xJ E I R Φ nc ns (pc + 1) lv (.int 5 :: st) G) : xJ E I R Φ nc ns pc lv (st) G := by
  intro p e s m args below meth c H locs cells slots ls B
  exact lv_iconst B.2.1.1 B.2.1.2.1 hd (by decide) (k p e s m args below meth c H locs cells slots ls B)
theorem xj_bipush {n : Int} {v : Int32} (hd : decode I.2.1 pc = .ok (.bipush n, 2)) (hv : (Int8.ofInt n).toInt32 = v) (k : xJ E I R Φ nc ns (pc + 2) lv (.int v :: st) G) : xJ E I R Φ nc ns pc lv (st) G := by
  intro p e s m args below meth c H locs cells slots ls B
  exact lv_bipush B.2.1.1 B.2.1.2.1 hd hv (k p e s m args below meth c H locs cells slots ls B)
theorem xj_sipush {n : Int} {v : Int32} (hd : decode I.2.1 pc = .ok (.sipush n, 3)) (hv : (Int16.ofInt n).toInt32 = v) (k : xJ E I R Φ nc ns (pc + 3) lv (.int v :: st) G) : xJ E I R Φ nc ns pc lv (st) G := by
  intro p e s m args below meth c H locs cells slots ls B
  exact lv_sipush B.2.1.1 B.2.1.2.1 hd hv (k p e s m args below meth c H locs cells slots ls B)
theorem xj_lc0  (hd : decode I.2.1 pc = .ok (.lconst 0, 1)) (k : xJ E I R Φ nc ns (pc + 1) lv (.long 0 :: st) G) : xJ E I R Φ nc ns pc lv (st) G := by
  intro p e s m args below meth c H locs cells slots ls B
  exact lv_lconst B.2.1.1 B.2.1.2.1 hd (by decide) (k p e s m args below meth c H locs cells slots ls B)
theorem xj_lc1  (hd : decode I.2.1 pc = .ok (.lconst 1, 1)) (k : xJ E I R Φ nc ns (pc + 1) lv (.long 1 :: st) G) : xJ E I R Φ nc ns pc lv (st) G := by
  intro p e s m args below meth c H locs cells slots ls B
  exact lv_lconst B.2.1.1 B.2.1.2.1 hd (by decide) (k p e s m args below meth c H locs cells slots ls B)
theorem xj_null  (hd : decode I.2.1 pc = .ok (.aconst_null, 1)) (k : xJ E I R Φ nc ns (pc + 1) lv (.null :: st) G) : xJ E I R Φ nc ns pc lv (st) G := by
  intro p e s m args below meth c H locs cells slots ls B
  exact lv_null B.2.1.1 B.2.1.2.1 hd (k p e s m args below meth c H locs cells slots ls B)
theorem xj_dup {v : Value} (hd : decode I.2.1 pc = .ok (.dup, 1)) (hc : v.category = 1) (k : xJ E I R Φ nc ns (pc + 1) lv (v :: v :: st) G) : xJ E I R Φ nc ns pc lv (v :: st) G := by
  intro p e s m args below meth c H locs cells slots ls B
  exact lv_dup B.2.1.1 B.2.1.2.1 hd ((xv_cat E v).trans hc) (k p e s m args below meth c H locs cells slots ls B)
theorem xj_pop {v : Value} (hd : decode I.2.1 pc = .ok (.pop, 1)) (hc : v.category = 1) (k : xJ E I R Φ nc ns (pc + 1) lv (st) G) : xJ E I R Φ nc ns pc lv (v :: st) G := by
  intro p e s m args below meth c H locs cells slots ls B
  exact lv_pop B.2.1.1 B.2.1.2.1 hd ((xv_cat E v).trans hc) (k p e s m args below meth c H locs cells slots ls B)
theorem xj_dup2 {v u : Value} (hd : decode I.2.1 pc = .ok (.dup2, 1)) (hc : v.category = 1) (hc2 : u.category = 1) (k : xJ E I R Φ nc ns (pc + 1) lv (v :: u :: v :: u :: st) G) : xJ E I R Φ nc ns pc lv (v :: u :: st) G := by
  intro p e s m args below meth c H locs cells slots ls B
  exact lv_dup2_11 B.2.1.1 B.2.1.2.1 hd ((xv_cat E v).trans hc) ((xv_cat E u).trans hc2) (k p e s m args below meth c H locs cells slots ls B)
theorem xj_dup_x1 {v u : Value} (hd : decode I.2.1 pc = .ok (.dup_x1, 1)) (hc : v.category = 1) (hc2 : u.category = 1) (k : xJ E I R Φ nc ns (pc + 1) lv (v :: u :: v :: st) G) : xJ E I R Φ nc ns pc lv (v :: u :: st) G := by
  intro p e s m args below meth c H locs cells slots ls B
  exact lv_dup_x1 B.2.1.1 B.2.1.2.1 hd ((xv_cat E v).trans hc) ((xv_cat E u).trans hc2) (k p e s m args below meth c H locs cells slots ls B)
theorem xj_ldc {index : Nat} {v : Int32} (hd : decode I.2.1 pc = .ok (.ldc index, 2)) (hw : Cond.constant I.1.cls index v ∈ lw_all) (k : xJ E I R Φ nc ns (pc + 2) lv (.int v :: st) G) : xJ E I R Φ nc ns pc lv st G := by
  intro p e s m args below meth c H locs cells slots ls B
  exact lv_ldc B.2.1.1 B.2.1.2.1 B.2.1.2.2.2.2.2.1 (B.1.word B.2.1.2.2.2.2.2.2.1 hw args) hd (k p e s m args below meth c H locs cells slots ls B)
theorem xj_ldcw {index : Nat} {v : Int32} (hd : decode I.2.1 pc = .ok (.ldc_w index, 3)) (hw : Cond.constant I.1.cls index v ∈ lw_all) (k : xJ E I R Φ nc ns (pc + 3) lv (.int v :: st) G) : xJ E I R Φ nc ns pc lv st G := by
  intro p e s m args below meth c H locs cells slots ls B
  exact lv_ldcw B.2.1.1 B.2.1.2.1 B.2.1.2.2.2.2.2.1 (B.1.word B.2.1.2.2.2.2.2.2.1 hw args) hd (k p e s m args below meth c H locs cells slots ls B)
theorem xj_ldc2 {index : Nat} {v : Int64} (hd : decode I.2.1 pc = .ok (.ldc2_w index, 3)) (hw : Cond.constantLong I.1.cls index v ∈ lw_all) (k : xJ E I R Φ nc ns (pc + 3) lv (.long v :: st) G) : xJ E I R Φ nc ns pc lv st G := by
  intro p e s m args below meth c H locs cells slots ls B
  exact lv_ldc2 B.2.1.1 B.2.1.2.1 B.2.1.2.2.2.2.2.1 (B.1.word B.2.1.2.2.2.2.2.2.1 hw args) hd (k p e s m args below meth c H locs cells slots ls B)
theorem xj_if_eq {x : Int32} {off : Int} {tgt : Nat} (hd : decode I.2.1 pc = .ok (.ifCond .eq off, 3)) (ht : (pc : Int) + off = (tgt : Int)) (kt : x = 0 → xJ E I R Φ nc ns tgt lv st G) (kf : ¬ x = 0 → xJ E I R Φ nc ns (pc + 3) lv st G) : xJ E I R Φ nc ns pc lv (.int x :: st) G := by
  intro p e s m args below meth c H locs cells slots ls B
  exact lv_if_eq B.2.1.1 B.2.1.2.1 hd ht (fun q => kt q p e s m args below meth c H locs cells slots ls B) (fun q => kf q p e s m args below meth c H locs cells slots ls B)
theorem xj_icmp_eq {x y : Int32} {off : Int} {tgt : Nat} (hd : decode I.2.1 pc = .ok (.if_icmp .eq off, 3)) (ht : (pc : Int) + off = (tgt : Int)) (kt : x = y → xJ E I R Φ nc ns tgt lv st G) (kf : ¬ x = y → xJ E I R Φ nc ns (pc + 3) lv st G) : xJ E I R Φ nc ns pc lv (.int y :: .int x :: st) G := by
  intro p e s m args below meth c H locs cells slots ls B
  exact lv_icmp_eq B.2.1.1 B.2.1.2.1 hd ht (fun q => kt q p e s m args below meth c H locs cells slots ls B) (fun q => kf q p e s m args below meth c H locs cells slots ls B)
theorem xj_if_ne {x : Int32} {off : Int} {tgt : Nat} (hd : decode I.2.1 pc = .ok (.ifCond .ne off, 3)) (ht : (pc : Int) + off = (tgt : Int)) (kt : ¬ x = 0 → xJ E I R Φ nc ns tgt lv st G) (kf : x = 0 → xJ E I R Φ nc ns (pc + 3) lv st G) : xJ E I R Φ nc ns pc lv (.int x :: st) G := by
  intro p e s m args below meth c H locs cells slots ls B
  exact lv_if_ne B.2.1.1 B.2.1.2.1 hd ht (fun q => kt q p e s m args below meth c H locs cells slots ls B) (fun q => kf q p e s m args below meth c H locs cells slots ls B)
theorem xj_icmp_ne {x y : Int32} {off : Int} {tgt : Nat} (hd : decode I.2.1 pc = .ok (.if_icmp .ne off, 3)) (ht : (pc : Int) + off = (tgt : Int)) (kt : ¬ x = y → xJ E I R Φ nc ns tgt lv st G) (kf : x = y → xJ E I R Φ nc ns (pc + 3) lv st G) : xJ E I R Φ nc ns pc lv (.int y :: .int x :: st) G := by
  intro p e s m args below meth c H locs cells slots ls B
  exact lv_icmp_ne B.2.1.1 B.2.1.2.1 hd ht (fun q => kt q p e s m args below meth c H locs cells slots ls B) (fun q => kf q p e s m args below meth c H locs cells slots ls B)
theorem xj_if_lt {x : Int32} {off : Int} {tgt : Nat} (hd : decode I.2.1 pc = .ok (.ifCond .lt off, 3)) (ht : (pc : Int) + off = (tgt : Int)) (kt : x < 0 → xJ E I R Φ nc ns tgt lv st G) (kf : ¬ x < 0 → xJ E I R Φ nc ns (pc + 3) lv st G) : xJ E I R Φ nc ns pc lv (.int x :: st) G := by
  intro p e s m args below meth c H locs cells slots ls B
  exact lv_if_lt B.2.1.1 B.2.1.2.1 hd ht (fun q => kt q p e s m args below meth c H locs cells slots ls B) (fun q => kf q p e s m args below meth c H locs cells slots ls B)
theorem xj_icmp_lt {x y : Int32} {off : Int} {tgt : Nat} (hd : decode I.2.1 pc = .ok (.if_icmp .lt off, 3)) (ht : (pc : Int) + off = (tgt : Int)) (kt : x < y → xJ E I R Φ nc ns tgt lv st G) (kf : ¬ x < y → xJ E I R Φ nc ns (pc + 3) lv st G) : xJ E I R Φ nc ns pc lv (.int y :: .int x :: st) G := by
  intro p e s m args below meth c H locs cells slots ls B
  exact lv_icmp_lt B.2.1.1 B.2.1.2.1 hd ht (fun q => kt q p e s m args below meth c H locs cells slots ls B) (fun q => kf q p e s m args below meth c H locs cells slots ls B)
theorem xj_if_ge {x : Int32} {off : Int} {tgt : Nat} (hd : decode I.2.1 pc = .ok (.ifCond .ge off, 3)) (ht : (pc : Int) + off = (tgt : Int)) (kt : 0 ≤ x → xJ E I R Φ nc ns tgt lv st G) (kf : ¬ 0 ≤ x → xJ E I R Φ nc ns (pc + 3) lv st G) : xJ E I R Φ nc ns pc lv (.int x :: st) G := by
  intro p e s m args below meth c H locs cells slots ls B
  exact lv_if_ge B.2.1.1 B.2.1.2.1 hd ht (fun q => kt q p e s m args below meth c H locs cells slots ls B) (fun q => kf q p e s m args below meth c H locs cells slots ls B)
theorem xj_icmp_ge {x y : Int32} {off : Int} {tgt : Nat} (hd : decode I.2.1 pc = .ok (.if_icmp .ge off, 3)) (ht : (pc : Int) + off = (tgt : Int)) (kt : y ≤ x → xJ E I R Φ nc ns tgt lv st G) (kf : ¬ y ≤ x → xJ E I R Φ nc ns (pc + 3) lv st G) : xJ E I R Φ nc ns pc lv (.int y :: .int x :: st) G := by
  intro p e s m args below meth c H locs cells slots ls B
  exact lv_icmp_ge B.2.1.1 B.2.1.2.1 hd ht (fun q => kt q p e s m args below meth c H locs cells slots ls B) (fun q => kf q p e s m args below meth c H locs cells slots ls B)
theorem xj_if_gt {x : Int32} {off : Int} {tgt : Nat} (hd : decode I.2.1 pc = .ok (.ifCond .gt off, 3)) (ht : (pc : Int) + off = (tgt : Int)) (kt : 0 < x → xJ E I R Φ nc ns tgt lv st G) (kf : ¬ 0 < x → xJ E I R Φ nc ns (pc + 3) lv st G) : xJ E I R Φ nc ns pc lv (.int x :: st) G := by
  intro p e s m args below meth c H locs cells slots ls B
  exact lv_if_gt B.2.1.1 B.2.1.2.1 hd ht (fun q => kt q p e s m args below meth c H locs cells slots ls B) (fun q => kf q p e s m args below meth c H locs cells slots ls B)
theorem xj_icmp_gt {x y : Int32} {off : Int} {tgt : Nat} (hd : decode I.2.1 pc = .ok (.if_icmp .gt off, 3)) (ht : (pc : Int) + off = (tgt : Int)) (kt : y < x → xJ E I R Φ nc ns tgt lv st G) (kf : ¬ y < x → xJ E I R Φ nc ns (pc + 3) lv st G) : xJ E I R Φ nc ns pc lv (.int y :: .int x :: st) G := by
  intro p e s m args below meth c H locs cells slots ls B
  exact lv_icmp_gt B.2.1.1 B.2.1.2.1 hd ht (fun q => kt q p e s m args below meth c H locs cells slots ls B) (fun q => kf q p e s m args below meth c H locs cells slots ls B)
theorem xj_if_le {x : Int32} {off : Int} {tgt : Nat} (hd : decode I.2.1 pc = .ok (.ifCond .le off, 3)) (ht : (pc : Int) + off = (tgt : Int)) (kt : x ≤ 0 → xJ E I R Φ nc ns tgt lv st G) (kf : ¬ x ≤ 0 → xJ E I R Φ nc ns (pc + 3) lv st G) : xJ E I R Φ nc ns pc lv (.int x :: st) G := by
  intro p e s m args below meth c H locs cells slots ls B
  exact lv_if_le B.2.1.1 B.2.1.2.1 hd ht (fun q => kt q p e s m args below meth c H locs cells slots ls B) (fun q => kf q p e s m args below meth c H locs cells slots ls B)
theorem xj_icmp_le {x y : Int32} {off : Int} {tgt : Nat} (hd : decode I.2.1 pc = .ok (.if_icmp .le off, 3)) (ht : (pc : Int) + off = (tgt : Int)) (kt : x ≤ y → xJ E I R Φ nc ns tgt lv st G) (kf : ¬ x ≤ y → xJ E I R Φ nc ns (pc + 3) lv st G) : xJ E I R Φ nc ns pc lv (.int y :: .int x :: st) G := by
  intro p e s m args below meth c H locs cells slots ls B
  exact lv_icmp_le B.2.1.1 B.2.1.2.1 hd ht (fun q => kt q p e s m args below meth c H locs cells slots ls B) (fun q => kf q p e s m args below meth c H locs cells slots ls B)
theorem xj_goto {off : Int} {tgt : Nat} (hd : decode I.2.1 pc = .ok (.goto off, 3)) (ht : (pc : Int) + off = (tgt : Int)) (k : xJ E I R Φ nc ns tgt lv st G) : xJ E I R Φ nc ns pc lv st G := by
  intro p e s m args below meth c H locs cells slots ls B
  exact lv_goto B.2.1.1 B.2.1.2.1 hd ht (k p e s m args below meth c H locs cells slots ls B)
theorem xj_ifnull_r {a : Nat} {off : Int} (hd : decode I.2.1 pc = .ok (.ifnull off, 3)) (k : xJ E I R Φ nc ns (pc + 3) lv st G) : xJ E I R Φ nc ns pc lv (.ref a :: st) G := by
  intro p e s m args below meth c H locs cells slots ls B
  exact lv_ifnull B.2.1.1 B.2.1.2.1 hd (k p e s m args below meth c H locs cells slots ls B)
theorem xj_ifnonnull_r {a : Nat} {off : Int} {tgt : Nat} (hd : decode I.2.1 pc = .ok (.ifnonnull off, 3)) (ht : (pc : Int) + off = (tgt : Int)) (k : xJ E I R Φ nc ns tgt lv st G) : xJ E I R Φ nc ns pc lv (.ref a :: st) G := by
  intro p e s m args below meth c H locs cells slots ls B
  exact lv_ifnonnull B.2.1.1 B.2.1.2.1 hd ht (k p e s m args below meth c H locs cells slots ls B)
theorem xj_ifnull_n {off : Int} {tgt : Nat} (hd : decode I.2.1 pc = .ok (.ifnull off, 3)) (ht : (pc : Int) + off = (tgt : Int)) (k : xJ E I R Φ nc ns tgt lv st G) : xJ E I R Φ nc ns pc lv (.null :: st) G := by
  intro p e s m args below meth c H locs cells slots ls B
  exact lv_ifnullN B.2.1.1 B.2.1.2.1 hd ht (k p e s m args below meth c H locs cells slots ls B)
theorem xj_ifnonnull_n {off : Int} (hd : decode I.2.1 pc = .ok (.ifnonnull off, 3)) (k : xJ E I R Φ nc ns (pc + 3) lv st G) : xJ E I R Φ nc ns pc lv (.null :: st) G := by
  intro p e s m args below meth c H locs cells slots ls B
  exact lv_ifnonnullN B.2.1.1 B.2.1.2.1 hd (k p e s m args below meth c H locs cells slots ls B)
theorem xj_tabOut {dflt lo hi : Int} {offs : Array Int} {len : Nat} {x : Int32} {tgt : Nat} (hd : decode I.2.1 pc = .ok (.tableswitch dflt lo hi offs, len)) (h : x.toInt < lo ∨ hi < x.toInt) (ht : (pc : Int) + dflt = (tgt : Int)) (k : xJ E I R Φ nc ns tgt lv st G) : xJ E I R Φ nc ns pc lv (.int x :: st) G := by
  intro p e s m args below meth c H locs cells slots ls B
  exact lv_tableOut B.2.1.1 B.2.1.2.1 hd h ht (k p e s m args below meth c H locs cells slots ls B)
theorem xj_tabIn {dflt lo hi : Int} {offs : Array Int} {len : Nat} {x : Int32} {off : Int} {tgt : Nat} (hd : decode I.2.1 pc = .ok (.tableswitch dflt lo hi offs, len)) (h1 : ¬ x.toInt < lo) (h2 : ¬ hi < x.toInt) (ho : offs[(x.toInt - lo).toNat]? = some off) (ht : (pc : Int) + off = (tgt : Int)) (k : xJ E I R Φ nc ns tgt lv st G) : xJ E I R Φ nc ns pc lv (.int x :: st) G := by
  intro p e s m args below meth c H locs cells slots ls B
  exact lv_tableIn B.2.1.1 B.2.1.2.1 hd h1 h2 ho ht (k p e s m args below meth c H locs cells slots ls B)
theorem xj_iload {i : Nat} {x : Int32} (hd : decode I.2.1 pc = .ok (.iload i, 2)) (hl : lv[i]? = some (some (.int x))) (k : xJ E I R Φ nc ns (pc + 2) lv (.int x :: st) G) : xJ E I R Φ nc ns pc lv st G := by
  intro p e s m args below meth c H locs cells slots ls B
  exact lv_iload B.2.1.1 B.2.1.2.1 hd (B.2.2.2.2.2.2.2.2.2.2 _ _ hl) (k p e s m args below meth c H locs cells slots ls B)
theorem xj_iload_n {f : Fin 4} {x : Int32} (hd : decode I.2.1 pc = .ok (.iload_n f, 1)) (hl : lv[(f : Nat)]? = some (some (.int x))) (k : xJ E I R Φ nc ns (pc + 1) lv (.int x :: st) G) : xJ E I R Φ nc ns pc lv st G := by
  intro p e s m args below meth c H locs cells slots ls B
  exact lv_iload_n B.2.1.1 B.2.1.2.1 hd rfl (B.2.2.2.2.2.2.2.2.2.2 _ _ hl) (k p e s m args below meth c H locs cells slots ls B)
theorem xj_lload {i : Nat} {x : Int64} (hd : decode I.2.1 pc = .ok (.lload i, 2)) (hl : lv[i]? = some (some (.long x))) (k : xJ E I R Φ nc ns (pc + 2) lv (.long x :: st) G) : xJ E I R Φ nc ns pc lv st G := by
  intro p e s m args below meth c H locs cells slots ls B
  exact lv_lload B.2.1.1 B.2.1.2.1 hd (B.2.2.2.2.2.2.2.2.2.2 _ _ hl) (k p e s m args below meth c H locs cells slots ls B)
theorem xj_lload_n {f : Fin 4} {x : Int64} (hd : decode I.2.1 pc = .ok (.lload_n f, 1)) (hl : lv[(f : Nat)]? = some (some (.long x))) (k : xJ E I R Φ nc ns (pc + 1) lv (.long x :: st) G) : xJ E I R Φ nc ns pc lv st G := by
  intro p e s m args below meth c H locs cells slots ls B
  exact lv_lload_n B.2.1.1 B.2.1.2.1 hd rfl (B.2.2.2.2.2.2.2.2.2.2 _ _ hl) (k p e s m args below meth c H locs cells slots ls B)
theorem xj_aload {i : Nat} {v : Value} (hd : decode I.2.1 pc = .ok (.aload i, 2)) (hl : lv[i]? = some (some v)) (hr : xrf v = true) (k : xJ E I R Φ nc ns (pc + 2) lv (v :: st) G) : xJ E I R Φ nc ns pc lv st G := by
  intro p e s m args below meth c H locs cells slots ls B
  have h := B.2.2.2.2.2.2.2.2.2.2 _ _ hl
  have kk := k p e s m args below meth c H locs cells slots ls B
  cases v with
  | ref a => exact lv_aload B.2.1.1 B.2.1.2.1 hd h kk
  | float a => exact lv_aload B.2.1.1 B.2.1.2.1 hd h kk
  | null => exact lv_aloadN B.2.1.1 B.2.1.2.1 hd h kk
  | int x => cases hr
  | long x => cases hr
  | double x => cases hr
  | retAddr x => cases hr
theorem xj_aload_n {f : Fin 4} {v : Value} (hd : decode I.2.1 pc = .ok (.aload_n f, 1)) (hl : lv[(f : Nat)]? = some (some v)) (hr : xrf v = true) (k : xJ E I R Φ nc ns (pc + 1) lv (v :: st) G) : xJ E I R Φ nc ns pc lv st G := by
  intro p e s m args below meth c H locs cells slots ls B
  have h := B.2.2.2.2.2.2.2.2.2.2 _ _ hl
  have kk := k p e s m args below meth c H locs cells slots ls B
  cases v with
  | ref a => exact lv_aload_n B.2.1.1 B.2.1.2.1 hd rfl h kk
  | float a => exact lv_aload_n B.2.1.1 B.2.1.2.1 hd rfl h kk
  | null => exact lv_aload_nN B.2.1.1 B.2.1.2.1 hd rfl h kk
  | int x => cases hr
  | long x => cases hr
  | double x => cases hr
  | retAddr x => cases hr
theorem xj_istore {i : Nat} {x : Int32} (hd : decode I.2.1 pc = .ok (.istore i, 2)) (hi : i < lv.length) (hp : xprev lv i = true) (k : xJ E I R Φ nc ns (pc + 2) (lv.set i (some (.int x))) st G) : xJ E I R Φ nc ns pc lv (.int x :: st) G := by
  intro p e s m args below meth c H locs cells slots ls B
  exact lv_istore B.2.1.1 B.2.1.2.1 hd B.2.2.2.2.2.2.2.has (by rw [← B.2.2.2.2.2.2.2.1]; exact hi) rfl (fun ls' hl => k p e s m args below meth c H locs cells slots ls' ⟨B.1, B.2.1, B.2.2.1, B.2.2.2.1, B.2.2.2.2.1, B.2.2.2.2.2.1, B.2.2.2.2.2.2.1, xl_set1 (v := .int x) B.2.2.2.2.2.2.2.1 hp hl⟩)
theorem xj_istore_n {f : Fin 4} {x : Int32} (hd : decode I.2.1 pc = .ok (.istore_n f, 1)) (hi : (f : Nat) < lv.length) (hp : xprev lv (f : Nat) = true) (k : xJ E I R Φ nc ns (pc + 1) (lv.set (f : Nat) (some (.int x))) st G) : xJ E I R Φ nc ns pc lv (.int x :: st) G := by
  intro p e s m args below meth c H locs cells slots ls B
  exact lv_istore_n B.2.1.1 B.2.1.2.1 hd rfl B.2.2.2.2.2.2.2.has (by rw [← B.2.2.2.2.2.2.2.1]; exact hi) rfl (fun ls' hl => k p e s m args below meth c H locs cells slots ls' ⟨B.1, B.2.1, B.2.2.1, B.2.2.2.1, B.2.2.2.2.1, B.2.2.2.2.2.1, B.2.2.2.2.2.2.1, xl_set1 (v := .int x) B.2.2.2.2.2.2.2.1 hp hl⟩)
theorem xj_lstore {i : Nat} {x : Int64} (hd : decode I.2.1 pc = .ok (.lstore i, 2)) (hi : i + 1 < lv.length) (hp : xprev lv i = true) (k : xJ E I R Φ nc ns (pc + 2) ((lv.set i (some (.long x))).set (i + 1) none) st G) : xJ E I R Φ nc ns pc lv (.long x :: st) G := by
  intro p e s m args below meth c H locs cells slots ls B
  exact lv_lstore B.2.1.1 B.2.1.2.1 hd B.2.2.2.2.2.2.2.has (by rw [← B.2.2.2.2.2.2.2.1]; exact hi) rfl (fun ls' hl => k p e s m args below meth c H locs cells slots ls' ⟨B.1, B.2.1, B.2.2.1, B.2.2.2.1, B.2.2.2.2.1, B.2.2.2.2.2.1, B.2.2.2.2.2.2.1, xl_set2 (v := .long x) B.2.2.2.2.2.2.2.1 hp hl⟩)
theorem xj_lstore_n {f : Fin 4} {x : Int64} (hd : decode I.2.1 pc = .ok (.lstore_n f, 1)) (hi : (f : Nat) + 1 < lv.length) (hp : xprev lv (f : Nat) = true) (k : xJ E I R Φ nc ns (pc + 1) ((lv.set (f : Nat) (some (.long x))).set ((f : Nat) + 1) none) st G) : xJ E I R Φ nc ns pc lv (.long x :: st) G := by
  intro p e s m args below meth c H locs cells slots ls B
  exact lv_lstore_n B.2.1.1 B.2.1.2.1 hd rfl B.2.2.2.2.2.2.2.has (by rw [← B.2.2.2.2.2.2.2.1]; exact hi) rfl (fun ls' hl => k p e s m args below meth c H locs cells slots ls' ⟨B.1, B.2.1, B.2.2.1, B.2.2.2.1, B.2.2.2.2.1, B.2.2.2.2.2.1, B.2.2.2.2.2.2.1, xl_set2 (v := .long x) B.2.2.2.2.2.2.2.1 hp hl⟩)
theorem xj_astore {i : Nat} {v : Value} (hd : decode I.2.1 pc = .ok (.astore i, 2)) (hr : xrf v = true) (hi : i < lv.length) (hp : xprev lv i = true) (k : xJ E I R Φ nc ns (pc + 2) (lv.set i (some v)) st G) : xJ E I R Φ nc ns pc lv (v :: st) G := by
  intro p e s m args below meth c H locs cells slots ls B
  have hi' : i < I.2.2.1 := by rw [← B.2.2.2.2.2.2.2.1]; exact hi
  cases v with
  | ref a => exact lv_astore B.2.1.1 B.2.1.2.1 hd B.2.2.2.2.2.2.2.has hi' rfl (fun ls' hl => k p e s m args below meth c H locs cells slots ls' ⟨B.1, B.2.1, B.2.2.1, B.2.2.2.1, B.2.2.2.2.1, B.2.2.2.2.2.1, B.2.2.2.2.2.2.1, xl_set1 (v := .ref a) B.2.2.2.2.2.2.2.1 hp hl⟩)
  | float a => exact lv_astore B.2.1.1 B.2.1.2.1 hd B.2.2.2.2.2.2.2.has hi' rfl (fun ls' hl => k p e s m args below meth c H locs cells slots ls' ⟨B.1, B.2.1, B.2.2.1, B.2.2.2.1, B.2.2.2.2.1, B.2.2.2.2.2.1, B.2.2.2.2.2.2.1, xl_set1 (v := .float a) B.2.2.2.2.2.2.2.1 hp hl⟩)
  | null => exact lv_astoreN B.2.1.1 B.2.1.2.1 hd B.2.2.2.2.2.2.2.has hi' rfl (fun ls' hl => k p e s m args below meth c H locs cells slots ls' ⟨B.1, B.2.1, B.2.2.1, B.2.2.2.1, B.2.2.2.2.1, B.2.2.2.2.2.1, B.2.2.2.2.2.2.1, xl_set1 (v := .null) B.2.2.2.2.2.2.2.1 hp hl⟩)
  | int x => cases hr
  | long x => cases hr
  | double x => cases hr
  | retAddr x => cases hr
theorem xj_astore_n {f : Fin 4} {v : Value} (hd : decode I.2.1 pc = .ok (.astore_n f, 1)) (hr : xrf v = true) (hi : (f : Nat) < lv.length) (hp : xprev lv (f : Nat) = true) (k : xJ E I R Φ nc ns (pc + 1) (lv.set (f : Nat) (some v)) st G) : xJ E I R Φ nc ns pc lv (v :: st) G := by
  intro p e s m args below meth c H locs cells slots ls B
  have hi' : (f : Nat) < I.2.2.1 := by rw [← B.2.2.2.2.2.2.2.1]; exact hi
  cases v with
  | ref a => exact lv_astore_n B.2.1.1 B.2.1.2.1 hd rfl B.2.2.2.2.2.2.2.has hi' rfl (fun ls' hl => k p e s m args below meth c H locs cells slots ls' ⟨B.1, B.2.1, B.2.2.1, B.2.2.2.1, B.2.2.2.2.1, B.2.2.2.2.2.1, B.2.2.2.2.2.2.1, xl_set1 (v := .ref a) B.2.2.2.2.2.2.2.1 hp hl⟩)
  | float a => exact lv_astore_n B.2.1.1 B.2.1.2.1 hd rfl B.2.2.2.2.2.2.2.has hi' rfl (fun ls' hl => k p e s m args below meth c H locs cells slots ls' ⟨B.1, B.2.1, B.2.2.1, B.2.2.2.1, B.2.2.2.2.1, B.2.2.2.2.2.1, B.2.2.2.2.2.2.1, xl_set1 (v := .float a) B.2.2.2.2.2.2.2.1 hp hl⟩)
  | null => exact lv_astore_nN B.2.1.1 B.2.1.2.1 hd rfl B.2.2.2.2.2.2.2.has hi' rfl (fun ls' hl => k p e s m args below meth c H locs cells slots ls' ⟨B.1, B.2.1, B.2.2.1, B.2.2.2.1, B.2.2.2.2.1, B.2.2.2.2.2.1, B.2.2.2.2.2.2.1, xl_set1 (v := .null) B.2.2.2.2.2.2.2.1 hp hl⟩)
  | int x => cases hr
  | long x => cases hr
  | double x => cases hr
  | retAddr x => cases hr
theorem xj_iinc {i : Nat} {n : Int} {x cst : Int32} (hd : decode I.2.1 pc = .ok (.iinc i n, 3)) (hn : Int32.ofInt n = cst) (hl : lv[i]? = some (some (.int x))) (hp : xprev lv i = true) (k : xJ E I R Φ nc ns (pc + 3) (lv.set i (some (.int (x + cst)))) st G) : xJ E I R Φ nc ns pc lv st G := by
  intro p e s m args below meth c H locs cells slots ls B
  have hi : i < lv.length := (List.getElem?_eq_some_iff.mp hl).1
  obtain ⟨j, hj⟩ := List.getElem?_of_mem (xll_mem (E := E) hl)
  exact lv_iinc B.2.1.1 B.2.1.2.1 hd B.2.2.2.2.2.2.2.has hj (by rw [hn]) (by rw [← B.2.2.2.2.2.2.2.1]; exact hi) rfl (fun ls' hl => k p e s m args below meth c H locs cells slots ls' ⟨B.1, B.2.1, B.2.2.1, B.2.2.2.1, B.2.2.2.2.1, B.2.2.2.2.2.1, B.2.2.2.2.2.2.1, xl_set1 (v := .int (x + cst)) B.2.2.2.2.2.2.2.1 hp hl⟩)
theorem xj_istn0 {a0 : Option Value} {r : List (Option Value)} {x : Int32} (hd : decode I.2.1 pc = .ok (.istore_n 0, 1)) (k : xJ E I R Φ nc ns (pc + 1) (some (.int x) :: r) st G) : xJ E I R Φ nc ns pc (a0 :: r) (.int x :: st) G := xj_istore_n hd (by simp only [List.length_cons]; omega) rfl k
theorem xj_astn0 {a0 : Option Value} {r : List (Option Value)} {v : Value} (hd : decode I.2.1 pc = .ok (.astore_n 0, 1)) (hr : xrf v = true) (k : xJ E I R Φ nc ns (pc + 1) (some v :: r) st G) : xJ E I R Φ nc ns pc (a0 :: r) (v :: st) G := xj_astore_n hd hr (by simp only [List.length_cons]; omega) rfl k
theorem xj_lstn0 {a0 a1 : Option Value} {r : List (Option Value)} {x : Int64} (hd : decode I.2.1 pc = .ok (.lstore_n 0, 1)) (k : xJ E I R Φ nc ns (pc + 1) (some (.long x) :: none :: r) st G) : xJ E I R Φ nc ns pc (a0 :: a1 :: r) (.long x :: st) G := xj_lstore_n hd (by simp only [List.length_cons]; omega) rfl k
theorem xj_ist0 {a0 : Option Value} {r : List (Option Value)} {x : Int32} (hd : decode I.2.1 pc = .ok (.istore 0, 2)) (k : xJ E I R Φ nc ns (pc + 2) (some (.int x) :: r) st G) : xJ E I R Φ nc ns pc (a0 :: r) (.int x :: st) G := xj_istore hd (by simp only [List.length_cons]; omega) rfl k
theorem xj_ast0 {a0 : Option Value} {r : List (Option Value)} {v : Value} (hd : decode I.2.1 pc = .ok (.astore 0, 2)) (hr : xrf v = true) (k : xJ E I R Φ nc ns (pc + 2) (some v :: r) st G) : xJ E I R Φ nc ns pc (a0 :: r) (v :: st) G := xj_astore hd hr (by simp only [List.length_cons]; omega) rfl k
theorem xj_lst0 {a0 a1 : Option Value} {r : List (Option Value)} {x : Int64} (hd : decode I.2.1 pc = .ok (.lstore 0, 2)) (k : xJ E I R Φ nc ns (pc + 2) (some (.long x) :: none :: r) st G) : xJ E I R Φ nc ns pc (a0 :: a1 :: r) (.long x :: st) G := xj_lstore hd (by simp only [List.length_cons]; omega) rfl k
theorem xj_iinc0 {r : List (Option Value)} {n : Int} {x cst : Int32} (hd : decode I.2.1 pc = .ok (.iinc 0 n, 3)) (hn : Int32.ofInt n = cst) (k : xJ E I R Φ nc ns (pc + 3) (some (.int (x + cst)) :: r) st G) : xJ E I R Φ nc ns pc (some (.int x) :: r) st G := xj_iinc hd hn rfl rfl k
theorem xj_istn1 {a0 a1 : Option Value} {r : List (Option Value)} {x : Int32} (hd : decode I.2.1 pc = .ok (.istore_n 1, 1)) (hp : xpv a0 = true) (k : xJ E I R Φ nc ns (pc + 1) (a0 :: some (.int x) :: r) st G) : xJ E I R Φ nc ns pc (a0 :: a1 :: r) (.int x :: st) G := xj_istore_n hd (by simp only [List.length_cons]; omega) (xpv_prev (j := 0) rfl hp) k
theorem xj_astn1 {a0 a1 : Option Value} {r : List (Option Value)} {v : Value} (hd : decode I.2.1 pc = .ok (.astore_n 1, 1)) (hr : xrf v = true) (hp : xpv a0 = true) (k : xJ E I R Φ nc ns (pc + 1) (a0 :: some v :: r) st G) : xJ E I R Φ nc ns pc (a0 :: a1 :: r) (v :: st) G := xj_astore_n hd hr (by simp only [List.length_cons]; omega) (xpv_prev (j := 0) rfl hp) k
theorem xj_lstn1 {a0 a1 a2 : Option Value} {r : List (Option Value)} {x : Int64} (hd : decode I.2.1 pc = .ok (.lstore_n 1, 1)) (hp : xpv a0 = true) (k : xJ E I R Φ nc ns (pc + 1) (a0 :: some (.long x) :: none :: r) st G) : xJ E I R Φ nc ns pc (a0 :: a1 :: a2 :: r) (.long x :: st) G := xj_lstore_n hd (by simp only [List.length_cons]; omega) (xpv_prev (j := 0) rfl hp) k
theorem xj_ist1 {a0 a1 : Option Value} {r : List (Option Value)} {x : Int32} (hd : decode I.2.1 pc = .ok (.istore 1, 2)) (hp : xpv a0 = true) (k : xJ E I R Φ nc ns (pc + 2) (a0 :: some (.int x) :: r) st G) : xJ E I R Φ nc ns pc (a0 :: a1 :: r) (.int x :: st) G := xj_istore hd (by simp only [List.length_cons]; omega) (xpv_prev (j := 0) rfl hp) k
theorem xj_ast1 {a0 a1 : Option Value} {r : List (Option Value)} {v : Value} (hd : decode I.2.1 pc = .ok (.astore 1, 2)) (hr : xrf v = true) (hp : xpv a0 = true) (k : xJ E I R Φ nc ns (pc + 2) (a0 :: some v :: r) st G) : xJ E I R Φ nc ns pc (a0 :: a1 :: r) (v :: st) G := xj_astore hd hr (by simp only [List.length_cons]; omega) (xpv_prev (j := 0) rfl hp) k
theorem xj_lst1 {a0 a1 a2 : Option Value} {r : List (Option Value)} {x : Int64} (hd : decode I.2.1 pc = .ok (.lstore 1, 2)) (hp : xpv a0 = true) (k : xJ E I R Φ nc ns (pc + 2) (a0 :: some (.long x) :: none :: r) st G) : xJ E I R Φ nc ns pc (a0 :: a1 :: a2 :: r) (.long x :: st) G := xj_lstore hd (by simp only [List.length_cons]; omega) (xpv_prev (j := 0) rfl hp) k
theorem xj_iinc1 {a0 : Option Value} {r : List (Option Value)} {n : Int} {x cst : Int32} (hd : decode I.2.1 pc = .ok (.iinc 1 n, 3)) (hn : Int32.ofInt n = cst) (hp : xpv a0 = true) (k : xJ E I R Φ nc ns (pc + 3) (a0 :: some (.int (x + cst)) :: r) st G) : xJ E I R Φ nc ns pc (a0 :: some (.int x) :: r) st G := xj_iinc hd hn rfl (xpv_prev (j := 0) rfl hp) k
theorem xj_istn2 {a0 a1 a2 : Option Value} {r : List (Option Value)} {x : Int32} (hd : decode I.2.1 pc = .ok (.istore_n 2, 1)) (hp : xpv a1 = true) (k : xJ E I R Φ nc ns (pc + 1) (a0 :: a1 :: some (.int x) :: r) st G) : xJ E I R Φ nc ns pc (a0 :: a1 :: a2 :: r) (.int x :: st) G := xj_istore_n hd (by simp only [List.length_cons]; omega) (xpv_prev (j := 1) rfl hp) k
theorem xj_astn2 {a0 a1 a2 : Option Value} {r : List (Option Value)} {v : Value} (hd : decode I.2.1 pc = .ok (.astore_n 2, 1)) (hr : xrf v = true) (hp : xpv a1 = true) (k : xJ E I R Φ nc ns (pc + 1) (a0 :: a1 :: some v :: r) st G) : xJ E I R Φ nc ns pc (a0 :: a1 :: a2 :: r) (v :: st) G := xj_astore_n hd hr (by simp only [List.length_cons]; omega) (xpv_prev (j := 1) rfl hp) k
theorem xj_lstn2 {a0 a1 a2 a3 : Option Value} {r : List (Option Value)} {x : Int64} (hd : decode I.2.1 pc = .ok (.lstore_n 2, 1)) (hp : xpv a1 = true) (k : xJ E I R Φ nc ns (pc + 1) (a0 :: a1 :: some (.long x) :: none :: r) st G) : xJ E I R Φ nc ns pc (a0 :: a1 :: a2 :: a3 :: r) (.long x :: st) G := xj_lstore_n hd (by simp only [List.length_cons]; omega) (xpv_prev (j := 1) rfl hp) k
theorem xj_ist2 {a0 a1 a2 : Option Value} {r : List (Option Value)} {x : Int32} (hd : decode I.2.1 pc = .ok (.istore 2, 2)) (hp : xpv a1 = true) (k : xJ E I R Φ nc ns (pc + 2) (a0 :: a1 :: some (.int x) :: r) st G) : xJ E I R Φ nc ns pc (a0 :: a1 :: a2 :: r) (.int x :: st) G := xj_istore hd (by simp only [List.length_cons]; omega) (xpv_prev (j := 1) rfl hp) k
theorem xj_ast2 {a0 a1 a2 : Option Value} {r : List (Option Value)} {v : Value} (hd : decode I.2.1 pc = .ok (.astore 2, 2)) (hr : xrf v = true) (hp : xpv a1 = true) (k : xJ E I R Φ nc ns (pc + 2) (a0 :: a1 :: some v :: r) st G) : xJ E I R Φ nc ns pc (a0 :: a1 :: a2 :: r) (v :: st) G := xj_astore hd hr (by simp only [List.length_cons]; omega) (xpv_prev (j := 1) rfl hp) k
theorem xj_lst2 {a0 a1 a2 a3 : Option Value} {r : List (Option Value)} {x : Int64} (hd : decode I.2.1 pc = .ok (.lstore 2, 2)) (hp : xpv a1 = true) (k : xJ E I R Φ nc ns (pc + 2) (a0 :: a1 :: some (.long x) :: none :: r) st G) : xJ E I R Φ nc ns pc (a0 :: a1 :: a2 :: a3 :: r) (.long x :: st) G := xj_lstore hd (by simp only [List.length_cons]; omega) (xpv_prev (j := 1) rfl hp) k
theorem xj_iinc2 {a0 a1 : Option Value} {r : List (Option Value)} {n : Int} {x cst : Int32} (hd : decode I.2.1 pc = .ok (.iinc 2 n, 3)) (hn : Int32.ofInt n = cst) (hp : xpv a1 = true) (k : xJ E I R Φ nc ns (pc + 3) (a0 :: a1 :: some (.int (x + cst)) :: r) st G) : xJ E I R Φ nc ns pc (a0 :: a1 :: some (.int x) :: r) st G := xj_iinc hd hn rfl (xpv_prev (j := 1) rfl hp) k
theorem xj_istn3 {a0 a1 a2 a3 : Option Value} {r : List (Option Value)} {x : Int32} (hd : decode I.2.1 pc = .ok (.istore_n 3, 1)) (hp : xpv a2 = true) (k : xJ E I R Φ nc ns (pc + 1) (a0 :: a1 :: a2 :: some (.int x) :: r) st G) : xJ E I R Φ nc ns pc (a0 :: a1 :: a2 :: a3 :: r) (.int x :: st) G := xj_istore_n hd (by simp only [List.length_cons]; omega) (xpv_prev (j := 2) rfl hp) k
theorem xj_astn3 {a0 a1 a2 a3 : Option Value} {r : List (Option Value)} {v : Value} (hd : decode I.2.1 pc = .ok (.astore_n 3, 1)) (hr : xrf v = true) (hp : xpv a2 = true) (k : xJ E I R Φ nc ns (pc + 1) (a0 :: a1 :: a2 :: some v :: r) st G) : xJ E I R Φ nc ns pc (a0 :: a1 :: a2 :: a3 :: r) (v :: st) G := xj_astore_n hd hr (by simp only [List.length_cons]; omega) (xpv_prev (j := 2) rfl hp) k
theorem xj_lstn3 {a0 a1 a2 a3 a4 : Option Value} {r : List (Option Value)} {x : Int64} (hd : decode I.2.1 pc = .ok (.lstore_n 3, 1)) (hp : xpv a2 = true) (k : xJ E I R Φ nc ns (pc + 1) (a0 :: a1 :: a2 :: some (.long x) :: none :: r) st G) : xJ E I R Φ nc ns pc (a0 :: a1 :: a2 :: a3 :: a4 :: r) (.long x :: st) G := xj_lstore_n hd (by simp only [List.length_cons]; omega) (xpv_prev (j := 2) rfl hp) k
theorem xj_ist3 {a0 a1 a2 a3 : Option Value} {r : List (Option Value)} {x : Int32} (hd : decode I.2.1 pc = .ok (.istore 3, 2)) (hp : xpv a2 = true) (k : xJ E I R Φ nc ns (pc + 2) (a0 :: a1 :: a2 :: some (.int x) :: r) st G) : xJ E I R Φ nc ns pc (a0 :: a1 :: a2 :: a3 :: r) (.int x :: st) G := xj_istore hd (by simp only [List.length_cons]; omega) (xpv_prev (j := 2) rfl hp) k
theorem xj_ast3 {a0 a1 a2 a3 : Option Value} {r : List (Option Value)} {v : Value} (hd : decode I.2.1 pc = .ok (.astore 3, 2)) (hr : xrf v = true) (hp : xpv a2 = true) (k : xJ E I R Φ nc ns (pc + 2) (a0 :: a1 :: a2 :: some v :: r) st G) : xJ E I R Φ nc ns pc (a0 :: a1 :: a2 :: a3 :: r) (v :: st) G := xj_astore hd hr (by simp only [List.length_cons]; omega) (xpv_prev (j := 2) rfl hp) k
theorem xj_lst3 {a0 a1 a2 a3 a4 : Option Value} {r : List (Option Value)} {x : Int64} (hd : decode I.2.1 pc = .ok (.lstore 3, 2)) (hp : xpv a2 = true) (k : xJ E I R Φ nc ns (pc + 2) (a0 :: a1 :: a2 :: some (.long x) :: none :: r) st G) : xJ E I R Φ nc ns pc (a0 :: a1 :: a2 :: a3 :: a4 :: r) (.long x :: st) G := xj_lstore hd (by simp only [List.length_cons]; omega) (xpv_prev (j := 2) rfl hp) k
theorem xj_iinc3 {a0 a1 a2 : Option Value} {r : List (Option Value)} {n : Int} {x cst : Int32} (hd : decode I.2.1 pc = .ok (.iinc 3 n, 3)) (hn : Int32.ofInt n = cst) (hp : xpv a2 = true) (k : xJ E I R Φ nc ns (pc + 3) (a0 :: a1 :: a2 :: some (.int (x + cst)) :: r) st G) : xJ E I R Φ nc ns pc (a0 :: a1 :: a2 :: some (.int x) :: r) st G := xj_iinc hd hn rfl (xpv_prev (j := 2) rfl hp) k
theorem xj_ist4 {a0 a1 a2 a3 a4 : Option Value} {r : List (Option Value)} {x : Int32} (hd : decode I.2.1 pc = .ok (.istore 4, 2)) (hp : xpv a3 = true) (k : xJ E I R Φ nc ns (pc + 2) (a0 :: a1 :: a2 :: a3 :: some (.int x) :: r) st G) : xJ E I R Φ nc ns pc (a0 :: a1 :: a2 :: a3 :: a4 :: r) (.int x :: st) G := xj_istore hd (by simp only [List.length_cons]; omega) (xpv_prev (j := 3) rfl hp) k
theorem xj_ast4 {a0 a1 a2 a3 a4 : Option Value} {r : List (Option Value)} {v : Value} (hd : decode I.2.1 pc = .ok (.astore 4, 2)) (hr : xrf v = true) (hp : xpv a3 = true) (k : xJ E I R Φ nc ns (pc + 2) (a0 :: a1 :: a2 :: a3 :: some v :: r) st G) : xJ E I R Φ nc ns pc (a0 :: a1 :: a2 :: a3 :: a4 :: r) (v :: st) G := xj_astore hd hr (by simp only [List.length_cons]; omega) (xpv_prev (j := 3) rfl hp) k
theorem xj_lst4 {a0 a1 a2 a3 a4 a5 : Option Value} {r : List (Option Value)} {x : Int64} (hd : decode I.2.1 pc = .ok (.lstore 4, 2)) (hp : xpv a3 = true) (k : xJ E I R Φ nc ns (pc + 2) (a0 :: a1 :: a2 :: a3 :: some (.long x) :: none :: r) st G) : xJ E I R Φ nc ns pc (a0 :: a1 :: a2 :: a3 :: a4 :: a5 :: r) (.long x :: st) G := xj_lstore hd (by simp only [List.length_cons]; omega) (xpv_prev (j := 3) rfl hp) k
theorem xj_iinc4 {a0 a1 a2 a3 : Option Value} {r : List (Option Value)} {n : Int} {x cst : Int32} (hd : decode I.2.1 pc = .ok (.iinc 4 n, 3)) (hn : Int32.ofInt n = cst) (hp : xpv a3 = true) (k : xJ E I R Φ nc ns (pc + 3) (a0 :: a1 :: a2 :: a3 :: some (.int (x + cst)) :: r) st G) : xJ E I R Φ nc ns pc (a0 :: a1 :: a2 :: a3 :: some (.int x) :: r) st G := xj_iinc hd hn rfl (xpv_prev (j := 3) rfl hp) k
theorem xj_ist5 {a0 a1 a2 a3 a4 a5 : Option Value} {r : List (Option Value)} {x : Int32} (hd : decode I.2.1 pc = .ok (.istore 5, 2)) (hp : xpv a4 = true) (k : xJ E I R Φ nc ns (pc + 2) (a0 :: a1 :: a2 :: a3 :: a4 :: some (.int x) :: r) st G) : xJ E I R Φ nc ns pc (a0 :: a1 :: a2 :: a3 :: a4 :: a5 :: r) (.int x :: st) G := xj_istore hd (by simp only [List.length_cons]; omega) (xpv_prev (j := 4) rfl hp) k
theorem xj_ast5 {a0 a1 a2 a3 a4 a5 : Option Value} {r : List (Option Value)} {v : Value} (hd : decode I.2.1 pc = .ok (.astore 5, 2)) (hr : xrf v = true) (hp : xpv a4 = true) (k : xJ E I R Φ nc ns (pc + 2) (a0 :: a1 :: a2 :: a3 :: a4 :: some v :: r) st G) : xJ E I R Φ nc ns pc (a0 :: a1 :: a2 :: a3 :: a4 :: a5 :: r) (v :: st) G := xj_astore hd hr (by simp only [List.length_cons]; omega) (xpv_prev (j := 4) rfl hp) k
theorem xj_lst5 {a0 a1 a2 a3 a4 a5 a6 : Option Value} {r : List (Option Value)} {x : Int64} (hd : decode I.2.1 pc = .ok (.lstore 5, 2)) (hp : xpv a4 = true) (k : xJ E I R Φ nc ns (pc + 2) (a0 :: a1 :: a2 :: a3 :: a4 :: some (.long x) :: none :: r) st G) : xJ E I R Φ nc ns pc (a0 :: a1 :: a2 :: a3 :: a4 :: a5 :: a6 :: r) (.long x :: st) G := xj_lstore hd (by simp only [List.length_cons]; omega) (xpv_prev (j := 4) rfl hp) k
theorem xj_iinc5 {a0 a1 a2 a3 a4 : Option Value} {r : List (Option Value)} {n : Int} {x cst : Int32} (hd : decode I.2.1 pc = .ok (.iinc 5 n, 3)) (hn : Int32.ofInt n = cst) (hp : xpv a4 = true) (k : xJ E I R Φ nc ns (pc + 3) (a0 :: a1 :: a2 :: a3 :: a4 :: some (.int (x + cst)) :: r) st G) : xJ E I R Φ nc ns pc (a0 :: a1 :: a2 :: a3 :: a4 :: some (.int x) :: r) st G := xj_iinc hd hn rfl (xpv_prev (j := 4) rfl hp) k
theorem xj_ist6 {a0 a1 a2 a3 a4 a5 a6 : Option Value} {r : List (Option Value)} {x : Int32} (hd : decode I.2.1 pc = .ok (.istore 6, 2)) (hp : xpv a5 = true) (k : xJ E I R Φ nc ns (pc + 2) (a0 :: a1 :: a2 :: a3 :: a4 :: a5 :: some (.int x) :: r) st G) : xJ E I R Φ nc ns pc (a0 :: a1 :: a2 :: a3 :: a4 :: a5 :: a6 :: r) (.int x :: st) G := xj_istore hd (by simp only [List.length_cons]; omega) (xpv_prev (j := 5) rfl hp) k
theorem xj_ast6 {a0 a1 a2 a3 a4 a5 a6 : Option Value} {r : List (Option Value)} {v : Value} (hd : decode I.2.1 pc = .ok (.astore 6, 2)) (hr : xrf v = true) (hp : xpv a5 = true) (k : xJ E I R Φ nc ns (pc + 2) (a0 :: a1 :: a2 :: a3 :: a4 :: a5 :: some v :: r) st G) : xJ E I R Φ nc ns pc (a0 :: a1 :: a2 :: a3 :: a4 :: a5 :: a6 :: r) (v :: st) G := xj_astore hd hr (by simp only [List.length_cons]; omega) (xpv_prev (j := 5) rfl hp) k
theorem xj_lst6 {a0 a1 a2 a3 a4 a5 a6 a7 : Option Value} {r : List (Option Value)} {x : Int64} (hd : decode I.2.1 pc = .ok (.lstore 6, 2)) (hp : xpv a5 = true) (k : xJ E I R Φ nc ns (pc + 2) (a0 :: a1 :: a2 :: a3 :: a4 :: a5 :: some (.long x) :: none :: r) st G) : xJ E I R Φ nc ns pc (a0 :: a1 :: a2 :: a3 :: a4 :: a5 :: a6 :: a7 :: r) (.long x :: st) G := xj_lstore hd (by simp only [List.length_cons]; omega) (xpv_prev (j := 5) rfl hp) k
theorem xj_iinc6 {a0 a1 a2 a3 a4 a5 : Option Value} {r : List (Option Value)} {n : Int} {x cst : Int32} (hd : decode I.2.1 pc = .ok (.iinc 6 n, 3)) (hn : Int32.ofInt n = cst) (hp : xpv a5 = true) (k : xJ E I R Φ nc ns (pc + 3) (a0 :: a1 :: a2 :: a3 :: a4 :: a5 :: some (.int (x + cst)) :: r) st G) : xJ E I R Φ nc ns pc (a0 :: a1 :: a2 :: a3 :: a4 :: a5 :: some (.int x) :: r) st G := xj_iinc hd hn rfl (xpv_prev (j := 5) rfl hp) k
theorem xj_ist7 {a0 a1 a2 a3 a4 a5 a6 a7 : Option Value} {r : List (Option Value)} {x : Int32} (hd : decode I.2.1 pc = .ok (.istore 7, 2)) (hp : xpv a6 = true) (k : xJ E I R Φ nc ns (pc + 2) (a0 :: a1 :: a2 :: a3 :: a4 :: a5 :: a6 :: some (.int x) :: r) st G) : xJ E I R Φ nc ns pc (a0 :: a1 :: a2 :: a3 :: a4 :: a5 :: a6 :: a7 :: r) (.int x :: st) G := xj_istore hd (by simp only [List.length_cons]; omega) (xpv_prev (j := 6) rfl hp) k
theorem xj_ast7 {a0 a1 a2 a3 a4 a5 a6 a7 : Option Value} {r : List (Option Value)} {v : Value} (hd : decode I.2.1 pc = .ok (.astore 7, 2)) (hr : xrf v = true) (hp : xpv a6 = true) (k : xJ E I R Φ nc ns (pc + 2) (a0 :: a1 :: a2 :: a3 :: a4 :: a5 :: a6 :: some v :: r) st G) : xJ E I R Φ nc ns pc (a0 :: a1 :: a2 :: a3 :: a4 :: a5 :: a6 :: a7 :: r) (v :: st) G := xj_astore hd hr (by simp only [List.length_cons]; omega) (xpv_prev (j := 6) rfl hp) k
theorem xj_lst7 {a0 a1 a2 a3 a4 a5 a6 a7 a8 : Option Value} {r : List (Option Value)} {x : Int64} (hd : decode I.2.1 pc = .ok (.lstore 7, 2)) (hp : xpv a6 = true) (k : xJ E I R Φ nc ns (pc + 2) (a0 :: a1 :: a2 :: a3 :: a4 :: a5 :: a6 :: some (.long x) :: none :: r) st G) : xJ E I R Φ nc ns pc (a0 :: a1 :: a2 :: a3 :: a4 :: a5 :: a6 :: a7 :: a8 :: r) (.long x :: st) G := xj_lstore hd (by simp only [List.length_cons]; omega) (xpv_prev (j := 6) rfl hp) k
theorem xj_iinc7 {a0 a1 a2 a3 a4 a5 a6 : Option Value} {r : List (Option Value)} {n : Int} {x cst : Int32} (hd : decode I.2.1 pc = .ok (.iinc 7 n, 3)) (hn : Int32.ofInt n = cst) (hp : xpv a6 = true) (k : xJ E I R Φ nc ns (pc + 3) (a0 :: a1 :: a2 :: a3 :: a4 :: a5 :: a6 :: some (.int (x + cst)) :: r) st G) : xJ E I R Φ nc ns pc (a0 :: a1 :: a2 :: a3 :: a4 :: a5 :: a6 :: some (.int x) :: r) st G := xj_iinc hd hn rfl (xpv_prev (j := 6) rfl hp) k
theorem xj_ist8 {a0 a1 a2 a3 a4 a5 a6 a7 a8 : Option Value} {r : List (Option Value)} {x : Int32} (hd : decode I.2.1 pc = .ok (.istore 8, 2)) (hp : xpv a7 = true) (k : xJ E I R Φ nc ns (pc + 2) (a0 :: a1 :: a2 :: a3 :: a4 :: a5 :: a6 :: a7 :: some (.int x) :: r) st G) : xJ E I R Φ nc ns pc (a0 :: a1 :: a2 :: a3 :: a4 :: a5 :: a6 :: a7 :: a8 :: r) (.int x :: st) G := xj_istore hd (by simp only [List.length_cons]; omega) (xpv_prev (j := 7) rfl hp) k
theorem xj_ast8 {a0 a1 a2 a3 a4 a5 a6 a7 a8 : Option Value} {r : List (Option Value)} {v : Value} (hd : decode I.2.1 pc = .ok (.astore 8, 2)) (hr : xrf v = true) (hp : xpv a7 = true) (k : xJ E I R Φ nc ns (pc + 2) (a0 :: a1 :: a2 :: a3 :: a4 :: a5 :: a6 :: a7 :: some v :: r) st G) : xJ E I R Φ nc ns pc (a0 :: a1 :: a2 :: a3 :: a4 :: a5 :: a6 :: a7 :: a8 :: r) (v :: st) G := xj_astore hd hr (by simp only [List.length_cons]; omega) (xpv_prev (j := 7) rfl hp) k
theorem xj_lst8 {a0 a1 a2 a3 a4 a5 a6 a7 a8 a9 : Option Value} {r : List (Option Value)} {x : Int64} (hd : decode I.2.1 pc = .ok (.lstore 8, 2)) (hp : xpv a7 = true) (k : xJ E I R Φ nc ns (pc + 2) (a0 :: a1 :: a2 :: a3 :: a4 :: a5 :: a6 :: a7 :: some (.long x) :: none :: r) st G) : xJ E I R Φ nc ns pc (a0 :: a1 :: a2 :: a3 :: a4 :: a5 :: a6 :: a7 :: a8 :: a9 :: r) (.long x :: st) G := xj_lstore hd (by simp only [List.length_cons]; omega) (xpv_prev (j := 7) rfl hp) k
theorem xj_iinc8 {a0 a1 a2 a3 a4 a5 a6 a7 : Option Value} {r : List (Option Value)} {n : Int} {x cst : Int32} (hd : decode I.2.1 pc = .ok (.iinc 8 n, 3)) (hn : Int32.ofInt n = cst) (hp : xpv a7 = true) (k : xJ E I R Φ nc ns (pc + 3) (a0 :: a1 :: a2 :: a3 :: a4 :: a5 :: a6 :: a7 :: some (.int (x + cst)) :: r) st G) : xJ E I R Φ nc ns pc (a0 :: a1 :: a2 :: a3 :: a4 :: a5 :: a6 :: a7 :: some (.int x) :: r) st G := xj_iinc hd hn rfl (xpv_prev (j := 7) rfl hp) k
theorem xj_ist9 {a0 a1 a2 a3 a4 a5 a6 a7 a8 a9 : Option Value} {r : List (Option Value)} {x : Int32} (hd : decode I.2.1 pc = .ok (.istore 9, 2)) (hp : xpv a8 = true) (k : xJ E I R Φ nc ns (pc + 2) (a0 :: a1 :: a2 :: a3 :: a4 :: a5 :: a6 :: a7 :: a8 :: some (.int x) :: r) st G) : xJ E I R Φ nc ns pc (a0 :: a1 :: a2 :: a3 :: a4 :: a5 :: a6 :: a7 :: a8 :: a9 :: r) (.int x :: st) G := xj_istore hd (by simp only [List.length_cons]; omega) (xpv_prev (j := 8) rfl hp) k
theorem xj_ast9 {a0 a1 a2 a3 a4 a5 a6 a7 a8 a9 : Option Value} {r : List (Option Value)} {v : Value} (hd : decode I.2.1 pc = .ok (.astore 9, 2)) (hr : xrf v = true) (hp : xpv a8 = true) (k : xJ E I R Φ nc ns (pc + 2) (a0 :: a1 :: a2 :: a3 :: a4 :: a5 :: a6 :: a7 :: a8 :: some v :: r) st G) : xJ E I R Φ nc ns pc (a0 :: a1 :: a2 :: a3 :: a4 :: a5 :: a6 :: a7 :: a8 :: a9 :: r) (v :: st) G := xj_astore hd hr (by simp only [List.length_cons]; omega) (xpv_prev (j := 8) rfl hp) k
theorem xj_lst9 {a0 a1 a2 a3 a4 a5 a6 a7 a8 a9 a10 : Option Value} {r : List (Option Value)} {x : Int64} (hd : decode I.2.1 pc = .ok (.lstore 9, 2)) (hp : xpv a8 = true) (k : xJ E I R Φ nc ns (pc + 2) (a0 :: a1 :: a2 :: a3 :: a4 :: a5 :: a6 :: a7 :: a8 :: some (.long x) :: none :: r) st G) : xJ E I R Φ nc ns pc (a0 :: a1 :: a2 :: a3 :: a4 :: a5 :: a6 :: a7 :: a8 :: a9 :: a10 :: r) (.long x :: st) G := xj_lstore hd (by simp only [List.length_cons]; omega) (xpv_prev (j := 8) rfl hp) k
theorem xj_iinc9 {a0 a1 a2 a3 a4 a5 a6 a7 a8 : Option Value} {r : List (Option Value)} {n : Int} {x cst : Int32} (hd : decode I.2.1 pc = .ok (.iinc 9 n, 3)) (hn : Int32.ofInt n = cst) (hp : xpv a8 = true) (k : xJ E I R Φ nc ns (pc + 3) (a0 :: a1 :: a2 :: a3 :: a4 :: a5 :: a6 :: a7 :: a8 :: some (.int (x + cst)) :: r) st G) : xJ E I R Φ nc ns pc (a0 :: a1 :: a2 :: a3 :: a4 :: a5 :: a6 :: a7 :: a8 :: some (.int x) :: r) st G := xj_iinc hd hn rfl (xpv_prev (j := 8) rfl hp) k
theorem xj_ist10 {a0 a1 a2 a3 a4 a5 a6 a7 a8 a9 a10 : Option Value} {r : List (Option Value)} {x : Int32} (hd : decode I.2.1 pc = .ok (.istore 10, 2)) (hp : xpv a9 = true) (k : xJ E I R Φ nc ns (pc + 2) (a0 :: a1 :: a2 :: a3 :: a4 :: a5 :: a6 :: a7 :: a8 :: a9 :: some (.int x) :: r) st G) : xJ E I R Φ nc ns pc (a0 :: a1 :: a2 :: a3 :: a4 :: a5 :: a6 :: a7 :: a8 :: a9 :: a10 :: r) (.int x :: st) G := xj_istore hd (by simp only [List.length_cons]; omega) (xpv_prev (j := 9) rfl hp) k
theorem xj_ast10 {a0 a1 a2 a3 a4 a5 a6 a7 a8 a9 a10 : Option Value} {r : List (Option Value)} {v : Value} (hd : decode I.2.1 pc = .ok (.astore 10, 2)) (hr : xrf v = true) (hp : xpv a9 = true) (k : xJ E I R Φ nc ns (pc + 2) (a0 :: a1 :: a2 :: a3 :: a4 :: a5 :: a6 :: a7 :: a8 :: a9 :: some v :: r) st G) : xJ E I R Φ nc ns pc (a0 :: a1 :: a2 :: a3 :: a4 :: a5 :: a6 :: a7 :: a8 :: a9 :: a10 :: r) (v :: st) G := xj_astore hd hr (by simp only [List.length_cons]; omega) (xpv_prev (j := 9) rfl hp) k
theorem xj_lst10 {a0 a1 a2 a3 a4 a5 a6 a7 a8 a9 a10 a11 : Option Value} {r : List (Option Value)} {x : Int64} (hd : decode I.2.1 pc = .ok (.lstore 10, 2)) (hp : xpv a9 = true) (k : xJ E I R Φ nc ns (pc + 2) (a0 :: a1 :: a2 :: a3 :: a4 :: a5 :: a6 :: a7 :: a8 :: a9 :: some (.long x) :: none :: r) st G) : xJ E I R Φ nc ns pc (a0 :: a1 :: a2 :: a3 :: a4 :: a5 :: a6 :: a7 :: a8 :: a9 :: a10 :: a11 :: r) (.long x :: st) G := xj_lstore hd (by simp only [List.length_cons]; omega) (xpv_prev (j := 9) rfl hp) k
theorem xj_iinc10 {a0 a1 a2 a3 a4 a5 a6 a7 a8 a9 : Option Value} {r : List (Option Value)} {n : Int} {x cst : Int32} (hd : decode I.2.1 pc = .ok (.iinc 10 n, 3)) (hn : Int32.ofInt n = cst) (hp : xpv a9 = true) (k : xJ E I R Φ nc ns (pc + 3) (a0 :: a1 :: a2 :: a3 :: a4 :: a5 :: a6 :: a7 :: a8 :: a9 :: some (.int (x + cst)) :: r) st G) : xJ E I R Φ nc ns pc (a0 :: a1 :: a2 :: a3 :: a4 :: a5 :: a6 :: a7 :: a8 :: a9 :: some (.int x) :: r) st G := xj_iinc hd hn rfl (xpv_prev (j := 9) rfl hp) k
theorem xj_ist11 {a0 a1 a2 a3 a4 a5 a6 a7 a8 a9 a10 a11 : Option Value} {r : List (Option Value)} {x : Int32} (hd : decode I.2.1 pc = .ok (.istore 11, 2)) (hp : xpv a10 = true) (k : xJ E I R Φ nc ns (pc + 2) (a0 :: a1 :: a2 :: a3 :: a4 :: a5 :: a6 :: a7 :: a8 :: a9 :: a10 :: some (.int x) :: r) st G) : xJ E I R Φ nc ns pc (a0 :: a1 :: a2 :: a3 :: a4 :: a5 :: a6 :: a7 :: a8 :: a9 :: a10 :: a11 :: r) (.int x :: st) G := xj_istore hd (by simp only [List.length_cons]; omega) (xpv_prev (j := 10) rfl hp) k
theorem xj_ast11 {a0 a1 a2 a3 a4 a5 a6 a7 a8 a9 a10 a11 : Option Value} {r : List (Option Value)} {v : Value} (hd : decode I.2.1 pc = .ok (.astore 11, 2)) (hr : xrf v = true) (hp : xpv a10 = true) (k : xJ E I R Φ nc ns (pc + 2) (a0 :: a1 :: a2 :: a3 :: a4 :: a5 :: a6 :: a7 :: a8 :: a9 :: a10 :: some v :: r) st G) : xJ E I R Φ nc ns pc (a0 :: a1 :: a2 :: a3 :: a4 :: a5 :: a6 :: a7 :: a8 :: a9 :: a10 :: a11 :: r) (v :: st) G := xj_astore hd hr (by simp only [List.length_cons]; omega) (xpv_prev (j := 10) rfl hp) k
theorem xj_lst11 {a0 a1 a2 a3 a4 a5 a6 a7 a8 a9 a10 a11 a12 : Option Value} {r : List (Option Value)} {x : Int64} (hd : decode I.2.1 pc = .ok (.lstore 11, 2)) (hp : xpv a10 = true) (k : xJ E I R Φ nc ns (pc + 2) (a0 :: a1 :: a2 :: a3 :: a4 :: a5 :: a6 :: a7 :: a8 :: a9 :: a10 :: some (.long x) :: none :: r) st G) : xJ E I R Φ nc ns pc (a0 :: a1 :: a2 :: a3 :: a4 :: a5 :: a6 :: a7 :: a8 :: a9 :: a10 :: a11 :: a12 :: r) (.long x :: st) G := xj_lstore hd (by simp only [List.length_cons]; omega) (xpv_prev (j := 10) rfl hp) k
theorem xj_iinc11 {a0 a1 a2 a3 a4 a5 a6 a7 a8 a9 a10 : Option Value} {r : List (Option Value)} {n : Int} {x cst : Int32} (hd : decode I.2.1 pc = .ok (.iinc 11 n, 3)) (hn : Int32.ofInt n = cst) (hp : xpv a10 = true) (k : xJ E I R Φ nc ns (pc + 3) (a0 :: a1 :: a2 :: a3 :: a4 :: a5 :: a6 :: a7 :: a8 :: a9 :: a10 :: some (.int (x + cst)) :: r) st G) : xJ E I R Φ nc ns pc (a0 :: a1 :: a2 :: a3 :: a4 :: a5 :: a6 :: a7 :: a8 :: a9 :: a10 :: some (.int x) :: r) st G := xj_iinc hd hn rfl (xpv_prev (j := 10) rfl hp) k
theorem xj_ist12 {a0 a1 a2 a3 a4 a5 a6 a7 a8 a9 a10 a11 a12 : Option Value} {r : List (Option Value)} {x : Int32} (hd : decode I.2.1 pc = .ok (.istore 12, 2)) (hp : xpv a11 = true) (k : xJ E I R Φ nc ns (pc + 2) (a0 :: a1 :: a2 :: a3 :: a4 :: a5 :: a6 :: a7 :: a8 :: a9 :: a10 :: a11 :: some (.int x) :: r) st G) : xJ E I R Φ nc ns pc (a0 :: a1 :: a2 :: a3 :: a4 :: a5 :: a6 :: a7 :: a8 :: a9 :: a10 :: a11 :: a12 :: r) (.int x :: st) G := xj_istore hd (by simp only [List.length_cons]; omega) (xpv_prev (j := 11) rfl hp) k
theorem xj_ast12 {a0 a1 a2 a3 a4 a5 a6 a7 a8 a9 a10 a11 a12 : Option Value} {r : List (Option Value)} {v : Value} (hd : decode I.2.1 pc = .ok (.astore 12, 2)) (hr : xrf v = true) (hp : xpv a11 = true) (k : xJ E I R Φ nc ns (pc + 2) (a0 :: a1 :: a2 :: a3 :: a4 :: a5 :: a6 :: a7 :: a8 :: a9 :: a10 :: a11 :: some v :: r) st G) : xJ E I R Φ nc ns pc (a0 :: a1 :: a2 :: a3 :: a4 :: a5 :: a6 :: a7 :: a8 :: a9 :: a10 :: a11 :: a12 :: r) (v :: st) G := xj_astore hd hr (by simp only [List.length_cons]; omega) (xpv_prev (j := 11) rfl hp) k
theorem xj_lst12 {a0 a1 a2 a3 a4 a5 a6 a7 a8 a9 a10 a11 a12 a13 : Option Value} {r : List (Option Value)} {x : Int64} (hd : decode I.2.1 pc = .ok (.lstore 12, 2)) (hp : xpv a11 = true) (k : xJ E I R Φ nc ns (pc + 2) (a0 :: a1 :: a2 :: a3 :: a4 :: a5 :: a6 :: a7 :: a8 :: a9 :: a10 :: a11 :: some (.long x) :: none :: r) st G) : xJ E I R Φ nc ns pc (a0 :: a1 :: a2 :: a3 :: a4 :: a5 :: a6 :: a7 :: a8 :: a9 :: a10 :: a11 :: a12 :: a13 :: r) (.long x :: st) G := xj_lstore hd (by simp only [List.length_cons]; omega) (xpv_prev (j := 11) rfl hp) k
theorem xj_iinc12 {a0 a1 a2 a3 a4 a5 a6 a7 a8 a9 a10 a11 : Option Value} {r : List (Option Value)} {n : Int} {x cst : Int32} (hd : decode I.2.1 pc = .ok (.iinc 12 n, 3)) (hn : Int32.ofInt n = cst) (hp : xpv a11 = true) (k : xJ E I R Φ nc ns (pc + 3) (a0 :: a1 :: a2 :: a3 :: a4 :: a5 :: a6 :: a7 :: a8 :: a9 :: a10 :: a11 :: some (.int (x + cst)) :: r) st G) : xJ E I R Φ nc ns pc (a0 :: a1 :: a2 :: a3 :: a4 :: a5 :: a6 :: a7 :: a8 :: a9 :: a10 :: a11 :: some (.int x) :: r) st G := xj_iinc hd hn rfl (xpv_prev (j := 11) rfl hp) k
theorem xj_ist13 {a0 a1 a2 a3 a4 a5 a6 a7 a8 a9 a10 a11 a12 a13 : Option Value} {r : List (Option Value)} {x : Int32} (hd : decode I.2.1 pc = .ok (.istore 13, 2)) (hp : xpv a12 = true) (k : xJ E I R Φ nc ns (pc + 2) (a0 :: a1 :: a2 :: a3 :: a4 :: a5 :: a6 :: a7 :: a8 :: a9 :: a10 :: a11 :: a12 :: some (.int x) :: r) st G) : xJ E I R Φ nc ns pc (a0 :: a1 :: a2 :: a3 :: a4 :: a5 :: a6 :: a7 :: a8 :: a9 :: a10 :: a11 :: a12 :: a13 :: r) (.int x :: st) G := xj_istore hd (by simp only [List.length_cons]; omega) (xpv_prev (j := 12) rfl hp) k
theorem xj_ast13 {a0 a1 a2 a3 a4 a5 a6 a7 a8 a9 a10 a11 a12 a13 : Option Value} {r : List (Option Value)} {v : Value} (hd : decode I.2.1 pc = .ok (.astore 13, 2)) (hr : xrf v = true) (hp : xpv a12 = true) (k : xJ E I R Φ nc ns (pc + 2) (a0 :: a1 :: a2 :: a3 :: a4 :: a5 :: a6 :: a7 :: a8 :: a9 :: a10 :: a11 :: a12 :: some v :: r) st G) : xJ E I R Φ nc ns pc (a0 :: a1 :: a2 :: a3 :: a4 :: a5 :: a6 :: a7 :: a8 :: a9 :: a10 :: a11 :: a12 :: a13 :: r) (v :: st) G := xj_astore hd hr (by simp only [List.length_cons]; omega) (xpv_prev (j := 12) rfl hp) k
theorem xj_lst13 {a0 a1 a2 a3 a4 a5 a6 a7 a8 a9 a10 a11 a12 a13 a14 : Option Value} {r : List (Option Value)} {x : Int64} (hd : decode I.2.1 pc = .ok (.lstore 13, 2)) (hp : xpv a12 = true) (k : xJ E I R Φ nc ns (pc + 2) (a0 :: a1 :: a2 :: a3 :: a4 :: a5 :: a6 :: a7 :: a8 :: a9 :: a10 :: a11 :: a12 :: some (.long x) :: none :: r) st G) : xJ E I R Φ nc ns pc (a0 :: a1 :: a2 :: a3 :: a4 :: a5 :: a6 :: a7 :: a8 :: a9 :: a10 :: a11 :: a12 :: a13 :: a14 :: r) (.long x :: st) G := xj_lstore hd (by simp only [List.length_cons]; omega) (xpv_prev (j := 12) rfl hp) k
theorem xj_iinc13 {a0 a1 a2 a3 a4 a5 a6 a7 a8 a9 a10 a11 a12 : Option Value} {r : List (Option Value)} {n : Int} {x cst : Int32} (hd : decode I.2.1 pc = .ok (.iinc 13 n, 3)) (hn : Int32.ofInt n = cst) (hp : xpv a12 = true) (k : xJ E I R Φ nc ns (pc + 3) (a0 :: a1 :: a2 :: a3 :: a4 :: a5 :: a6 :: a7 :: a8 :: a9 :: a10 :: a11 :: a12 :: some (.int (x + cst)) :: r) st G) : xJ E I R Φ nc ns pc (a0 :: a1 :: a2 :: a3 :: a4 :: a5 :: a6 :: a7 :: a8 :: a9 :: a10 :: a11 :: a12 :: some (.int x) :: r) st G := xj_iinc hd hn rfl (xpv_prev (j := 12) rfl hp) k
theorem xj_ist14 {a0 a1 a2 a3 a4 a5 a6 a7 a8 a9 a10 a11 a12 a13 a14 : Option Value} {r : List (Option Value)} {x : Int32} (hd : decode I.2.1 pc = .ok (.istore 14, 2)) (hp : xpv a13 = true) (k : xJ E I R Φ nc ns (pc + 2) (a0 :: a1 :: a2 :: a3 :: a4 :: a5 :: a6 :: a7 :: a8 :: a9 :: a10 :: a11 :: a12 :: a13 :: some (.int x) :: r) st G) : xJ E I R Φ nc ns pc (a0 :: a1 :: a2 :: a3 :: a4 :: a5 :: a6 :: a7 :: a8 :: a9 :: a10 :: a11 :: a12 :: a13 :: a14 :: r) (.int x :: st) G := xj_istore hd (by simp only [List.length_cons]; omega) (xpv_prev (j := 13) rfl hp) k
theorem xj_ast14 {a0 a1 a2 a3 a4 a5 a6 a7 a8 a9 a10 a11 a12 a13 a14 : Option Value} {r : List (Option Value)} {v : Value} (hd : decode I.2.1 pc = .ok (.astore 14, 2)) (hr : xrf v = true) (hp : xpv a13 = true) (k : xJ E I R Φ nc ns (pc + 2) (a0 :: a1 :: a2 :: a3 :: a4 :: a5 :: a6 :: a7 :: a8 :: a9 :: a10 :: a11 :: a12 :: a13 :: some v :: r) st G) : xJ E I R Φ nc ns pc (a0 :: a1 :: a2 :: a3 :: a4 :: a5 :: a6 :: a7 :: a8 :: a9 :: a10 :: a11 :: a12 :: a13 :: a14 :: r) (v :: st) G := xj_astore hd hr (by simp only [List.length_cons]; omega) (xpv_prev (j := 13) rfl hp) k
theorem xj_lst14 {a0 a1 a2 a3 a4 a5 a6 a7 a8 a9 a10 a11 a12 a13 a14 a15 : Option Value} {r : List (Option Value)} {x : Int64} (hd : decode I.2.1 pc = .ok (.lstore 14, 2)) (hp : xpv a13 = true) (k : xJ E I R Φ nc ns (pc + 2) (a0 :: a1 :: a2 :: a3 :: a4 :: a5 :: a6 :: a7 :: a8 :: a9 :: a10 :: a11 :: a12 :: a13 :: some (.long x) :: none :: r) st G) : xJ E I R Φ nc ns pc (a0 :: a1 :: a2 :: a3 :: a4 :: a5 :: a6 :: a7 :: a8 :: a9 :: a10 :: a11 :: a12 :: a13 :: a14 :: a15 :: r) (.long x :: st) G := xj_lstore hd (by simp only [List.length_cons]; omega) (xpv_prev (j := 13) rfl hp) k
theorem xj_iinc14 {a0 a1 a2 a3 a4 a5 a6 a7 a8 a9 a10 a11 a12 a13 : Option Value} {r : List (Option Value)} {n : Int} {x cst : Int32} (hd : decode I.2.1 pc = .ok (.iinc 14 n, 3)) (hn : Int32.ofInt n = cst) (hp : xpv a13 = true) (k : xJ E I R Φ nc ns (pc + 3) (a0 :: a1 :: a2 :: a3 :: a4 :: a5 :: a6 :: a7 :: a8 :: a9 :: a10 :: a11 :: a12 :: a13 :: some (.int (x + cst)) :: r) st G) : xJ E I R Φ nc ns pc (a0 :: a1 :: a2 :: a3 :: a4 :: a5 :: a6 :: a7 :: a8 :: a9 :: a10 :: a11 :: a12 :: a13 :: some (.int x) :: r) st G := xj_iinc hd hn rfl (xpv_prev (j := 13) rfl hp) k
theorem xj_ist15 {a0 a1 a2 a3 a4 a5 a6 a7 a8 a9 a10 a11 a12 a13 a14 a15 : Option Value} {r : List (Option Value)} {x : Int32} (hd : decode I.2.1 pc = .ok (.istore 15, 2)) (hp : xpv a14 = true) (k : xJ E I R Φ nc ns (pc + 2) (a0 :: a1 :: a2 :: a3 :: a4 :: a5 :: a6 :: a7 :: a8 :: a9 :: a10 :: a11 :: a12 :: a13 :: a14 :: some (.int x) :: r) st G) : xJ E I R Φ nc ns pc (a0 :: a1 :: a2 :: a3 :: a4 :: a5 :: a6 :: a7 :: a8 :: a9 :: a10 :: a11 :: a12 :: a13 :: a14 :: a15 :: r) (.int x :: st) G := xj_istore hd (by simp only [List.length_cons]; omega) (xpv_prev (j := 14) rfl hp) k
theorem xj_ast15 {a0 a1 a2 a3 a4 a5 a6 a7 a8 a9 a10 a11 a12 a13 a14 a15 : Option Value} {r : List (Option Value)} {v : Value} (hd : decode I.2.1 pc = .ok (.astore 15, 2)) (hr : xrf v = true) (hp : xpv a14 = true) (k : xJ E I R Φ nc ns (pc + 2) (a0 :: a1 :: a2 :: a3 :: a4 :: a5 :: a6 :: a7 :: a8 :: a9 :: a10 :: a11 :: a12 :: a13 :: a14 :: some v :: r) st G) : xJ E I R Φ nc ns pc (a0 :: a1 :: a2 :: a3 :: a4 :: a5 :: a6 :: a7 :: a8 :: a9 :: a10 :: a11 :: a12 :: a13 :: a14 :: a15 :: r) (v :: st) G := xj_astore hd hr (by simp only [List.length_cons]; omega) (xpv_prev (j := 14) rfl hp) k
theorem xj_lst15 {a0 a1 a2 a3 a4 a5 a6 a7 a8 a9 a10 a11 a12 a13 a14 a15 a16 : Option Value} {r : List (Option Value)} {x : Int64} (hd : decode I.2.1 pc = .ok (.lstore 15, 2)) (hp : xpv a14 = true) (k : xJ E I R Φ nc ns (pc + 2) (a0 :: a1 :: a2 :: a3 :: a4 :: a5 :: a6 :: a7 :: a8 :: a9 :: a10 :: a11 :: a12 :: a13 :: a14 :: some (.long x) :: none :: r) st G) : xJ E I R Φ nc ns pc (a0 :: a1 :: a2 :: a3 :: a4 :: a5 :: a6 :: a7 :: a8 :: a9 :: a10 :: a11 :: a12 :: a13 :: a14 :: a15 :: a16 :: r) (.long x :: st) G := xj_lstore hd (by simp only [List.length_cons]; omega) (xpv_prev (j := 14) rfl hp) k
theorem xj_iinc15 {a0 a1 a2 a3 a4 a5 a6 a7 a8 a9 a10 a11 a12 a13 a14 : Option Value} {r : List (Option Value)} {n : Int} {x cst : Int32} (hd : decode I.2.1 pc = .ok (.iinc 15 n, 3)) (hn : Int32.ofInt n = cst) (hp : xpv a14 = true) (k : xJ E I R Φ nc ns (pc + 3) (a0 :: a1 :: a2 :: a3 :: a4 :: a5 :: a6 :: a7 :: a8 :: a9 :: a10 :: a11 :: a12 :: a13 :: a14 :: some (.int (x + cst)) :: r) st G) : xJ E I R Φ nc ns pc (a0 :: a1 :: a2 :: a3 :: a4 :: a5 :: a6 :: a7 :: a8 :: a9 :: a10 :: a11 :: a12 :: a13 :: a14 :: some (.int x) :: r) st G := xj_iinc hd hn rfl (xpv_prev (j := 14) rfl hp) k
theorem xj_ist16 {a0 a1 a2 a3 a4 a5 a6 a7 a8 a9 a10 a11 a12 a13 a14 a15 a16 : Option Value} {r : List (Option Value)} {x : Int32} (hd : decode I.2.1 pc = .ok (.istore 16, 2)) (hp : xpv a15 = true) (k : xJ E I R Φ nc ns (pc + 2) (a0 :: a1 :: a2 :: a3 :: a4 :: a5 :: a6 :: a7 :: a8 :: a9 :: a10 :: a11 :: a12 :: a13 :: a14 :: a15 :: some (.int x) :: r) st G) : xJ E I R Φ nc ns pc (a0 :: a1 :: a2 :: a3 :: a4 :: a5 :: a6 :: a7 :: a8 :: a9 :: a10 :: a11 :: a12 :: a13 :: a14 :: a15 :: a16 :: r) (.int x :: st) G := xj_istore hd (by simp only [List.length_cons]; omega) (xpv_prev (j := 15) rfl hp) k
theorem xj_ast16 {a0 a1 a2 a3 a4 a5 a6 a7 a8 a9 a10 a11 a12 a13 a14 a15 a16 : Option Value} {r : List (Option Value)} {v : Value} (hd : decode I.2.1 pc = .ok (.astore 16, 2)) (hr : xrf v = true) (hp : xpv a15 = true) (k : xJ E I R Φ nc ns (pc + 2) (a0 :: a1 :: a2 :: a3 :: a4 :: a5 :: a6 :: a7 :: a8 :: a9 :: a10 :: a11 :: a12 :: a13 :: a14 :: a15 :: some v :: r) st G) : xJ E I R Φ nc ns pc (a0 :: a1 :: a2 :: a3 :: a4 :: a5 :: a6 :: a7 :: a8 :: a9 :: a10 :: a11 :: a12 :: a13 :: a14 :: a15 :: a16 :: r) (v :: st) G := xj_astore hd hr (by simp only [List.length_cons]; omega) (xpv_prev (j := 15) rfl hp) k
theorem xj_lst16 {a0 a1 a2 a3 a4 a5 a6 a7 a8 a9 a10 a11 a12 a13 a14 a15 a16 a17 : Option Value} {r : List (Option Value)} {x : Int64} (hd : decode I.2.1 pc = .ok (.lstore 16, 2)) (hp : xpv a15 = true) (k : xJ E I R Φ nc ns (pc + 2) (a0 :: a1 :: a2 :: a3 :: a4 :: a5 :: a6 :: a7 :: a8 :: a9 :: a10 :: a11 :: a12 :: a13 :: a14 :: a15 :: some (.long x) :: none :: r) st G) : xJ E I R Φ nc ns pc (a0 :: a1 :: a2 :: a3 :: a4 :: a5 :: a6 :: a7 :: a8 :: a9 :: a10 :: a11 :: a12 :: a13 :: a14 :: a15 :: a16 :: a17 :: r) (.long x :: st) G := xj_lstore hd (by simp only [List.length_cons]; omega) (xpv_prev (j := 15) rfl hp) k
theorem xj_iinc16 {a0 a1 a2 a3 a4 a5 a6 a7 a8 a9 a10 a11 a12 a13 a14 a15 : Option Value} {r : List (Option Value)} {n : Int} {x cst : Int32} (hd : decode I.2.1 pc = .ok (.iinc 16 n, 3)) (hn : Int32.ofInt n = cst) (hp : xpv a15 = true) (k : xJ E I R Φ nc ns (pc + 3) (a0 :: a1 :: a2 :: a3 :: a4 :: a5 :: a6 :: a7 :: a8 :: a9 :: a10 :: a11 :: a12 :: a13 :: a14 :: a15 :: some (.int (x + cst)) :: r) st G) : xJ E I R Φ nc ns pc (a0 :: a1 :: a2 :: a3 :: a4 :: a5 :: a6 :: a7 :: a8 :: a9 :: a10 :: a11 :: a12 :: a13 :: a14 :: a15 :: some (.int x) :: r) st G := xj_iinc hd hn rfl (xpv_prev (j := 15) rfl hp) k
theorem xj_ist17 {a0 a1 a2 a3 a4 a5 a6 a7 a8 a9 a10 a11 a12 a13 a14 a15 a16 a17 : Option Value} {r : List (Option Value)} {x : Int32} (hd : decode I.2.1 pc = .ok (.istore 17, 2)) (hp : xpv a16 = true) (k : xJ E I R Φ nc ns (pc + 2) (a0 :: a1 :: a2 :: a3 :: a4 :: a5 :: a6 :: a7 :: a8 :: a9 :: a10 :: a11 :: a12 :: a13 :: a14 :: a15 :: a16 :: some (.int x) :: r) st G) : xJ E I R Φ nc ns pc (a0 :: a1 :: a2 :: a3 :: a4 :: a5 :: a6 :: a7 :: a8 :: a9 :: a10 :: a11 :: a12 :: a13 :: a14 :: a15 :: a16 :: a17 :: r) (.int x :: st) G := xj_istore hd (by simp only [List.length_cons]; omega) (xpv_prev (j := 16) rfl hp) k
theorem xj_ast17 {a0 a1 a2 a3 a4 a5 a6 a7 a8 a9 a10 a11 a12 a13 a14 a15 a16 a17 : Option Value} {r : List (Option Value)} {v : Value} (hd : decode I.2.1 pc = .ok (.astore 17, 2)) (hr : xrf v = true) (hp : xpv a16 = true) (k : xJ E I R Φ nc ns (pc + 2) (a0 :: a1 :: a2 :: a3 :: a4 :: a5 :: a6 :: a7 :: a8 :: a9 :: a10 :: a11 :: a12 :: a13 :: a14 :: a15 :: a16 :: some v :: r) st G) : xJ E I R Φ nc ns pc (a0 :: a1 :: a2 :: a3 :: a4 :: a5 :: a6 :: a7 :: a8 :: a9 :: a10 :: a11 :: a12 :: a13 :: a14 :: a15 :: a16 :: a17 :: r) (v :: st) G := xj_astore hd hr (by simp only [List.length_cons]; omega) (xpv_prev (j := 16) rfl hp) k
theorem xj_lst17 {a0 a1 a2 a3 a4 a5 a6 a7 a8 a9 a10 a11 a12 a13 a14 a15 a16 a17 a18 : Option Value} {r : List (Option Value)} {x : Int64} (hd : decode I.2.1 pc = .ok (.lstore 17, 2)) (hp : xpv a16 = true) (k : xJ E I R Φ nc ns (pc + 2) (a0 :: a1 :: a2 :: a3 :: a4 :: a5 :: a6 :: a7 :: a8 :: a9 :: a10 :: a11 :: a12 :: a13 :: a14 :: a15 :: a16 :: some (.long x) :: none :: r) st G) : xJ E I R Φ nc ns pc (a0 :: a1 :: a2 :: a3 :: a4 :: a5 :: a6 :: a7 :: a8 :: a9 :: a10 :: a11 :: a12 :: a13 :: a14 :: a15 :: a16 :: a17 :: a18 :: r) (.long x :: st) G := xj_lstore hd (by simp only [List.length_cons]; omega) (xpv_prev (j := 16) rfl hp) k
theorem xj_iinc17 {a0 a1 a2 a3 a4 a5 a6 a7 a8 a9 a10 a11 a12 a13 a14 a15 a16 : Option Value} {r : List (Option Value)} {n : Int} {x cst : Int32} (hd : decode I.2.1 pc = .ok (.iinc 17 n, 3)) (hn : Int32.ofInt n = cst) (hp : xpv a16 = true) (k : xJ E I R Φ nc ns (pc + 3) (a0 :: a1 :: a2 :: a3 :: a4 :: a5 :: a6 :: a7 :: a8 :: a9 :: a10 :: a11 :: a12 :: a13 :: a14 :: a15 :: a16 :: some (.int (x + cst)) :: r) st G) : xJ E I R Φ nc ns pc (a0 :: a1 :: a2 :: a3 :: a4 :: a5 :: a6 :: a7 :: a8 :: a9 :: a10 :: a11 :: a12 :: a13 :: a14 :: a15 :: a16 :: some (.int x) :: r) st G := xj_iinc hd hn rfl (xpv_prev (j := 16) rfl hp) k
theorem xj_ist18 {a0 a1 a2 a3 a4 a5 a6 a7 a8 a9 a10 a11 a12 a13 a14 a15 a16 a17 a18 : Option Value} {r : List (Option Value)} {x : Int32} (hd : decode I.2.1 pc = .ok (.istore 18, 2)) (hp : xpv a17 = true) (k : xJ E I R Φ nc ns (pc + 2) (a0 :: a1 :: a2 :: a3 :: a4 :: a5 :: a6 :: a7 :: a8 :: a9 :: a10 :: a11 :: a12 :: a13 :: a14 :: a15 :: a16 :: a17 :: some (.int x) :: r) st G) : xJ E I R Φ nc ns pc (a0 :: a1 :: a2 :: a3 :: a4 :: a5 :: a6 :: a7 :: a8 :: a9 :: a10 :: a11 :: a12 :: a13 :: a14 :: a15 :: a16 :: a17 :: a18 :: r) (.int x :: st) G := xj_istore hd (by simp only [List.length_cons]; omega) (xpv_prev (j := 17) rfl hp) k
theorem xj_ast18 {a0 a1 a2 a3 a4 a5 a6 a7 a8 a9 a10 a11 a12 a13 a14 a15 a16 a17 a18 : Option Value} {r : List (Option Value)} {v : Value} (hd : decode I.2.1 pc = .ok (.astore 18, 2)) (hr : xrf v = true) (hp : xpv a17 = true) (k : xJ E I R Φ nc ns (pc + 2) (a0 :: a1 :: a2 :: a3 :: a4 :: a5 :: a6 :: a7 :: a8 :: a9 :: a10 :: a11 :: a12 :: a13 :: a14 :: a15 :: a16 :: a17 :: some v :: r) st G) : xJ E I R Φ nc ns pc (a0 :: a1 :: a2 :: a3 :: a4 :: a5 :: a6 :: a7 :: a8 :: a9 :: a10 :: a11 :: a12 :: a13 :: a14 :: a15 :: a16 :: a17 :: a18 :: r) (v :: st) G := xj_astore hd hr (by simp only [List.length_cons]; omega) (xpv_prev (j := 17) rfl hp) k
theorem xj_lst18 {a0 a1 a2 a3 a4 a5 a6 a7 a8 a9 a10 a11 a12 a13 a14 a15 a16 a17 a18 a19 : Option Value} {r : List (Option Value)} {x : Int64} (hd : decode I.2.1 pc = .ok (.lstore 18, 2)) (hp : xpv a17 = true) (k : xJ E I R Φ nc ns (pc + 2) (a0 :: a1 :: a2 :: a3 :: a4 :: a5 :: a6 :: a7 :: a8 :: a9 :: a10 :: a11 :: a12 :: a13 :: a14 :: a15 :: a16 :: a17 :: some (.long x) :: none :: r) st G) : xJ E I R Φ nc ns pc (a0 :: a1 :: a2 :: a3 :: a4 :: a5 :: a6 :: a7 :: a8 :: a9 :: a10 :: a11 :: a12 :: a13 :: a14 :: a15 :: a16 :: a17 :: a18 :: a19 :: r) (.long x :: st) G := xj_lstore hd (by simp only [List.length_cons]; omega) (xpv_prev (j := 17) rfl hp) k
theorem xj_iinc18 {a0 a1 a2 a3 a4 a5 a6 a7 a8 a9 a10 a11 a12 a13 a14 a15 a16 a17 : Option Value} {r : List (Option Value)} {n : Int} {x cst : Int32} (hd : decode I.2.1 pc = .ok (.iinc 18 n, 3)) (hn : Int32.ofInt n = cst) (hp : xpv a17 = true) (k : xJ E I R Φ nc ns (pc + 3) (a0 :: a1 :: a2 :: a3 :: a4 :: a5 :: a6 :: a7 :: a8 :: a9 :: a10 :: a11 :: a12 :: a13 :: a14 :: a15 :: a16 :: a17 :: some (.int (x + cst)) :: r) st G) : xJ E I R Φ nc ns pc (a0 :: a1 :: a2 :: a3 :: a4 :: a5 :: a6 :: a7 :: a8 :: a9 :: a10 :: a11 :: a12 :: a13 :: a14 :: a15 :: a16 :: a17 :: some (.int x) :: r) st G := xj_iinc hd hn rfl (xpv_prev (j := 17) rfl hp) k
theorem xj_ist19 {a0 a1 a2 a3 a4 a5 a6 a7 a8 a9 a10 a11 a12 a13 a14 a15 a16 a17 a18 a19 : Option Value} {r : List (Option Value)} {x : Int32} (hd : decode I.2.1 pc = .ok (.istore 19, 2)) (hp : xpv a18 = true) (k : xJ E I R Φ nc ns (pc + 2) (a0 :: a1 :: a2 :: a3 :: a4 :: a5 :: a6 :: a7 :: a8 :: a9 :: a10 :: a11 :: a12 :: a13 :: a14 :: a15 :: a16 :: a17 :: a18 :: some (.int x) :: r) st G) : xJ E I R Φ nc ns pc (a0 :: a1 :: a2 :: a3 :: a4 :: a5 :: a6 :: a7 :: a8 :: a9 :: a10 :: a11 :: a12 :: a13 :: a14 :: a15 :: a16 :: a17 :: a18 :: a19 :: r) (.int x :: st) G := xj_istore hd (by simp only [List.length_cons]; omega) (xpv_prev (j := 18) rfl hp) k
theorem xj_ast19 {a0 a1 a2 a3 a4 a5 a6 a7 a8 a9 a10 a11 a12 a13 a14 a15 a16 a17 a18 a19 : Option Value} {r : List (Option Value)} {v : Value} (hd : decode I.2.1 pc = .ok (.astore 19, 2)) (hr : xrf v = true) (hp : xpv a18 = true) (k : xJ E I R Φ nc ns (pc + 2) (a0 :: a1 :: a2 :: a3 :: a4 :: a5 :: a6 :: a7 :: a8 :: a9 :: a10 :: a11 :: a12 :: a13 :: a14 :: a15 :: a16 :: a17 :: a18 :: some v :: r) st G) : xJ E I R Φ nc ns pc (a0 :: a1 :: a2 :: a3 :: a4 :: a5 :: a6 :: a7 :: a8 :: a9 :: a10 :: a11 :: a12 :: a13 :: a14 :: a15 :: a16 :: a17 :: a18 :: a19 :: r) (v :: st) G := xj_astore hd hr (by simp only [List.length_cons]; omega) (xpv_prev (j := 18) rfl hp) k
theorem xj_lst19 {a0 a1 a2 a3 a4 a5 a6 a7 a8 a9 a10 a11 a12 a13 a14 a15 a16 a17 a18 a19 a20 : Option Value} {r : List (Option Value)} {x : Int64} (hd : decode I.2.1 pc = .ok (.lstore 19, 2)) (hp : xpv a18 = true) (k : xJ E I R Φ nc ns (pc + 2) (a0 :: a1 :: a2 :: a3 :: a4 :: a5 :: a6 :: a7 :: a8 :: a9 :: a10 :: a11 :: a12 :: a13 :: a14 :: a15 :: a16 :: a17 :: a18 :: some (.long x) :: none :: r) st G) : xJ E I R Φ nc ns pc (a0 :: a1 :: a2 :: a3 :: a4 :: a5 :: a6 :: a7 :: a8 :: a9 :: a10 :: a11 :: a12 :: a13 :: a14 :: a15 :: a16 :: a17 :: a18 :: a19 :: a20 :: r) (.long x :: st) G := xj_lstore hd (by simp only [List.length_cons]; omega) (xpv_prev (j := 18) rfl hp) k
theorem xj_iinc19 {a0 a1 a2 a3 a4 a5 a6 a7 a8 a9 a10 a11 a12 a13 a14 a15 a16 a17 a18 : Option Value} {r : List (Option Value)} {n : Int} {x cst : Int32} (hd : decode I.2.1 pc = .ok (.iinc 19 n, 3)) (hn : Int32.ofInt n = cst) (hp : xpv a18 = true) (k : xJ E I R Φ nc ns (pc + 3) (a0 :: a1 :: a2 :: a3 :: a4 :: a5 :: a6 :: a7 :: a8 :: a9 :: a10 :: a11 :: a12 :: a13 :: a14 :: a15 :: a16 :: a17 :: a18 :: some (.int (x + cst)) :: r) st G) : xJ E I R Φ nc ns pc (a0 :: a1 :: a2 :: a3 :: a4 :: a5 :: a6 :: a7 :: a8 :: a9 :: a10 :: a11 :: a12 :: a13 :: a14 :: a15 :: a16 :: a17 :: a18 :: some (.int x) :: r) st G := xj_iinc hd hn rfl (xpv_prev (j := 18) rfl hp) k
/-! ===== fields ===== -/
def xcls (ci : Nat) (C : String) (T : u_T) (N : Nat) (ty : Nat → FieldType) : Prop := xcl[ci]? = some (C, T, N) ∧ (∀ w ∈ u_ws C T N, w ∈ lw_all) ∧ (∀ k, k < N → parseFieldDescriptor (T k).2.2.1 = some (ty k)) ∧ (∀ a, a < N → ∀ b, b < N → a ≠ b → (T a).2.1 ≠ (T b).2.1)
theorem xP1 {D : va_G} {a : Nat} {e : va_E} {H : Heap} (h : va_at D xcl (a, e) H) : va_P D xcl [(a, e)] H := fun k q hq => by
  have hz : k < 1 := (List.getElem?_eq_some_iff.mp hq).1
  rw [show k = 0 by omega] at hq
  cases hq
  exact h
theorem xWd.obj {G : xH} {H : Heap} (w : xWd E G H) {a ci : Nat} {fs : List Value} (hg : G[a]? = some (cO ci fs)) : va_P E.2.2.2.1 xcl [(xb E + a, .inr (ci, fs.map (xv E)))] H := xP1 (w.2.2 a _ hg)
theorem xOK.nestF {U : State} (ok : xOK E) (hW : E.2.1.WarmedH U.vm) {a : String} {i : Nat} {b n d h : String} (hw : Cond.fieldLinkNest a i b n d h ∈ lw_tbl) (A : Array Value) : (Cond.fieldLinkNest a i b n d h).before A U = true :=
  va_Nw.use rfl (va_Nw.warmF hW (va_Nw.of rfl (ok.2.1 _ hw)))
theorem xOK.nestM {U : State} (ok : xOK E) (hW : E.2.1.WarmedH U.vm) {a : String} {i : Nat} {x : MethodName} {h : String} (hw : Cond.methodLinkNest a i x h ∈ lw_tbl) (A : Array Value) : (Cond.methodLinkNest a i x h).before A U = true :=
  va_Nw.use rfl (va_Nw.warmM hW (va_Nw.of rfl (ok.2.1 _ hw)))
def xfit : FieldType → Value → Bool
  | .boolean, .int x => x == 0 || x == 1
  | .int, .int _ => true
  | .long, .long _ => true
  | .object _, v => xrf v
  | .array _, v => xrf v
  | _, _ => false
theorem xfit_ok {ty : FieldType} {v : Value} (h : xfit ty v = true) : narrow ty (xv E v) = xv E v ∧ fits ty (xv E v) = true := by
  cases ty with
  | boolean =>
    cases v with
    | int x =>
      simp only [xfit, Bool.or_eq_true, beq_iff_eq] at h
      rcases h with h | h <;> subst h <;> exact ⟨rfl, rfl⟩
    | _ => simp [xfit] at h
  | int => cases v <;> first | exact ⟨rfl, rfl⟩ | (simp [xfit] at h)
  | long => cases v <;> first | exact ⟨rfl, rfl⟩ | (simp [xfit] at h)
  | object C => cases v <;> first | exact ⟨rfl, rfl⟩ | (simp [xfit, xrf] at h)
  | array t => cases v <;> first | exact ⟨rfl, rfl⟩ | (simp [xfit, xrf] at h)
  | byte => cases v <;> simp [xfit] at h
  | char => cases v <;> simp [xfit] at h
  | short => cases v <;> simp [xfit] at h
  | float => cases v <;> simp [xfit] at h
  | double => cases v <;> simp [xfit] at h
theorem xj_get {ci idx a N : Nat} {C : String} {T : u_T} {ty : Nat → FieldType} {fs : List Value} {v : Value} (hd : decode I.2.1 pc = .ok (.getfield idx, 3)) (hc : xcls ci C T N ty) (k : Nat) (hk : k < N) (hw : Cond.fieldLink I.1.cls idx (T k).1 (T k).2.1 (T k).2.2.1 ∈ lw_all) (hg : G[a]? = some (cO ci fs)) (hv : fs[k]? = some v)
    (kk : xJ E I R Φ nc ns (pc + 3) lv (v :: st) G) : xJ E I R Φ nc ns pc lv (.ref a :: st) G := by
  intro p e s m args below meth c H locs cells slots ls B
  have hW := B.2.1.2.2.2.2.2.2.1
  exact va_get B.2.1.1 B.2.1.2.1 (B.1.words hW args) hc.2.1 B.2.1.2.2.2.2.2.1 (B.1.K hW) (B.2.2.1.obj hg) 0 rfl hc.1 k hk (B.1.word hW hw args) (fun x h => h) (v := xv E v) (by rw [List.getElem?_map, hv]; rfl) hd (kk p e s m args below meth c H locs cells slots ls B)
/-- a field of a class above, named by the class below -/
theorem xj_getS {ci idx a N : Nat} {C ref : String} {T : u_T} {ty : Nat → FieldType} {fs : List Value} {v : Value} (hd : decode I.2.1 pc = .ok (.getfield idx, 3)) (hc : xcls ci C T N ty) (k : Nat) (hk : k < N) (hw : Cond.fieldLink I.1.cls idx ref (T k).2.1 (T k).2.2.1 ∈ lw_all) (hs : Cond.sameField ref (T k).1 (T k).2.1 (T k).2.2.1 ∈ lw_all) (hg : G[a]? = some (cO ci fs)) (hv : fs[k]? = some v)
    (kk : xJ E I R Φ nc ns (pc + 3) lv (v :: st) G) : xJ E I R Φ nc ns pc lv (.ref a :: st) G := by
  intro p e s m args below meth c H locs cells slots ls B
  have hW := B.2.1.2.2.2.2.2.2.1
  exact va_get B.2.1.1 B.2.1.2.1 (B.1.words hW args) hc.2.1 B.2.1.2.2.2.2.2.1 (B.1.K hW) (B.2.2.1.obj hg) 0 rfl hc.1 k hk (B.1.word hW hw args) (u_same (B.1.word hW hs args)) (v := xv E v) (by rw [List.getElem?_map, hv]; rfl) hd (kk p e s m args below meth c H locs cells slots ls B)
theorem xj_getN {ci idx a N : Nat} {C host : String} {T : u_T} {ty : Nat → FieldType} {fs : List Value} {v : Value} (hd : decode I.2.1 pc = .ok (.getfield idx, 3)) (hc : xcls ci C T N ty) (k : Nat) (hk : k < N) (hw : Cond.fieldLinkNest I.1.cls idx (T k).1 (T k).2.1 (T k).2.2.1 host ∈ lw_tbl) (hg : G[a]? = some (cO ci fs)) (hv : fs[k]? = some v)
    (kk : xJ E I R Φ nc ns (pc + 3) lv (v :: st) G) : xJ E I R Φ nc ns pc lv (.ref a :: st) G := by
  intro p e s m args below meth c H locs cells slots ls B
  have hW := B.2.1.2.2.2.2.2.2.1
  exact va_getN B.2.1.1 B.2.1.2.1 (B.1.words hW args) hc.2.1 B.2.1.2.2.2.2.2.1 (B.1.K hW) (B.2.2.1.obj hg) 0 rfl hc.1 k hk (B.1.nestF hW hw args) (fun x h => h) (v := xv E v) (by rw [List.getElem?_map, hv]; rfl) hd (kk p e s m args below meth c H locs cells slots ls B)
/-- the world behind a field's writing -/
theorem xWd.put {G : xH} {H H' : Heap} (w : xWd E G H) {a ci N k : Nat} {C : String} {T : u_T} {fs : List Value} {v : Value} {cell : Cell} (hc : xcl[ci]? = some (C, T, N)) (hk : k < N) (hl : k < fs.length) (q2 : cell.cls = E.2.2.2.1.1 ci) (q3 : cell.vm = .none) (q4 : ∀ j, j < N → cell.slots[(E.2.2.2.1.2 ci) j]? = some (vp_V (fs.map (xv E)) j))
    (hap : ∀ x y, x < N → y < N → x ≠ y → (E.2.2.2.1.2 ci) x ≠ (E.2.2.2.1.2 ci) y) (e1 : H'[xb E + a]? = some (cell.setSlot ((E.2.2.2.1.2 ci) k) (xv E v))) (e2 : H'.size = H.size) (e3 : ∀ q, q ≠ xb E + a → H'[q]? = H[q]?) : xWd E (G.set a (cO ci (fs.set k v))) H' := by
  refine w.set e2 e3 ⟨_, hc, ?_⟩
  show t_OB (xb E + a) (E.2.2.2.1.1 ci) N (E.2.2.2.1.2 ci) H' (vp_V ((fs.set k v).map (xv E)))
  rw [List.map_set]
  exact t_OB.to (V := updV (vp_V (fs.map (xv E))) k (xv E v)) ⟨_, e1, q2, q3, t_set q4 hap hk (xv E v)⟩ (fun j _ => vp_updV_set (by rw [List.length_map]; exact hl) (xv E v) j)
theorem xj_put {ci idx a N : Nat} {C : String} {T : u_T} {ty : Nat → FieldType} {fs : List Value} {v : Value} (hd : decode I.2.1 pc = .ok (.putfield idx, 3)) (hc : xcls ci C T N ty) (k : Nat) (hk : k < N) (hw : Cond.fieldLink I.1.cls idx (T k).1 (T k).2.1 (T k).2.2.1 ∈ lw_all) (hfin : (T k).2.2.2 = false) (hok : xfit (ty k) v = true) (hg : G[a]? = some (cO ci fs)) (hl : k < fs.length)
    (kk : xJ E I R Φ nc ns (pc + 3) lv st (G.set a (cO ci (fs.set k v)))) : xJ E I R Φ nc ns pc lv (v :: .ref a :: st) G := by
  intro p e s m args below meth c H locs cells slots ls B
  have hW := B.2.1.2.2.2.2.2.2.1
  have hts := B.1.words hW args
  have hK := B.1.K hW
  have hap := va_apart (own := I.1.cls) hts hc.2.1 ty hc.2.2.1 hc.2.2.2 hK hc.1
  obtain ⟨r, h1, cell, q1, q2, q3, q4⟩ := B.2.2.1.2.2 a _ hg
  have hr : r = (C, T, N) := Option.some.inj (h1.symm.trans hc.1)
  subst hr
  obtain ⟨hS, hfc, kC, hkC, hkind⟩ := hK.1 ci _ hc.1
  obtain ⟨cf, kf, fi, f, hi, hsl⟩ := hS k hk
  have hlay := hts _ (hc.2.1 _ (u_in_lay hk))
  unfold u_lay at hlay
  rw [if_neg (by rw [hfin]; decide)] at hlay
  have hst := (u_facts hfc hkC (u_lays hts hc.2.1 hk) hi).1
  obtain ⟨hn, hfit⟩ := xfit_ok (E := E) hok
  have h6 := u_store hfc hkC hkind hlay hi (hc.2.2.1 k hk) hn hfit
  refine W.putK B.2.1.1 B.2.1.2.1 (f := f) ⟨B.2.1.2.2.2.2.2.1, B.1.word hW hw args, ⟨_, _, _, hi⟩, hst⟩ (by rw [q2]; exact h6) q1 q3 (by rw [hsl]; exact k2_hasslot (q4 k hk)) rfl rfl hd fun H' e1 e2 e3 => ?_
  rw [hsl] at e1 ⊢
  exact kk p e s m args below meth c H' _ cells slots ls ⟨B.1, B.2.1, B.2.2.1.put hc.1 hk hl q2 q3 q4 hap e1 e2 e3, by rw [e2]; exact B.2.2.2.1, t_lc (free := fun q => xb E ≤ q) B.2.2.2.2.1 (Nat.le_add_right _ _), B.2.2.2.2.2⟩
theorem xj_putF {ci idx a N : Nat} {C : String} {T : u_T} {ty : Nat → FieldType} {fs : List Value} {v : Value} (hd : decode I.2.1 pc = .ok (.putfield idx, 3)) (hc : xcls ci C T N ty) (k : Nat) (hk : k < N) (hw : Cond.fieldLink I.1.cls idx (T k).1 (T k).2.1 (T k).2.2.1 ∈ lw_all) (hfin : (T k).2.2.2 = true) (hin : I.1.name = "<init>") (hdecl : (T k).1 = I.1.cls) (hok : xfit (ty k) v = true) (hg : G[a]? = some (cO ci fs)) (hl : k < fs.length)
    (kk : xJ E I R Φ nc ns (pc + 3) lv st (G.set a (cO ci (fs.set k v)))) : xJ E I R Φ nc ns pc lv (v :: .ref a :: st) G := by
  intro p e s m args below meth c H locs cells slots ls B
  have hW := B.2.1.2.2.2.2.2.2.1
  have hts := B.1.words hW args
  have hK := B.1.K hW
  have hap := va_apart (own := I.1.cls) hts hc.2.1 ty hc.2.2.1 hc.2.2.2 hK hc.1
  obtain ⟨r, h1, cell, q1, q2, q3, q4⟩ := B.2.2.1.2.2 a _ hg
  have hr : r = (C, T, N) := Option.some.inj (h1.symm.trans hc.1)
  subst hr
  obtain ⟨hS, hfc, kC, hkC, hkind⟩ := hK.1 ci _ hc.1
  obtain ⟨cf, kf, fi, f, hi, hsl⟩ := hS k hk
  have hlay := hts _ (hc.2.1 _ (u_in_lay hk))
  unfold u_lay at hlay
  rw [if_pos hfin] at hlay
  have hst := (u_facts hfc hkC (u_lays hts hc.2.1 hk) hi).1
  have hcf : m.cls = cf := by
    obtain ⟨_, _, c', _, _, _, -, -, hf', -, -, -, hown2, -⟩ := Cond.laysFinal_spec hlay
    have e1 : c' = cf := by have := hi.symm.trans hf'; simp at this; exact this.1.symm
    rw [hdecl] at hown2
    rw [← e1]; exact Option.some.inj (B.2.1.2.2.2.2.2.1.symm.trans hown2)
  obtain ⟨hn, hfit⟩ := xfit_ok (E := E) hok
  have h6 := u_fits hfc hkC hkind (Or.inr hlay) hi (hc.2.2.1 k hk) hn hfit
  refine W.putFinK B.2.1.1 B.2.1.2.1 B.2.1.2.2.2.2.2.1 (B.1.word hW hw args) hi hst hcf (B.2.1.2.2.2.2.2.2.2.1.trans hin) (by rw [q2]; exact h6) q1 q3 (by rw [hsl]; exact k2_hasslot (q4 k hk)) rfl rfl hd fun H' e1 e2 e3 => ?_
  rw [hsl] at e1 ⊢
  exact kk p e s m args below meth c H' _ cells slots ls ⟨B.1, B.2.1, B.2.2.1.put hc.1 hk hl q2 q3 q4 hap e1 e2 e3, by rw [e2]; exact B.2.2.2.1, t_lc (free := fun q => xb E ≤ q) B.2.2.2.2.1 (Nat.le_add_right _ _), B.2.2.2.2.2⟩
theorem xj_putN {ci idx a N : Nat} {C host : String} {T : u_T} {ty : Nat → FieldType} {fs : List Value} {v : Value} (hd : decode I.2.1 pc = .ok (.putfield idx, 3)) (hc : xcls ci C T N ty) (k : Nat) (hk : k < N) (hw : Cond.fieldLinkNest I.1.cls idx (T k).1 (T k).2.1 (T k).2.2.1 host ∈ lw_tbl) (hfin : (T k).2.2.2 = false) (hok : xfit (ty k) v = true) (hg : G[a]? = some (cO ci fs)) (hl : k < fs.length)
    (kk : xJ E I R Φ nc ns (pc + 3) lv st (G.set a (cO ci (fs.set k v)))) : xJ E I R Φ nc ns pc lv (v :: .ref a :: st) G := by
  intro p e s m args below meth c H locs cells slots ls B
  have hW := B.2.1.2.2.2.2.2.2.1
  have hts := B.1.words hW args
  have hK := B.1.K hW
  have hap := va_apart (own := I.1.cls) hts hc.2.1 ty hc.2.2.1 hc.2.2.2 hK hc.1
  obtain ⟨r, h1, cell, q1, q2, q3, q4⟩ := B.2.2.1.2.2 a _ hg
  have hr : r = (C, T, N) := Option.some.inj (h1.symm.trans hc.1)
  subst hr
  obtain ⟨hS, hfc, kC, hkC, hkind⟩ := hK.1 ci _ hc.1
  obtain ⟨cf, kf, fi, f, hi, hsl⟩ := hS k hk
  have hlay := hts _ (hc.2.1 _ (u_in_lay hk))
  unfold u_lay at hlay
  rw [if_neg (by rw [hfin]; decide)] at hlay
  have hst := (u_facts hfc hkC (u_lays hts hc.2.1 hk) hi).1
  obtain ⟨hn, hfit⟩ := xfit_ok (E := E) hok
  have h6 := u_store hfc hkC hkind hlay hi (hc.2.2.1 k hk) hn hfit
  refine va_WputK B.2.1.1 B.2.1.2.1 (f := f) B.2.1.2.2.2.2.2.1 (B.1.nestF hW hw args) hi hst (by rw [q2]; exact h6) q1 q3 (by rw [hsl]; exact k2_hasslot (q4 k hk)) rfl rfl hd fun H' e1 e2 e3 => ?_
  rw [hsl] at e1 ⊢
  exact kk p e s m args below meth c H' _ cells slots ls ⟨B.1, B.2.1, B.2.2.1.put hc.1 hk hl q2 q3 q4 hap e1 e2 e3, by rw [e2]; exact B.2.2.2.1, t_lc (free := fun q => xb E ≤ q) B.2.2.2.2.1 (Nat.le_add_right _ _), B.2.2.2.2.2⟩
/-! ===== new ===== -/
def xpl : Value → Bool
  | .ref _ => false
  | .float _ => false
  | _ => true
def xdef (N : Nat) (ty : Nat → FieldType) (fs : List Value) : Bool := (List.range N).all (fun j => decide (defaultValue (ty j) = fs.getD j .null)) && fs.all xpl
theorem xpl_map {fs : List Value} (h : fs.all xpl = true) : fs.map (xv E) = fs := by
  induction fs with
  | nil => rfl
  | cons v l ih =>
    rw [List.all_cons, Bool.and_eq_true] at h
    rw [List.map_cons, ih h.2]
    congr 1
    cases v <;> first | rfl | (exact absurd h.1 (by simp [xpl]))
theorem xj_new {ci idx N : Nat} {C : String} {T : u_T} {ty : Nat → FieldType} {fs : List Value} (hd : decode I.2.1 pc = .ok (.new idx, 3)) (hc : xcls ci C T N ty) (w1 : Cond.classLink I.1.cls idx C ∈ lw_all) (w2 : Cond.instantiable C N ∈ lw_all) (w3 : Cond.initialized C ∈ lw_all) (hfs : xdef N ty fs = true) (h1 : 1 ≤ nc) (h2 : N ≤ ns)
    (kk : xJ E I R Φ (nc - 1) (ns - N) (pc + 3) lv (.ref G.length :: st) (G ++ [cO ci fs])) : xJ E I R Φ nc ns pc lv st G := by
  intro p e s m args below meth c H locs cells slots ls B
  have hW := B.2.1.2.2.2.2.2.2.1
  have hts := B.1.words hW args
  have hK := B.1.K hW
  have hKn := hK.1 ci _ hc.1
  have hb6 := B.2.2.2.2.2.1
  have hb7 := B.2.2.2.2.2.2.1
  have hz := B.2.2.1.1
  refine W.newcK B.2.1.1 B.2.1.2.1 B.2.1.2.2.2.2.2.1 (hts _ w1) (hts _ w2) (hts _ w3) rfl hd (by omega) (by omega) hKn.2.1 hz fun H1 kC hkC e1 z1 o1 => ?_
  rw [← hz] at e1 z1 o1
  have hfs' : ∀ j, j < N → defaultValue (ty j) = vp_V (fs.map (xv E)) j := by
    intro j hj
    rw [xdef, Bool.and_eq_true] at hfs
    rw [xpl_map hfs.2]
    exact of_decide_eq_true (List.all_eq_true.mp hfs.1 j (List.mem_range.mpr hj))
  exact kk p e s m args below meth c H1 locs (cells + 1) (slots + N) ls ⟨B.1, B.2.1, B.2.2.1.push z1 o1 ⟨_, hc.1, (u_born ty hts hc.2.1 hKn hkC e1 hc.2.2.1).to hfs'⟩, by rw [z1]; exact Nat.le_succ_of_le B.2.2.2.1, B.2.2.2.2.1, by omega, by omega, B.2.2.2.2.2.2.2⟩
/-! ===== arrays ===== -/
theorem x_in {k n : Nat} (h : k < n) (h31 : k < 2147483648) : vp_in (nI k) n := by
  unfold vp_in
  rw [nI_clamp h31]
  rintro (h1 | h1)
  · exact nI_pos h31 h1
  · omega
theorem x_getD {α : Type} {L : List α} {k : Nat} {x d : α} (h : L[k]? = some x) : L.getD k d = x := by rw [List.getD_eq_getElem?_getD, h]; rfl
theorem x_upd {α : Type} {L : List α} {k : Nat} (hk : k < L.length) (x d : α) (j : Nat) : (L.set k x).getD j d = if j = k then x else L.getD j d := by
  rw [List.getD_eq_getElem?_getD, List.getD_eq_getElem?_getD]
  by_cases e : j = k
  · subst e
    rw [List.getElem?_set_self hk, if_pos rfl]
    rfl
  · rw [List.getElem?_set_ne (fun q => e q.symm), if_neg e]
theorem xj_iald {a k : Nat} {i : Int32} {x : Int32} {L : List Int32} (hd : decode I.2.1 pc = .ok (.iaload, 1)) (hg : G[a]? = some (cI 0 L)) (hi : i = nI k) (h31 : k < 2147483648) (hv : L[k]? = some x) (kk : xJ E I R Φ nc ns (pc + 1) lv (.int x :: st) G) : xJ E I R Φ nc ns pc lv (.int i :: .ref a :: st) G := by
  intro p e s m args below meth c H locs cells slots ls B
  have hW := B.2.1.2.2.2.2.2.2.1
  have hk : k < L.length := (List.getElem?_eq_some_iff.mp hv).1
  subst hi
  have hx : L.getD (nI k).toNatClampNeg 0 = x := by rw [nI_clamp h31]; exact x_getD hv
  have hP : va_P E.2.2.2.1 xcl [(xb E + a, .inl (E.2.2.2.2.1 0, L.length, .inl (fun j => L.getD j 0)))] H := xP1 (B.2.2.1.2.2 a _ hg)
  refine va_iald B.2.1.1 B.2.1.2.1 (B.1.Ka hW (t := 0) rfl) hP 0 0 rfl rfl (x_in hk h31) hd ?_
  rw [hx]
  exact kk p e s m args below meth c H locs cells slots ls B
theorem xj_bald {a k : Nat} {i : Int32} {x : Int32} {L : List Int32} (hd : decode I.2.1 pc = .ok (.baload, 1)) (hg : G[a]? = some (cI 1 L)) (hi : i = nI k) (h31 : k < 2147483648) (hv : L[k]? = some x) (kk : xJ E I R Φ nc ns (pc + 1) lv (.int x :: st) G) : xJ E I R Φ nc ns pc lv (.int i :: .ref a :: st) G := by
  intro p e s m args below meth c H locs cells slots ls B
  have hW := B.2.1.2.2.2.2.2.2.1
  have hk : k < L.length := (List.getElem?_eq_some_iff.mp hv).1
  subst hi
  have hx : L.getD (nI k).toNatClampNeg 0 = x := by rw [nI_clamp h31]; exact x_getD hv
  have hP : va_P E.2.2.2.1 xcl [(xb E + a, .inl (E.2.2.2.2.1 1, L.length, .inl (fun j => L.getD j 0)))] H := xP1 (B.2.2.1.2.2 a _ hg)
  refine va_bald B.2.1.1 B.2.1.2.1 (B.1.Ka hW (t := 1) rfl) hP 0 0 rfl rfl (x_in hk h31) hd ?_
  rw [hx]
  exact kk p e s m args below meth c H locs cells slots ls B
theorem xj_zald {a k : Nat} {i : Int32} {x : Int32} {L : List Int32} (hd : decode I.2.1 pc = .ok (.baload, 1)) (hg : G[a]? = some (cI 2 L)) (hi : i = nI k) (h31 : k < 2147483648) (hv : L[k]? = some x) (kk : xJ E I R Φ nc ns (pc + 1) lv (.int x :: st) G) : xJ E I R Φ nc ns pc lv (.int i :: .ref a :: st) G := by
  intro p e s m args below meth c H locs cells slots ls B
  have hW := B.2.1.2.2.2.2.2.2.1
  have hk : k < L.length := (List.getElem?_eq_some_iff.mp hv).1
  subst hi
  have hx : L.getD (nI k).toNatClampNeg 0 = x := by rw [nI_clamp h31]; exact x_getD hv
  have hP : va_P E.2.2.2.1 xcl [(xb E + a, .inl (E.2.2.2.2.1 2, L.length, .inl (fun j => L.getD j 0)))] H := xP1 (B.2.2.1.2.2 a _ hg)
  refine va_zald B.2.1.1 B.2.1.2.1 (B.1.Ka hW (t := 2) rfl) hP 0 0 rfl rfl (x_in hk h31) hd ?_
  rw [hx]
  exact kk p e s m args below meth c H locs cells slots ls B
theorem xj_sald {a k : Nat} {i : Int32} {x : Int32} {L : List Int32} (hd : decode I.2.1 pc = .ok (.saload, 1)) (hg : G[a]? = some (cI 3 L)) (hi : i = nI k) (h31 : k < 2147483648) (hv : L[k]? = some x) (kk : xJ E I R Φ nc ns (pc + 1) lv (.int x :: st) G) : xJ E I R Φ nc ns pc lv (.int i :: .ref a :: st) G := by
  intro p e s m args below meth c H locs cells slots ls B
  have hW := B.2.1.2.2.2.2.2.2.1
  have hk : k < L.length := (List.getElem?_eq_some_iff.mp hv).1
  subst hi
  have hx : L.getD (nI k).toNatClampNeg 0 = x := by rw [nI_clamp h31]; exact x_getD hv
  have hP : va_P E.2.2.2.1 xcl [(xb E + a, .inl (E.2.2.2.2.1 3, L.length, .inl (fun j => L.getD j 0)))] H := xP1 (B.2.2.1.2.2 a _ hg)
  refine va_sald B.2.1.1 B.2.1.2.1 (B.1.Ka hW (t := 3) rfl) hP 0 0 rfl rfl (x_in hk h31) hd ?_
  rw [hx]
  exact kk p e s m args below meth c H locs cells slots ls B
theorem xj_lald {a k : Nat} {i : Int32} {x : Int64} {L : List Int64} (hd : decode I.2.1 pc = .ok (.laload, 1)) (hg : G[a]? = some (cL 4 L)) (hi : i = nI k) (h31 : k < 2147483648) (hv : L[k]? = some x) (kk : xJ E I R Φ nc ns (pc + 1) lv (.long x :: st) G) : xJ E I R Φ nc ns pc lv (.int i :: .ref a :: st) G := by
  intro p e s m args below meth c H locs cells slots ls B
  have hW := B.2.1.2.2.2.2.2.2.1
  have hk : k < L.length := (List.getElem?_eq_some_iff.mp hv).1
  subst hi
  have hx : L.getD (nI k).toNatClampNeg 0 = x := by rw [nI_clamp h31]; exact x_getD hv
  have hP : va_P E.2.2.2.1 xcl [(xb E + a, .inl (E.2.2.2.2.1 4, L.length, .inr (.inl (fun j => L.getD j 0))))] H := xP1 (B.2.2.1.2.2 a _ hg)
  refine va_lald B.2.1.1 B.2.1.2.1 (B.1.Ka hW (t := 4) rfl) hP 0 0 rfl rfl (x_in hk h31) hd ?_
  rw [hx]
  exact kk p e s m args below meth c H locs cells slots ls B
theorem xj_iast {a k : Nat} {i : Int32} {x : Int32} {L : List Int32} (hd : decode I.2.1 pc = .ok (.iastore, 1)) (hg : G[a]? = some (cI 0 L)) (hi : i = nI k) (h31 : k < 2147483648) (hk : k < L.length) (kk : xJ E I R Φ nc ns (pc + 1) lv st (G.set a (cI 0 (L.set k x)))) : xJ E I R Φ nc ns pc lv (.int x :: .int i :: .ref a :: st) G := by
  intro p e s m args below meth c H locs cells slots ls B
  have hW := B.2.1.2.2.2.2.2.2.1
  subst hi
  have hcell : H[xb E + a]? = some (arrV (E.2.2.2.2.1 0) L.length (fun j => .int (L.getD j 0))) := B.2.2.1.2.2 a _ hg
  refine W.iast B.2.1.1 B.2.1.2.1 hcell (((B.1.Ka hW (t := 0) rfl).2 0 _ rfl).1 L.length (fun j => .int (L.getD j 0))) (fun q => by cases q) (by rw [arrV_size]; exact x_in hk h31) rfl rfl hd fun H1 e1 z oq => ?_
  rw [nI_clamp h31] at e1 ⊢
  refine kk p e s m args below meth c H1 _ cells slots ls ⟨B.1, B.2.1, B.2.2.1.set z oq ?_, by rw [z]; exact B.2.2.2.1, t_lc (free := fun q => xb E ≤ q) B.2.2.2.2.1 (Nat.le_add_right _ _), B.2.2.2.2.2⟩
  show H1[xb E + a]? = some (arrV (E.2.2.2.2.1 0) (L.set k (x)).length (fun j => .int ((L.set k (x)).getD j 0)))
  rw [e1, arrV_store, List.length_set]
  congr 2
  funext j
  rw [x_upd hk]
  by_cases hj : j = k
  · subst hj
    simp [updV]
    try rfl
  · simp [updV, hj]
theorem xj_bast {a k : Nat} {i : Int32} {x x' : Int32} {L : List Int32} (hd : decode I.2.1 pc = .ok (.bastore, 1)) (hg : G[a]? = some (cI 1 L)) (hi : i = nI k) (h31 : k < 2147483648) (hk : k < L.length) (hx : x.toInt8.toInt32 = x') (kk : xJ E I R Φ nc ns (pc + 1) lv st (G.set a (cI 1 (L.set k x')))) : xJ E I R Φ nc ns pc lv (.int x :: .int i :: .ref a :: st) G := by
  intro p e s m args below meth c H locs cells slots ls B
  have hW := B.2.1.2.2.2.2.2.2.1
  subst hi
  subst hx
  have hcell : H[xb E + a]? = some (arrV (E.2.2.2.2.1 1) L.length (fun j => .int (L.getD j 0))) := B.2.2.1.2.2 a _ hg
  refine W.bast B.2.1.1 B.2.1.2.1 hcell (((B.1.Ka hW (t := 1) rfl).2 0 _ rfl).1 L.length (fun j => .int (L.getD j 0))) (fun q => by cases q) (by rw [arrV_size]; exact x_in hk h31) rfl rfl hd fun H1 e1 z oq => ?_
  rw [nI_clamp h31] at e1 ⊢
  refine kk p e s m args below meth c H1 _ cells slots ls ⟨B.1, B.2.1, B.2.2.1.set z oq ?_, by rw [z]; exact B.2.2.2.1, t_lc (free := fun q => xb E ≤ q) B.2.2.2.2.1 (Nat.le_add_right _ _), B.2.2.2.2.2⟩
  show H1[xb E + a]? = some (arrV (E.2.2.2.2.1 1) (L.set k (x.toInt8.toInt32)).length (fun j => .int ((L.set k (x.toInt8.toInt32)).getD j 0)))
  rw [e1, arrV_store, List.length_set]
  congr 2
  funext j
  rw [x_upd hk]
  by_cases hj : j = k
  · subst hj
    simp [updV]
    try rfl
  · simp [updV, hj]
theorem xj_zast {a k : Nat} {i : Int32} {x x' : Int32} {L : List Int32} (hd : decode I.2.1 pc = .ok (.bastore, 1)) (hg : G[a]? = some (cI 2 L)) (hi : i = nI k) (h31 : k < 2147483648) (hk : k < L.length) (hx : x &&& 1 = x') (kk : xJ E I R Φ nc ns (pc + 1) lv st (G.set a (cI 2 (L.set k x')))) : xJ E I R Φ nc ns pc lv (.int x :: .int i :: .ref a :: st) G := by
  intro p e s m args below meth c H locs cells slots ls B
  have hW := B.2.1.2.2.2.2.2.2.1
  subst hi
  subst hx
  have hcell : H[xb E + a]? = some (arrV (E.2.2.2.2.1 2) L.length (fun j => .int (L.getD j 0))) := B.2.2.1.2.2 a _ hg
  refine W.zast B.2.1.1 B.2.1.2.1 hcell (((B.1.Ka hW (t := 2) rfl).2 0 _ rfl).1 L.length (fun j => .int (L.getD j 0))) (fun q => by cases q) (by rw [arrV_size]; exact x_in hk h31) rfl rfl hd fun H1 e1 z oq => ?_
  rw [nI_clamp h31] at e1 ⊢
  refine kk p e s m args below meth c H1 _ cells slots ls ⟨B.1, B.2.1, B.2.2.1.set z oq ?_, by rw [z]; exact B.2.2.2.1, t_lc (free := fun q => xb E ≤ q) B.2.2.2.2.1 (Nat.le_add_right _ _), B.2.2.2.2.2⟩
  show H1[xb E + a]? = some (arrV (E.2.2.2.2.1 2) (L.set k (x &&& 1)).length (fun j => .int ((L.set k (x &&& 1)).getD j 0)))
  rw [e1, arrV_store, List.length_set]
  congr 2
  funext j
  rw [x_upd hk]
  by_cases hj : j = k
  · subst hj
    simp [updV]
    try rfl
  · simp [updV, hj]
theorem xj_sast {a k : Nat} {i : Int32} {x x' : Int32} {L : List Int32} (hd : decode I.2.1 pc = .ok (.sastore, 1)) (hg : G[a]? = some (cI 3 L)) (hi : i = nI k) (h31 : k < 2147483648) (hk : k < L.length) (hx : x.toInt16.toInt32 = x') (kk : xJ E I R Φ nc ns (pc + 1) lv st (G.set a (cI 3 (L.set k x')))) : xJ E I R Φ nc ns pc lv (.int x :: .int i :: .ref a :: st) G := by
  intro p e s m args below meth c H locs cells slots ls B
  have hW := B.2.1.2.2.2.2.2.2.1
  subst hi
  subst hx
  have hcell : H[xb E + a]? = some (arrV (E.2.2.2.2.1 3) L.length (fun j => .int (L.getD j 0))) := B.2.2.1.2.2 a _ hg
  refine W.sast B.2.1.1 B.2.1.2.1 hcell (((B.1.Ka hW (t := 3) rfl).2 0 _ rfl).1 L.length (fun j => .int (L.getD j 0))) (fun q => by cases q) (by rw [arrV_size]; exact x_in hk h31) rfl rfl hd fun H1 e1 z oq => ?_
  rw [nI_clamp h31] at e1 ⊢
  refine kk p e s m args below meth c H1 _ cells slots ls ⟨B.1, B.2.1, B.2.2.1.set z oq ?_, by rw [z]; exact B.2.2.2.1, t_lc (free := fun q => xb E ≤ q) B.2.2.2.2.1 (Nat.le_add_right _ _), B.2.2.2.2.2⟩
  show H1[xb E + a]? = some (arrV (E.2.2.2.2.1 3) (L.set k (x.toInt16.toInt32)).length (fun j => .int ((L.set k (x.toInt16.toInt32)).getD j 0)))
  rw [e1, arrV_store, List.length_set]
  congr 2
  funext j
  rw [x_upd hk]
  by_cases hj : j = k
  · subst hj
    simp [updV]
    try rfl
  · simp [updV, hj]
theorem xj_last {a k : Nat} {i : Int32} {x : Int64} {L : List Int64} (hd : decode I.2.1 pc = .ok (.lastore, 1)) (hg : G[a]? = some (cL 4 L)) (hi : i = nI k) (h31 : k < 2147483648) (hk : k < L.length) (kk : xJ E I R Φ nc ns (pc + 1) lv st (G.set a (cL 4 (L.set k x)))) : xJ E I R Φ nc ns pc lv (.long x :: .int i :: .ref a :: st) G := by
  intro p e s m args below meth c H locs cells slots ls B
  have hW := B.2.1.2.2.2.2.2.2.1
  subst hi
  have hcell : H[xb E + a]? = some (arrV (E.2.2.2.2.1 4) L.length (fun j => .long (L.getD j 0))) := B.2.2.1.2.2 a _ hg
  refine W.last B.2.1.1 B.2.1.2.1 hcell (((B.1.Ka hW (t := 4) rfl).2 0 _ rfl).1 L.length (fun j => .long (L.getD j 0))) (fun q => by cases q) (by rw [arrV_size]; exact x_in hk h31) rfl rfl hd fun H1 e1 z oq => ?_
  rw [nI_clamp h31] at e1 ⊢
  refine kk p e s m args below meth c H1 _ cells slots ls ⟨B.1, B.2.1, B.2.2.1.set z oq ?_, by rw [z]; exact B.2.2.2.1, t_lc (free := fun q => xb E ≤ q) B.2.2.2.2.1 (Nat.le_add_right _ _), B.2.2.2.2.2⟩
  show H1[xb E + a]? = some (arrV (E.2.2.2.2.1 4) (L.set k (x)).length (fun j => .long ((L.set k (x)).getD j 0)))
  rw [e1, arrV_store, List.length_set]
  congr 2
  funext j
  rw [x_upd hk]
  by_cases hj : j = k
  · subst hj
    simp [updV]
    try rfl
  · simp [updV, hj]
end XJ
