/-! ===== the x layer, twentieth part: super.m(..) that lands in an interface's default ===== -/
set_option maxRecDepth 100000
theorem xph : ∀ (N : Nat) (l : List Nat), l.Nodup → (∀ x ∈ l, x < N) → l.length ≤ N
  | 0, [], _, _ => Nat.le_refl _
  | 0, a :: l, _, h => absurd (h a List.mem_cons_self) (Nat.not_lt_zero _)
  | N + 1, l, hd, h => by
    by_cases hm : N ∈ l
    · have e1 := List.length_erase_of_mem hm
      have e2 := xph N (l.erase N) (hd.erase N) (fun x hx => by
        have h1 := (List.Nodup.mem_erase_iff hd).mp hx
        have h2 := h x h1.2
        have h3 := h1.1
        omega)
      omega
    · have := xph N l hd (fun x hx => by
        have h1 := h x hx
        have h2 : x ≠ N := fun e => hm (e ▸ hx)
        omega)
      omega
def xnx (vm : Vm) (c : ClassId) : Option ClassId := (vm.classes[c]?).bind (·.super)
def xch (vm : Vm) : Nat → ClassId → Option ClassId
  | 0, c => some c
  | n + 1, c => (xnx vm c).bind (xch vm n)
theorem xch_add (vm : Vm) : ∀ (i j : Nat) (c : ClassId), xch vm (i + j) c = (xch vm i c).bind (xch vm j)
  | 0, j, c => by rw [Nat.zero_add]; rfl
  | i + 1, j, c => by
    rw [show i + 1 + j = (i + j) + 1 by omega]
    show (xnx vm c).bind (xch vm (i + j)) = ((xnx vm c).bind (xch vm i)).bind (xch vm j)
    cases xnx vm c with
    | none => rfl
    | some q => exact xch_add vm i j q
theorem xch_lt {vm : Vm} {n : Nat} {c p : ClassId} (h : xch vm (n + 1) c = some p) : ∀ i, i ≤ n → ∃ q, xch vm i c = some q ∧ q < vm.classes.size := by
  intro i hi
  rw [show n + 1 = i + ((n - i) + 1) by omega, xch_add] at h
  cases hq : xch vm i c with
  | none => rw [hq] at h; cases h
  | some q =>
    rw [hq] at h
    refine ⟨q, rfl, ?_⟩
    have h' : (xnx vm q).bind (xch vm (n - i)) = some p := h
    cases hx : vm.classes[q]? with
    | none =>
      have : xnx vm q = none := by unfold xnx; rw [hx]; rfl
      rw [this] at h'; cases h'
    | some k => exact (Array.getElem?_eq_some_iff.mp hx).1
theorem xch_pig {vm : Vm} {c p : ClassId} (h : xch vm (vm.classes.size + 1) c = some p) : ∃ i, i ≤ vm.classes.size ∧ xch vm i c = some p := by
  by_cases hd : ∃ i j, i < j ∧ j ≤ vm.classes.size ∧ xch vm i c = xch vm j c
  · obtain ⟨i, j, h1, h2, h3⟩ := hd
    refine ⟨i + (vm.classes.size + 1 - j), by omega, ?_⟩
    rw [xch_add, h3, ← xch_add, show j + (vm.classes.size + 1 - j) = vm.classes.size + 1 by omega]
    exact h
  · exfalso
    have hl : ((List.range (vm.classes.size + 1)).map (fun i => (xch vm i c).getD 0)).Nodup := by
      refine List.pairwise_map.mpr (List.Pairwise.imp_of_mem (fun {a b} ha hb hab => ?_) List.pairwise_lt_range)
      intro e
      have ha' := List.mem_range.mp ha
      have hb' := List.mem_range.mp hb
      obtain ⟨q1, e1, -⟩ := xch_lt h a (by omega)
      obtain ⟨q2, e2, -⟩ := xch_lt h b (by omega)
      rw [e1, e2] at e
      have e' : q1 = q2 := e
      exact hd ⟨a, b, hab, by omega, by rw [e1, e2, e']⟩
    have := xph vm.classes.size _ hl (fun x hx => by
      obtain ⟨i, hi, rfl⟩ := List.mem_map.mp hx
      obtain ⟨q, e1, e2⟩ := xch_lt h i (by have := List.mem_range.mp hi; omega)
      show (xch vm i c).getD 0 < _
      rw [e1]; exact e2)
    rw [List.length_map, List.length_range] at this
    omega
theorem xlk_none {vm : Vm} {name desc : String} : ∀ (n : Nat) (c : ClassId), lookupInSuperclasses vm name desc n c = none → ∀ i, i < n → ∀ q, xch vm i c = some q → (vm.classes[q]?.bind (·.findMethod name desc)) = none
  | 0, _, _, i, hi, _, _ => absurd hi (Nat.not_lt_zero _)
  | n + 1, c, h, i, hi, q, hq => by
    unfold lookupInSuperclasses at h
    cases hk : vm.classes[c]? with
    | none =>
      cases i with
      | zero => cases hq; rw [hk]; rfl
      | succ i =>
        have h' : (xnx vm c).bind (xch vm i) = some q := hq
        have : xnx vm c = none := by unfold xnx; rw [hk]; rfl
        rw [this] at h'; cases h'
    | some k =>
      simp only [hk, Option.bind_eq_bind, Option.bind_some] at h
      cases hf : k.findMethod name desc with
      | some j => rw [hf] at h; cases h
      | none =>
        cases i with
        | zero => cases hq; rw [hk]; exact hf
        | succ i =>
          rw [hf] at h
          have h' : (xnx vm c).bind (xch vm i) = some q := hq
          cases hs : k.super with
          | none =>
            have : xnx vm c = none := by unfold xnx; rw [hk]; exact hs
            rw [this] at h'; cases h'
          | some q0 =>
            have : xnx vm c = some q0 := by unfold xnx; rw [hk]; exact hs
            rw [this] at h'
            rw [hs] at h
            exact xlk_none n q0 h i (by omega) q h'
theorem xsup_ch {vm : Vm} {p : ClassId} : ∀ (n : Nat) (c : ClassId), p ∈ vm.superclassesAux n c → ∃ i, i ≤ n ∧ xch vm i c = some p
  | 0, c, h => by simp [Vm.superclassesAux] at h
  | n + 1, c, h => by
    cases hx : xnx vm c with
    | none =>
      have : vm.superclassesAux (n + 1) c = [] := by unfold xnx at hx; simp [Vm.superclassesAux, hx]
      rw [this] at h; cases h
    | some q =>
      have : vm.superclassesAux (n + 1) c = q :: vm.superclassesAux n q := by unfold xnx at hx; simp [Vm.superclassesAux, hx]
      rw [this] at h
      rcases List.mem_cons.mp h with rfl | h
      · exact ⟨1, by omega, by show (xnx vm c).bind _ = _; rw [hx]; rfl⟩
      · obtain ⟨i, h1, h2⟩ := xsup_ch n q h
        exact ⟨i + 1, by omega, by show (xnx vm c).bind _ = _; rw [hx]; exact h2⟩
theorem xsel_some {vm : Vm} {mR m : MethodId} {name desc : String} : ∀ (n : Nat) (c : ClassId), selectInSuperclasses vm mR name desc n c = some m → (lookupInSuperclasses vm name desc n c).isSome = true
  | 0, _, h => by simp [selectInSuperclasses] at h
  | n + 1, c, h => by
    unfold selectInSuperclasses at h
    unfold lookupInSuperclasses
    cases hk : vm.classes[c]? with
    | none => simp [hk] at h
    | some k =>
      simp only [hk, Option.bind_eq_bind, Option.bind_some] at h ⊢
      cases hf : k.findMethod name desc with
      | some j => rfl
      | none =>
        simp only [hf, Option.bind_none] at h ⊢
        cases hs : k.super with
        | none => simp [hs] at h
        | some q =>
          simp only [hs, Option.bind_some] at h ⊢
          have h' : selectInSuperclasses vm mR name desc n q = some m := by simpa using h
          exact xsel_some n q h'
theorem ls_default {vm : Vm} {c : ClassId} {k : Class} {name desc : String} {m : MethodId} {meth : Method} (hk : vm.classes[c]? = some k) (hni : k.isInterface = false) (hl : vm.lookupUp c name desc = some m) (hm : vm.method? m = some meth) (hst : meth.isStatic = false)
    (hsel : selectMethod {} vm c m = .method m) (hpr : meth.isPrivate = false) (hif : (vm.classes[m.cls]?).any (·.isInterface) = true) (hnm : meth.name = name) (hds : meth.desc = desc) : lookupSpecial vm c name desc = .method m := by
  cases hlk : lookupInSuperclasses vm name desc (vm.classes.size + 1) c with
  | some x => exact lookupSpecial_of_lookupUp hk hni hl (by rw [hlk]; rfl) hm hst
  | none =>
    have hall : ∀ i, i ≤ vm.classes.size → ∀ q, xch vm i c = some q → (vm.classes[q]?.bind (·.findMethod name desc)) = none := fun i hi q hq => xlk_none _ c hlk i (by omega) q hq
    have h0 : (vm.classes[c]?.bind (·.findMethod name desc)) = none := hall 0 (Nat.zero_le _) c rfl
    have h1 : superclassMethods vm c name desc = [] := by
      unfold superclassMethods
      rw [List.filterMap_eq_nil_iff]
      intro p hp
      obtain ⟨i, hi, hc⟩ := xsup_ch (vm.classes.size + 1) c hp
      have : (vm.classes[p]?.bind (·.findMethod name desc)) = none := by
        by_cases e : i ≤ vm.classes.size
        · exact hall i e p hc
        · have e2 : i = vm.classes.size + 1 := by omega
          rw [e2] at hc
          obtain ⟨j, hj, hj'⟩ := xch_pig hc
          exact hall j hj p hj'
      rw [this]; rfl
    have h2 : (match (maximallySpecific vm c name desc).filter fun m => (vm.method? m).any (!·.isAbstract) with
      | [m] => Selection.method m
      | [] => .none
      | _ => .several) = .method m := by
      unfold selectMethod at hsel
      rw [hm] at hsel
      simp only [hpr, Bool.false_eq_true, if_false, hnm, hds, hif, Bool.not_true, Bool.and_false] at hsel
      split at hsel
      · cases hsel
      · cases hs : selectInSuperclasses vm m name desc (vm.classes.size + 1) c with
        | some x =>
          have := xsel_some _ c hs
          rw [hlk] at this; cases this
        | none =>
          rw [hs] at hsel
          exact hsel
    unfold lookupSpecial
    simp only [h0, h1, Option.map_none, Option.toList_none, List.filter_nil, List.append_nil, List.find?_nil]
    exact h2
