/-! ===== the x layer, tenth part: classes with two fields of one name (one of the class above) ===== -/
set_option maxRecDepth 100000
def xclsD (ci : Nat) (C : String) (T : u_T) (N : Nat) (ty : Nat → FieldType) : Prop := xcl[ci]? = some (C, T, N) ∧ (∀ w ∈ u_ws C T N, w ∈ lw_all) ∧ (∀ k, k < N → parseFieldDescriptor (T k).2.2.1 = some (ty k)) ∧ (∀ a, a < N → ∀ b, b < N → a ≠ b → (T a).2.1 ≠ (T b).2.1 ∨ ((T a).1 ≠ (T b).1 ∧ (T a).2.2.2 = true ∧ (T b).2.2.2 = true))
theorem u_apartO {args : Array Value} {s : State} {C O f d O' f' d' : String} (h : (Cond.laysFinal C O f d).before args s = true) (h' : (Cond.laysFinal C O' f' d').before args s = true)
    {cf kf fi fd cf' kf' fi' fd'} (hi : s.fieldFound? O f d = some (cf, kf, fi, fd)) (hi' : s.fieldFound? O' f' d' = some (cf', kf', fi', fd')) (hne : O ≠ O') : fd.slot ≠ fd'.slot := by
  obtain ⟨c1, k1, c1', k1', i1, f1, a1, a2, a3, -, -, -, a7, -, d1, a9, a10, -⟩ := Cond.laysFinal_spec h
  obtain ⟨c2, k2, c2', k2', i2, f2, b1, b2, b3, -, -, -, b7, -, d2, b9, b10, -⟩ := Cond.laysFinal_spec h'
  cases hi.symm.trans a3
  cases hi'.symm.trans b3
  cases a1.symm.trans b1
  intro hs
  rw [hs] at a9
  cases a9.symm.trans b9
  obtain ⟨q1, e1, e2⟩ := Vm.findClass_spec a7
  obtain ⟨q2, e3, e4⟩ := Vm.findClass_spec b7
  have g1 := (State.fieldFound?_spec hi).1
  have g2 := (State.fieldFound?_spec hi').1
  cases e1.symm.trans g1
  cases e3.symm.trans g2
  exact hne (by rw [← e2, ← e4, ← a10, ← b10])
theorem x_apartD {D : va_G} {cl : List vw_C} {tys : List (ClassId × FieldType)} {args : Array Value} {s : State} {C : String} {T : u_T} {N ci : Nat} {Ts : List Cond} (hts : ∀ w ∈ Ts, w.before args s = true) (hin : ∀ w ∈ u_ws C T N, w ∈ Ts) (ty : Nat → FieldType) (hty : ∀ k, k < N → parseFieldDescriptor (T k).2.2.1 = some (ty k)) (hnm : ∀ a, a < N → ∀ b, b < N → a ≠ b → (T a).2.1 ≠ (T b).2.1 ∨ ((T a).1 ≠ (T b).1 ∧ (T a).2.2.2 = true ∧ (T b).2.2.2 = true)) (hK : va_K D cl tys s) (hc : cl[ci]? = some (C, T, N)) : ∀ x y, x < N → y < N → x ≠ y → (D.2 ci) x ≠ (D.2 ci) y := by
  intro x y hx hy hne
  obtain ⟨hS, -⟩ := hK.1 ci _ hc
  obtain ⟨_, _, _, fa, hia, ea⟩ := hS x hx
  obtain ⟨_, _, _, fb, hib, eb⟩ := hS y hy
  rw [← ea, ← eb]
  rcases hnm x hx y hy hne with h | ⟨h1, h2, h3⟩
  · refine u_apart (u_lays hts hin hx) (u_lays hts hin hy) hia hib ?_
    rw [(State.fieldFound?_type hia (hty x hx)).1, (State.fieldFound?_type hib (hty y hy)).1]
    exact h
  · have l1 := hts _ (hin _ (u_in_lay hx))
    have l2 := hts _ (hin _ (u_in_lay hy))
    unfold u_lay at l1 l2
    rw [if_pos h2] at l1
    rw [if_pos h3] at l2
    exact u_apartO l1 l2 hia hib h1
section XJ10
variable {E : xE} {I : xI} {R : Room} {Φ : xOut → xH → Prop} {nc ns pc : Nat} {lv : List (Option Value)} {st : List Value} {G : xH}
theorem xj_getD {ci idx a N : Nat} {C : String} {T : u_T} {ty : Nat → FieldType} {fs : List Value} {v : Value} (hd : decode I.2.1 pc = .ok (.getfield idx, 3)) (hc : xclsD ci C T N ty) (k : Nat) (hk : k < N) (hw : Cond.fieldLink I.1.cls idx (T k).1 (T k).2.1 (T k).2.2.1 ∈ lw_all) (hg : G[a]? = some (cO ci fs)) (hv : fs[k]? = some v)
    (kk : xJ E I R Φ nc ns (pc + 3) lv (v :: st) G) : xJ E I R Φ nc ns pc lv (.ref a :: st) G := by
  intro p e s m args below meth c H locs cells slots ls B
  have hW := B.2.1.2.2.2.2.2.2.1
  exact va_get B.2.1.1 B.2.1.2.1 (B.1.words hW args) hc.2.1 B.2.1.2.2.2.2.2.1 (B.1.K hW) (B.2.2.1.obj hg) 0 rfl hc.1 k hk (B.1.word hW hw args) (fun x h => h) (v := xv E v) (by rw [List.getElem?_map, hv]; rfl) hd (kk p e s m args below meth c H locs cells slots ls B)
theorem xj_putFD {ci idx a N : Nat} {C : String} {T : u_T} {ty : Nat → FieldType} {fs : List Value} {v : Value} (hd : decode I.2.1 pc = .ok (.putfield idx, 3)) (hc : xclsD ci C T N ty) (k : Nat) (hk : k < N) (hw : Cond.fieldLink I.1.cls idx (T k).1 (T k).2.1 (T k).2.2.1 ∈ lw_all) (hfin : (T k).2.2.2 = true) (hin : I.1.name = "<init>") (hdecl : (T k).1 = I.1.cls) (hok : xfit (ty k) v = true) (hg : G[a]? = some (cO ci fs)) (hl : k < fs.length)
    (kk : xJ E I R Φ nc ns (pc + 3) lv st (G.set a (cO ci (fs.set k v)))) : xJ E I R Φ nc ns pc lv (v :: .ref a :: st) G := by
  intro p e s m args below meth c H locs cells slots ls B
  have hW := B.2.1.2.2.2.2.2.2.1
  have hts := B.1.words hW args
  have hK := B.1.K hW
  have hap := x_apartD hts hc.2.1 ty hc.2.2.1 hc.2.2.2 hK hc.1
  obtain ⟨r, h1, cell, q1, q2, q3, q4⟩ := B.2.2.1.2.2 a _ hg
  have hr : r = (C, T, N) := Option.some.inj (h1.symm.trans hc.1)
  subst hr
  obtain ⟨hS, hfc, kC, hkC, hkind⟩ := hK.1 ci _ hc.1
  obtain ⟨cf, kf, fi, f, hi, hsl⟩ := hS k hk
  have hlay := hts _ (hc.2.1 _ (u_in_lay hk))
  unfold u_lay at hlay
  rw [if_pos hfin] at hlay
  have hst := (u_facts hfc hkC (u_lays hts hc.2.1 hk) hi).1
  have hcf : m.cls = cf := by
    obtain ⟨_, _, c', _, _, _, -, -, hf', -, -, -, hown2, -⟩ := Cond.laysFinal_spec hlay
    have e1 : c' = cf := by have := hi.symm.trans hf'; simp at this; exact this.1.symm
    rw [hdecl] at hown2
    rw [← e1]; exact Option.some.inj (B.2.1.2.2.2.2.2.1.symm.trans hown2)
  obtain ⟨hn, hfit⟩ := xfit_ok (E := E) hok
  have h6 := u_fits hfc hkC hkind (Or.inr hlay) hi (hc.2.2.1 k hk) hn hfit
  refine W.putFinK B.2.1.1 B.2.1.2.1 B.2.1.2.2.2.2.2.1 (B.1.word hW hw args) hi hst hcf (B.2.1.2.2.2.2.2.2.2.1.trans hin) (by rw [q2]; exact h6) q1 q3 (by rw [hsl]; exact k2_hasslot (q4 k hk)) rfl rfl hd fun H' e1 e2 e3 => ?_
  rw [hsl] at e1 ⊢
  exact kk p e s m args below meth c H' _ cells slots ls ⟨B.1, B.2.1, B.2.2.1.put hc.1 hk hl q2 q3 q4 hap e1 e2 e3, by rw [e2]; exact B.2.2.2.1, t_lc (free := fun q => xb E ≤ q) B.2.2.2.2.1 (Nat.le_add_right _ _), B.2.2.2.2.2⟩
theorem xj_newD {ci idx N : Nat} {C : String} {T : u_T} {ty : Nat → FieldType} {fs : List Value} (hd : decode I.2.1 pc = .ok (.new idx, 3)) (hc : xclsD ci C T N ty) (w1 : Cond.classLink I.1.cls idx C ∈ lw_all) (w2 : Cond.instantiable C N ∈ lw_all) (w3 : Cond.initialized C ∈ lw_all) (hfs : xdef N ty fs = true) (h1 : 1 ≤ nc) (h2 : N ≤ ns)
    (kk : xJ E I R Φ (nc - 1) (ns - N) (pc + 3) lv (.ref G.length :: st) (G ++ [cO ci fs])) : xJ E I R Φ nc ns pc lv st G := by
  intro p e s m args below meth c H locs cells slots ls B
  have hW := B.2.1.2.2.2.2.2.2.1
  have hts := B.1.words hW args
  have hK := B.1.K hW
  have hKn := hK.1 ci _ hc.1
  have hb6 := B.2.2.2.2.2.1
  have hb7 := B.2.2.2.2.2.2.1
  have hz := B.2.2.1.1
  refine W.newcK B.2.1.1 B.2.1.2.1 B.2.1.2.2.2.2.2.1 (hts _ w1) (hts _ w2) (hts _ w3) rfl hd (by omega) (by omega) hKn.2.1 hz fun H1 kC hkC e1 z1 o1 => ?_
  rw [← hz] at e1 z1 o1
  have hfs' : ∀ j, j < N → defaultValue (ty j) = vp_V (fs.map (xv E)) j := by
    intro j hj
    rw [xdef, Bool.and_eq_true] at hfs
    rw [xpl_map hfs.2]
    exact of_decide_eq_true (List.all_eq_true.mp hfs.1 j (List.mem_range.mpr hj))
  exact kk p e s m args below meth c H1 locs (cells + 1) (slots + N) ls ⟨B.1, B.2.1, B.2.2.1.push z1 o1 ⟨_, hc.1, (u_born ty hts hc.2.1 hKn hkC e1 hc.2.2.1).to hfs'⟩, by rw [z1]; exact Nat.le_succ_of_le B.2.2.2.1, B.2.2.2.2.1, by omega, by omega, B.2.2.2.2.2.2.2⟩
end XJ10
