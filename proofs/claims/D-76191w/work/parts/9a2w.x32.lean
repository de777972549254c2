/-! ===== the x layer: a String constant into an array of Strings ===== -/
set_option maxRecDepth 100000
section X32
variable {E : xE} {I : xI} {R : Room} {Φ : xOut → xH → Prop} {nc ns pc : Nat} {lv : List (Option Value)} {st : List Value} {G : xH}
theorem xj_aastS {a k : Nat} {u : UInt32} {i : Int32} {L : List Value} (hd : decode I.2.1 pc = .ok (.aastore, 1)) (hg : G[a]? = some (cR 9 L)) (hu : u.toNat < 13) (hi : i = nI k) (h31 : k < 2147483648) (hk : k < L.length)
    (kk : xJ E I R Φ nc ns (pc + 1) lv st (G.set a (cR 9 (L.set k (.float u))))) : xJ E I R Φ nc ns pc lv (.float u :: .int i :: .ref a :: st) G := by
  intro p e s m args below meth c H locs cells slots ls B
  have hW := B.2.1.2.2.2.2.2.2.1
  subst hi
  obtain ⟨hcell, -⟩ := B.2.2.1.2.2 a _ hg
  have hcell : H[xb E + a]? = some (arrV (E.2.2.2.2.1 9) L.length (fun j => va_rf (xo E (L.getD j .null)))) := hcell
  obtain ⟨cellV, g1, g3, g2, -⟩ := ((B.1.strAt hW B.2.2.1).1 u.toNat hu).1
  obtain ⟨kA, comp, k1, k2, k3, -⟩ := ((B.1.Ka hW (t := 9) (ty := .object "java/lang/String") rfl).2 0 _ rfl).2
  have hcomp : comp = cellV.cls := Option.some.inj (k3.symm.trans g2)
  subst hcomp
  obtain ⟨kC, hkC, -⟩ := Vm.findClass_spec g2
  refine W.aast B.2.1.1 B.2.1.2.1 hcell (fun q h => by cases h) (fun h => by cases h) k1 k2 rfl hkC ⟨nI_pos h31, by rw [arrV_size, nI_clamp h31]; exact hk⟩ g1 (fun q h => by rw [h] at g3; cases g3) hkC (xasg _ _) rfl rfl hd fun H1 e1 z oq => ?_
  rw [nI_clamp h31] at e1 ⊢
  exact kk p e s m args below meth c H1 _ cells slots ls ⟨B.1, B.2.1, B.2.2.1.aput (v := .float u) hg hk rfl e1 z oq, by rw [z]; exact B.2.2.2.1, t_lc (free := fun q => xb E ≤ q) B.2.2.2.2.1 (Nat.le_add_right _ _), B.2.2.2.2.2⟩
end X32
