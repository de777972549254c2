/-! ===== the class: frames of heaps ===== -/
set_option maxRecDepth 100000
/-- all cells but those of W are as they were -/
def gfr (W : List Nat) (G G' : xH) : Prop := G'.length = G.length ∧ ∀ i, i ∉ W → G'[i]? = G[i]?
theorem gfr.refl {W : List Nat} {G : xH} : gfr W G G := ⟨rfl, fun _ _ => rfl⟩
theorem gfr.trans {W : List Nat} {G H K : xH} (h1 : gfr W G H) (h2 : gfr W H K) : gfr W G K := ⟨h2.1.trans h1.1, fun i hi => (h2.2 i hi).trans (h1.2 i hi)⟩
theorem gfr.mono {W V : List Nat} {G H : xH} (h : gfr W G H) (hs : ∀ i ∈ W, i ∈ V) : gfr V G H := ⟨h.1, fun i hi => h.2 i (fun q => hi (hs i q))⟩
theorem gfr.set {W : List Nat} {G H : xH} {r : Nat} {x : xC} (h : gfr W G H) (hr : r ∈ W) : gfr W G (H.set r x) := ⟨by rw [List.length_set]; exact h.1, fun i hi => by rw [gset (show r ≠ i from fun e => hi (by rw [← e]; exact hr))]; exact h.2 i hi⟩
theorem gfr.at {W : List Nat} {G H : xH} {i : Nat} {x : xC} (h : gfr W G H) (hi : i ∉ W) (hx : G[i]? = some x) : H[i]? = some x := (h.2 i hi).trans hx
theorem cV.mv {d d' e : Nat → Value} {n : Nat} {G H : xH} (h : cV d e n G) (h0 : H[0]? = some (cO 0 (cFs d'))) (h4 : H[4]? = G[4]?) : cV d' e n H := ⟨h0, h4.trans h.2.1, h.2.2⟩
