/-! ===== the class: what public methods keep ===== -/
set_option maxRecDepth 100000
/-- arrays for writing -/
def scr (G : xH) : Prop := dsk G ∧ (∀ i, 22 ≤ i → i ≤ 25 → ∃ A : List Int32, A.length = 120 ∧ G[i]? = some (cI 0 A)) ∧ (∃ A : List Int32, A.length = 120 ∧ G[26]? = some (cI 2 A)) ∧ ∃ A : List Int32, A.length = 5 ∧ G[20]? = some (cI 0 A)
def sIn (d : Nat → Value) : Prop := ∀ i ∈ [18, 19, 22, 28], ∃ k, d i = .int k
def gfa (W : List Nat) (G G' : xH) : Prop := G.length ≤ G'.length ∧ ∀ i, i < G.length → i ∉ W → G'[i]? = G[i]?
theorem gfa.refl {W : List Nat} {G : xH} : gfa W G G := ⟨Nat.le_refl _, fun _ _ _ => rfl⟩
theorem gfa.trans {W : List Nat} {G H K : xH} (h1 : gfa W G H) (h2 : gfa W H K) : gfa W G K := ⟨Nat.le_trans h1.1 h2.1, fun i h hi => (h2.2 i (Nat.lt_of_lt_of_le h h1.1) hi).trans (h1.2 i h hi)⟩
theorem gfr.gfa {W : List Nat} {G H : xH} (h : gfr W G H) : gfa W G H := ⟨Nat.le_of_eq h.1.symm, fun i _ hi => h.2 i hi⟩
theorem gfa.set {W : List Nat} {G H : xH} {r : Nat} {x : xC} (h : gfa W G H) (hr : r ∈ W) : gfa W G (H.set r x) := ⟨by rw [List.length_set]; exact h.1, fun i hl hi => by rw [gset (show r ≠ i from fun e => hi (by rw [← e]; exact hr))]; exact h.2 i hl hi⟩
/-- the scratch cells -/
def WS : List Nat := [0, 11, 12, 13, 14, 15, 16, 20, 21, 22, 23, 24, 25, 26]
/-- behind a question: only scratch is other -/
def cPo (d : Nat → Value) (G G' : xH) : Prop := ∃ d', (∀ i, i ∉ [18, 19, 22, 28] → d' i = d i) ∧ sIn d' ∧ G'[0]? = some (cO 0 (cFs d')) ∧ scr G' ∧ gfa WS G G'
theorem cPo.refl {d e : Nat → Value} {n : Nat} {G : xH} (hv : cV d e n G) (hs : sIn d) (hc : scr G) : cPo d G G := ⟨d, fun _ _ => rfl, hs, hv.1, hc, gfa.refl⟩
theorem scr.row {G : xH} {r : Nat} {M : List Int32} (h : scr G) (h1 : 11 ≤ r) (h2 : r ≤ 16) (hM : M.length = 6) : scr (G.set r (cI 1 M)) := by
  obtain ⟨q1, q2, q3, q4⟩ := h
  refine ⟨q1.row h1 h2 hM, fun i i1 i2 => ?_, ?_, ?_⟩
  · rw [gset (by omega)]; exact q2 i i1 i2
  · rw [gset (by omega)]; exact q3
  · rw [gset (by omega)]; exact q4
theorem cPo.row {d : Nat → Value} {G H : xH} {r : Nat} {M : List Int32} (h : cPo d G H) (h1 : 11 ≤ r) (h2 : r ≤ 16) (hM : M.length = 6) : cPo d G (H.set r (cI 1 M)) := by
  obtain ⟨d', p1, p2, p3, p4, p5⟩ := h
  refine ⟨d', p1, p2, by rw [gset (by omega)]; exact p3, p4.row h1 h2 hM, p5.set ?_⟩
  match r, h1, h2 with
  | 11, _, _ => decide
  | 12, _, _ => decide
  | 13, _, _ => decide
  | 14, _, _ => decide
  | 15, _, _ => decide
  | 16, _, _ => decide
  | k + 17, _, h => omega
theorem scr.at {G : xH} {r : Nat} (h : scr G) (h1 : 11 ≤ r) (h2 : r ≤ 16) : ∃ M : List Int32, M.length = 6 ∧ G[r]? = some (cI 1 M) := h.1.1 r h1 h2
theorem f_tri1 {n R : Nat} (hn : n < 7) (hr : R ∈ rws n) : pc64 (iv6 n R) = pc64 (inv n R) := (row_ok hn hr).2.2.2.2.2
