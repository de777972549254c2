/-! ===== the class: the desk; ways up ===== -/
set_option maxRecDepth 100000
/-- the rows of the desk, and what is found -/
def dsk (G : xH) : Prop := (∀ i, 11 ≤ i → i ≤ 16 → ∃ M : List Int32, M.length = 6 ∧ G[i]? = some (cI 1 M)) ∧ ∃ F : List Int32, F.length = 6 ∧ G[21]? = some (cI 0 F)
theorem dsk.row {G : xH} {r : Nat} {M : List Int32} (h : dsk G) (h1 : 11 ≤ r) (h2 : r ≤ 16) (hM : M.length = 6) : dsk (G.set r (cI 1 M)) := by
  refine ⟨fun i i1 i2 => ?_, ?_⟩
  · by_cases e : r = i
    · subst e
      obtain ⟨L, _, hL⟩ := h.1 r h1 h2
      exact ⟨M, hM, gset_self hL⟩
    · rw [gset e]; exact h.1 i i1 i2
  · rw [gset (by omega)]; exact h.2
theorem dsk.oth {G : xH} {r : Nat} {x : xC} (h : dsk G) (h1 : r < 11 ∨ 16 < r) (h2 : r ≠ 21) : dsk (G.set r x) := by
  refine ⟨fun i i1 i2 => ?_, ?_⟩
  · rw [gset (by omega)]; exact h.1 i i1 i2
  · rw [gset h2]; exact h.2
theorem dsk.mk' {G H : xH} (h : dsk G) (hr : ∀ i, 11 ≤ i → i ≤ 16 → H[i]? = G[i]? ∨ ∃ M : List Int32, M.length = 6 ∧ H[i]? = some (cI 1 M)) (hf : ∃ F : List Int32, F.length = 6 ∧ H[21]? = some (cI 0 F)) : dsk H := by
  refine ⟨fun i i1 i2 => ?_, hf⟩
  rcases hr i i1 i2 with h1 | h1
  · rw [h1]; exact h.1 i i1 i2
  · exact h1
theorem dsk.rot {G H : xH} {M3 M4 F : List Int32} (h : dsk G) (hfr : gfr [0, 13, 14, 21] G H) (h3 : M3.length = 6) (h4 : M4.length = 6) (hF : F.length = 6) (h13 : H[13]? = some (cI 1 M3)) (h14 : H[14]? = some (cI 1 M4)) (h21 : H[21]? = some (cI 0 F)) : dsk H := by
  refine h.mk' (fun i i1 i2 => ?_) ⟨F, hF, h21⟩
  by_cases e : i = 13
  · subst e; exact Or.inr ⟨M3, h3, h13⟩
  · by_cases e2 : i = 14
    · subst e2; exact Or.inr ⟨M4, h4, h14⟩
    · exact Or.inl (hfr.2 i (by simp only [List.mem_cons, List.not_mem_nil, or_false]; omega))
theorem cV.upd {d e : Nat → Value} {n i : Nat} {G : xH} {v : Value} (h : cV d e n G) : cV (cu d i v) e n (G.set 0 (cO 0 (cFs (cu d i v)))) := ⟨gset_self h.1, by rw [gset (by decide)]; exact h.2.1, h.2.2⟩
/-- the class's ways up -/
def fwI (n g w : Nat) : Nat → List Int32 × List Int32 → List Int32 × List Int32 := fun i s => if 0 ≤ s.1.getD i 0 ∧ pc64 (iv6 n (rb n i)) = w then clV n i (rot n g (rb n i) false) s else s
def fwO (n g : Nat) : Nat → List Int32 × List Int32 → List Int32 × List Int32 := fun w s => lpN (fwI n g w) 0 (wy n) s
def fwA (n g : Nat) : List Int32 × List Int32 := lpN (fwO n g) 0 (n * (n - 1) / 2) ((List.replicate 120 (-1)).set 0 0, (List.replicate 120 (-1)).set 0 0)
theorem clV_len (n i : Nat) : ∀ (l : List Nat) (s : List Int32 × List Int32), (clV n i l s).1.length = s.1.length ∧ (clV n i l s).2.length = s.2.length := by
  intro l
  induction l with
  | nil => intro s; exact ⟨rfl, rfl⟩
  | cons v l ih =>
    intro s
    have h := ih (clS n i v s)
    unfold clS at h
    rw [List.length_set, List.length_set] at h
    exact h
