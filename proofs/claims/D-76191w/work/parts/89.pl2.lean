/-! ===== plain law: what follows from pairs of rows, for all sets ===== -/
set_option maxRecDepth 100000
def clQ (n s : Nat) : Bool := fz (cpN n s) (fun t => fz (rwN n t) fun R => Nat.blt R (10 ^ n) && (Nat.beq (mask n R) (2 ^ n - 1) && Nat.beq (iv6 n R) t))
def allC (P : Nat → Bool) : List (Nat × List (Nat × Nat)) → Nat → Bool
  | [], s => P s
  | q :: l, s => allC P l s && (if q.2.all (fun x => s.testBit x.1 || s.testBit x.2) then fz (s ||| 2 ^ q.1) (fun t => allC P l t) else true)
def wfC : List (Nat × List (Nat × Nat)) → Bool
  | [] => true
  | q :: l => (q.2.all fun x => !(q.1 :: l.map (·.1)).contains x.1 && !(q.1 :: l.map (·.1)).contains x.2) && wfC l
theorem allC_ok {P : Nat → Bool} : ∀ (l : List (Nat × List (Nat × Nat))) (s0 s : Nat), allC P l s0 = true → wfC l = true → sbs s0 s → (∀ i, s.testBit i = true → s0.testBit i = true ∨ i ∈ l.map (·.1)) → (∀ q ∈ l, s.testBit q.1 = true → ∀ x ∈ q.2, (s.testBit x.1 || s.testBit x.2) = true) → P s = true := by
  intro l
  induction l with
  | nil =>
    intro s0 s h _ h1 h2 _
    have : s0 = s := h1.anti (fun i hi => (h2 i hi).elim id (fun q => absurd q (List.not_mem_nil)))
    rw [← this]; exact h
  | cons q l ih =>
    intro s0 s h hw h1 h2 h3
    unfold allC at h
    unfold wfC at hw
    rw [fz_eq, Bool.and_eq_true] at h
    rw [Bool.and_eq_true] at hw
    cases hb : s.testBit q.1 with
    | true =>
      have hall : (q.2.all fun x => s0.testBit x.1 || s0.testBit x.2) = true := by
        rw [List.all_eq_true]
        intro x hx
        have hx1 := h3 q (List.mem_cons_self ..) hb x hx
        have hx2 := List.all_eq_true.mp hw.1 x hx
        rw [Bool.and_eq_true, Bool.not_eq_true', Bool.not_eq_true'] at hx2
        rw [Bool.or_eq_true] at hx1 ⊢
        rcases hx1 with e | e
        · left
          rcases h2 _ e with z | z
          · exact z
          · have : (q.1 :: l.map (·.1)).contains x.1 = true := List.contains_iff_mem.mpr z
            rw [hx2.1] at this; cases this
        · right
          rcases h2 _ e with z | z
          · exact z
          · have : (q.1 :: l.map (·.1)).contains x.2 = true := List.contains_iff_mem.mpr z
            rw [hx2.2] at this; cases this
      have h' := h.2
      rw [if_pos hall] at h'
      refine ih (s0 ||| 2 ^ q.1) s h' hw.2 (sbs_or.mpr ⟨h1, fun i hi => ?_⟩) (fun i hi => ?_) (fun q' hq' => h3 q' (List.mem_cons_of_mem _ hq'))
      · rw [Nat.testBit_two_pow] at hi
        rw [← of_decide_eq_true hi]; exact hb
      · rcases h2 i hi with z | z
        · left; rw [Nat.testBit_or, z]; rfl
        · rcases List.mem_cons.mp z with e | z
          · left; rw [e, Nat.testBit_or, Nat.testBit_two_pow_self, Bool.or_true]
          · exact Or.inr z
    | false =>
      refine ih s0 s h.1 hw.2 h1 (fun i hi => ?_) (fun q' hq' => h3 q' (List.mem_cons_of_mem _ hq'))
      rcases h2 i hi with z | z
      · exact Or.inl z
      · rcases List.mem_cons.mp z with e | z
        · rw [e, hb] at hi; cases hi
        · exact Or.inr z
theorem allC_c {P : Nat → Bool} {b s t : Nat} {l : List (Nat × List (Nat × Nat))} (h1 : allC P l s = true) (h2 : allC P l t = true) (e : s ||| 2 ^ b = t) : allC P ((b, []) :: l) s = true := by
  unfold allC
  rw [fz_eq, h1, e, h2]; rfl
def lc1 : List (Nat × List (Nat × Nat)) := []
def lc2 : List (Nat × List (Nat × Nat)) := [(1, [])]
def lc3 : List (Nat × List (Nat × Nat)) := [(1, []), (8, []), (2, [(1, 8)])]
def lc4 : List (Nat × List (Nat × Nat)) := [(1, []), (8, []), (15, []), (2, [(1, 8)]), (9, [(8, 15)]), (3, [(1, 9), (2, 15)])]
def lc5 : List (Nat × List (Nat × Nat)) := [(1, []), (8, []), (15, []), (22, []), (2, [(1, 8)]), (9, [(8, 15)]), (16, [(15, 22)]), (3, [(1, 9), (2, 15)]), (10, [(8, 16), (9, 22)]), (4, [(1, 10), (2, 16), (3, 22)])]
def lc6 : List (Nat × List (Nat × Nat)) := [(1, []), (8, []), (15, []), (22, []), (29, []), (2, [(1, 8)]), (9, [(8, 15)]), (16, [(15, 22)]), (23, [(22, 29)]), (3, [(1, 9), (2, 15)]), (10, [(8, 16), (9, 22)]), (17, [(15, 23), (16, 29)]), (4, [(1, 10), (2, 16), (3, 22)]), (11, [(8, 17), (9, 23), (10, 29)]), (5, [(1, 11), (2, 17), (3, 23), (4, 29)])]
theorem f_cl1 : allC (clQ 1) lc1 0 = true := by decide +kernel
theorem f_cl2 : allC (clQ 2) lc2 0 = true := by decide +kernel
theorem f_cl3 : allC (clQ 3) lc3 0 = true := by decide +kernel
theorem f_cl4 : allC (clQ 4) lc4 0 = true := by decide +kernel
theorem f_cl5 : allC (clQ 5) lc5 0 = true := by decide +kernel
