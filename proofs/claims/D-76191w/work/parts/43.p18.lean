/-! ===== fields written; heaps by a function (the first 83 cells) and a tail ===== -/
set_option maxRecDepth 100000
theorem cu_cu (c : Nat → Value) (i : Nat) (v w : Value) : cu (cu c i v) i w = cu c i w := by
  funext j
  unfold cu
  by_cases h : j = i
  · rw [if_pos h, if_pos h]
  · rw [if_neg h, if_neg h, if_neg h]
/-- the heap behind a writing of the reference's field i -/
def sF (G : xH) (c : Nat → Value) (i : Nat) (v : Value) : xH := G.set 54 (cO 7 (mFs (cu c i v)))
theorem sF_sF {G : xH} {c : Nat → Value} {i : Nat} {v w : Value} : sF (sF G c i v) (cu c i v) i w = sF G c i w := by
  unfold sF
  rw [gset_set, cu_cu]
theorem sF_O {G : xH} {c : Nat → Value} {i : Nat} {v : Value} (h : G[54]? = some (cO 7 (mFs c))) : (sF G c i v)[54]? = some (cO 7 (mFs (cu c i v))) := gset_self h
theorem sF_1 {G : xH} {c : Nat → Value} {v : Value} (h : G[54]? = some (cO 7 (mFs c))) (h3 : c 1 = v) : G = sF G c 1 v := by
  unfold sF
  rw [← h3]
  exact (gset_id h).symm
theorem sF_V {G : xH} {c : Nat → Value} {n i : Nat} {v : Value} (h : mV c n G) (h0 : i ≠ 0) : mV (cu c i v) n (sF G c i v) := h.upd h0
theorem sF_A {G : xH} {c : Nat → Value} {n i : Nat} {v : Value} (h : mA n G) : mA n (sF G c i v) := h.set (by decide) (by decide) (by decide)
theorem sF_at {G : xH} {c : Nat → Value} {i j : Nat} {v : Value} (h : 54 ≠ j) : (sF G c i v)[j]? = G[j]? := gset h
def kG (a : Nat → xC) (T : xH) : xH := (List.range 83).map a ++ T
def au (a : Nat → xC) (i : Nat) (x : xC) : Nat → xC := fun j => if j = i then x else a j
theorem au_s (a : Nat → xC) (i : Nat) (x : xC) : au a i x i = x := by unfold au; rw [if_pos rfl]
theorem au_n (a : Nat → xC) {i j : Nat} (x : xC) (h : j ≠ i) : au a i x j = a j := by unfold au; rw [if_neg h]
theorem au_au (a : Nat → xC) (i : Nat) (x y : xC) : au (au a i x) i y = au a i y := by
  funext j
  unfold au
  by_cases h : j = i
  · rw [if_pos h, if_pos h]
  · rw [if_neg h, if_neg h, if_neg h]
theorem kG_len (a : Nat → xC) (T : xH) : (kG a T).length = 83 + T.length := by
  unfold kG; rw [List.length_append, List.length_map, List.length_range]
theorem kG_at {a : Nat → xC} {T : xH} {i : Nat} (h : i < 83) : (kG a T)[i]? = some (a i) := by
  unfold kG
  rw [List.getElem?_append_left (by rw [List.length_map, List.length_range]; exact h), List.getElem?_map, List.getElem?_range h]; rfl
theorem kG_a {a : Nat → xC} {T : xH} {i : Nat} {x : xC} (h : i < 83) (e : a i = x) : (kG a T)[i]? = some x := by rw [kG_at h, e]
theorem kG_tl {a : Nat → xC} {T : xH} {j : Nat} : (kG a T)[83 + j]? = T[j]? := by
  unfold kG
  rw [List.getElem?_append_right (by rw [List.length_map, List.length_range]; omega), List.length_map, List.length_range, show 83 + j - 83 = j by omega]
theorem kG_set {a : Nat → xC} {T : xH} {i : Nat} {x : xC} (h : i < 83) : (kG a T).set i x = kG (au a i x) T := by
  apply List.ext_getElem?
  intro j
  by_cases hj : j < 83
  · rw [kG_at hj]
    by_cases e : i = j
    · subst e
      rw [gset_self (kG_at hj), au_s]
    · rw [gset e, kG_at hj, au_n _ _ (fun q => e q.symm)]
  · obtain ⟨k, rfl⟩ : ∃ k, j = 83 + k := ⟨j - 83, by omega⟩
    rw [gset (by omega), kG_tl, kG_tl]
theorem kG_setT {a : Nat → xC} {T : xH} {i : Nat} {x : xC} : (kG a T).set (83 + i) x = kG a (T.set i x) := by
  apply List.ext_getElem?
  intro j
  by_cases hj : j < 83
  · rw [gset (by omega), kG_at hj, kG_at hj]
  · obtain ⟨k, rfl⟩ : ∃ k, j = 83 + k := ⟨j - 83, by omega⟩
    rw [kG_tl]
    by_cases e : i = k
    · subst e
      by_cases hl : i < T.length
      · rw [List.getElem?_set_self (by rw [kG_len]; omega), List.getElem?_set_self hl]
      · rw [List.getElem?_eq_none (by rw [List.length_set, kG_len]; omega), List.getElem?_eq_none (by rw [List.length_set]; omega)]
    · rw [gset (by omega), kG_tl, List.getElem?_set_ne e]
theorem kG_push {a : Nat → xC} {T : xH} {x : xC} : kG a T ++ [x] = kG a (T ++ [x]) := by unfold kG; rw [List.append_assoc]
/-- all cells but those of W are as they were -/
def kfr (W : List Nat) (a b : Nat → xC) : Prop := ∀ j, j ∉ W → b j = a j
theorem kfr.refl (W : List Nat) (a : Nat → xC) : kfr W a a := fun _ _ => rfl
theorem kfr.au {W : List Nat} {a b : Nat → xC} {i : Nat} {x : xC} (h : kfr W a b) (hi : i ∈ W) : kfr W a (au b i x) := fun j hj => by
  rw [au_n _ _ (fun q => hj (by rw [q]; exact hi))]
  exact h j hj
theorem kfr.trans {W V : List Nat} {a b d : Nat → xC} (h : kfr W a b) (h2 : kfr V b d) (hs : ∀ j ∈ V, j ∈ W) : kfr W a d := fun j hj => (h2 j (fun q => hj (hs j q))).trans (h j hj)
theorem kfr.mono {W V : List Nat} {a b : Nat → xC} (h : kfr V a b) (hs : ∀ j ∈ V, j ∈ W) : kfr W a b := fun j hj => h j (fun q => hj (hs j q))
theorem mV.k {a b : Nat → xC} {T T' : xH} {c c' : Nat → Value} {n : Nat} (h : mV c n (kG a T)) (hO : b 54 = cO 7 (mFs c')) (h0 : c' 0 = c 0) (h1 : b 63 = a 63) (h2 : b 64 = a 64) : mV c' n (kG b T') := by
  obtain ⟨p1, p2, p3, p4, p5, p6⟩ := h
  rw [kG_at (by decide)] at p5 p6
  exact ⟨kG_a (by decide) hO, h0.trans p2, p3, p4, by rw [kG_at (by decide), h1]; exact p5, by rw [kG_at (by decide), h2]; exact p6⟩
theorem mA.k {a b : Nat → xC} {T T' : xH} {n : Nat} (h : mA n (kG a T)) (h1 : b 59 = a 59) (h2 : b 60 = a 60) (h3 : b 61 = a 61) : mA n (kG b T') := by
  obtain ⟨L1, L2, L3, p1, p2, p3, p4⟩ := h
  rw [kG_at (by decide)] at p1 p2 p3
  exact ⟨L1, L2, L3, by rw [kG_at (by decide), h1]; exact p1, by rw [kG_at (by decide), h2]; exact p2, by rw [kG_at (by decide), h3]; exact p3, p4⟩
theorem mF.k {a b : Nat → xC} {T T' : xH} {c c' : Nat → Value} {n : Nat} (h : mF c n (kG a T)) (h0 : c' 17 = c 17) (h1 : b 62 = a 62) : mF c' n (kG b T') := by
  obtain ⟨p0, L4, p1, p2⟩ := h
  rw [kG_at (by decide)] at p1
  exact ⟨h0.trans p0, L4, by rw [kG_at (by decide), h1]; exact p1, p2⟩
/-! ===== one step up below another row ===== -/
/-- an inverted pair is one whose greater number stands ahead -/
def ivC (n t : Nat) : Bool := (List.range n).all fun y => (List.range y).all fun x => (inv n t).testBit (tri (y + 1) (x + 1)) == decide (plc n t (y + 1) n 0 < plc n t (x + 1) n 0)
theorem f_ivC : ∀ n, n < 7 → ∀ t ∈ rws n, ivC n t = true := by decide +kernel
theorem f_iv {n t x y : Nat} (hn : n < 7) (ht : t ∈ rws n) (h1 : 1 ≤ x) (hxy : x < y) (hy : y ≤ n) : (inv n t).testBit (tri y x) = decide (plc n t y n 0 < plc n t x n 0) := by
  have h := List.all_eq_true.mp (f_ivC n hn t ht) (y - 1) (List.mem_range.mpr (by omega))
  have h2 := List.all_eq_true.mp h (x - 1) (List.mem_range.mpr (by omega))
  rw [show y - 1 + 1 = y by omega, show x - 1 + 1 = x by omega] at h2
  exact eq_of_beq h2
def swC (n r : Nat) : Bool := (List.range (n - 1)).all fun p => if dgt n r (p + 1) < dgt n r p then Nat.beq (inv n r) (inv n (sw n r p) ||| 2 ^ tri (dgt n r p) (dgt n r (p + 1))) else Nat.beq (inv n (sw n r p)) (inv n r ||| 2 ^ tri (dgt n r (p + 1)) (dgt n r p))
theorem f_swC : ∀ n, n < 7 → ∀ r ∈ rws n, swC n r = true := by decide +kernel
theorem f_ivup {n r p : Nat} (hn : n < 7) (hr : r ∈ rws n) (hp : p < n - 1) (hd : ¬ dgt n r (p + 1) < dgt n r p) : inv n (sw n r p) = inv n r ||| 2 ^ tri (dgt n r (p + 1)) (dgt n r p) := by
  have h := List.all_eq_true.mp (f_swC n hn r hr) p (List.mem_range.mpr hp)
  rw [if_neg hd] at h
  exact Nat.eq_of_beq_eq_true h
theorem f_ivdn {n r p : Nat} (hn : n < 7) (hr : r ∈ rws n) (hp : p < n - 1) (hd : dgt n r (p + 1) < dgt n r p) : inv n r = inv n (sw n r p) ||| 2 ^ tri (dgt n r p) (dgt n r (p + 1)) := by
  have h := List.all_eq_true.mp (f_swC n hn r hr) p (List.mem_range.mpr hp)
  rw [if_pos hd] at h
  exact Nat.eq_of_beq_eq_true h
theorem f_nd : ∀ n, n < 7 → ∀ r ∈ rws n, ∀ p, p < n - 1 → dgt n r (p + 1) ≠ dgt n r p := by decide +kernel
theorem f_pd : ∀ n, n < 7 → ∀ r ∈ rws n, ∀ p, p < n → plc n r (dgt n r p) n 0 = p := by decide +kernel
/-- numbers of n digits with the same digits are the same -/
theorem dig_ext {n R S : Nat} (hR : R < 10 ^ n) (hS : S < 10 ^ n) (h : ∀ p, p < n → dgt n R p = dgt n S p) : R = S := by
  have key : ∀ p, p ≤ n → R / 10 ^ (n - p) = S / 10 ^ (n - p) := by
    intro p
    induction p with
    | zero => intro _; rw [Nat.sub_zero, Nat.div_eq_of_lt hR, Nat.div_eq_of_lt hS]
    | succ p ih =>
      intro hp
      have h1 := ih (by omega)
      have h2 := h p (by omega)
      unfold dgt at h2
      rw [show n - 1 - p = n - (p + 1) by omega] at h2
      rw [show n - p = n - (p + 1) + 1 by omega] at h1
      rw [← dig_step R, ← dig_step S, h1, h2]
  have := key n (Nat.le_refl _)
  rw [Nat.sub_self, Nat.pow_zero, Nat.div_one, Nat.div_one] at this
  exact this
/-- places that go up from place to place are the places themselves -/
theorem inc_id {n : Nat} (f : Nat → Nat) (hb : ∀ p, p < n → f p < n) (hi : ∀ p, p + 1 < n → f p < f (p + 1)) : ∀ p, p < n → f p = p := by
  have lo : ∀ p, p < n → p ≤ f p := by
    intro p
    induction p with
    | zero => intro _; exact Nat.zero_le _
    | succ p ih => intro hp; have := ih (by omega); have := hi p hp; omega
  have hi2 : ∀ k p, p + k = n - 1 → p < n → f p ≤ p := by
    intro k
    induction k with
    | zero => intro p h1 h2; have := hb p h2; omega
    | succ k ih => intro p h1 h2; have := ih (p + 1) (by omega) (by omega); have := hi p (by omega); omega
  intro p hp
  have := lo p hp
  have := hi2 (n - 1 - p) p (by omega) hp
  omega
theorem sub_bit {a b i : Nat} (h : a &&& b = a) (hi : a.testBit i = true) : b.testBit i = true := by
  have := congrArg (fun x => Nat.testBit x i) h
  simp only [Nat.testBit_and, hi, Bool.true_and] at this
  exact this
theorem sub_or {a b i : Nat} (h : a &&& b = a) (hi : b.testBit i = true) : (a ||| 2 ^ i) &&& b = a ||| 2 ^ i := by
  apply Nat.eq_of_testBit_eq
  intro j
  rw [Nat.testBit_and, Nat.testBit_or, Nat.testBit_two_pow]
  have hj := congrArg (fun x => Nat.testBit x j) h
  simp only [Nat.testBit_and] at hj
  by_cases e : i = j
  · subst e; rw [hi]; simp
  · rw [decide_eq_false e, Bool.or_false]; exact hj
theorem up_ex {n r t : Nat} (hn : n < 7) (hr : r ∈ rws n) (ht : t ∈ rws n) (hs : subB n r t = true) (hne : r ≠ t) : ∃ p, p < n - 1 ∧ isD n r p = false ∧ subB n (sw n r p) t = true := by
  apply Classical.byContradiction
  intro hno
  have hs' : inv n r &&& inv n t = inv n r := by unfold subB at hs; exact eq_of_beq hs
  apply hne
  have hinc : ∀ p, p + 1 < n → plc n t (dgt n r p) n 0 < plc n t (dgt n r (p + 1)) n 0 := by
    intro p hp
    have hnd := f_nd n hn r hr p (by omega)
    have h1 := f_dig n hn r hr p (by omega)
    have h2 := f_dig n hn r hr (p + 1) hp
    by_cases hd : dgt n r (p + 1) < dgt n r p
    · have hb : (inv n r).testBit (tri (dgt n r p) (dgt n r (p + 1))) = true := by
        rw [f_ivdn hn hr (by omega) hd, Nat.testBit_or, Nat.testBit_two_pow]; simp
      have := sub_bit hs' hb
      rw [f_iv hn ht h2.1 hd h1.2] at this
      exact of_decide_eq_true this
    · by_cases hb : (inv n t).testBit (tri (dgt n r (p + 1)) (dgt n r p)) = true
      · exact absurd ⟨p, by omega, decide_eq_false hd, by unfold subB; rw [f_ivup hn hr (by omega) hd, sub_or hs' hb]; exact beq_self_eq_true _⟩ hno
      · rw [f_iv hn ht h1.1 (by omega) h2.2] at hb
        have h3 : ¬ plc n t (dgt n r (p + 1)) n 0 < plc n t (dgt n r p) n 0 := fun q => hb (decide_eq_true q)
        have h4 : plc n t (dgt n r (p + 1)) n 0 ≠ plc n t (dgt n r p) n 0 := by
          intro q
          have e1 := (f_plc n hn t ht (dgt n r p - 1) (by omega)).2
          have e2 := (f_plc n hn t ht (dgt n r (p + 1) - 1) (by omega)).2
          rw [show dgt n r p - 1 + 1 = dgt n r p by omega] at e1
          rw [show dgt n r (p + 1) - 1 + 1 = dgt n r (p + 1) by omega] at e2
          rw [q] at e2
          omega
        omega
  have hb : ∀ p, p < n → plc n t (dgt n r p) n 0 < n := by
    intro p hp
    have h1 := f_dig n hn r hr p hp
    have := (f_plc n hn t ht (dgt n r p - 1) (by omega)).1
    rwa [show dgt n r p - 1 + 1 = dgt n r p by omega] at this
  have hid := inc_id (fun p => plc n t (dgt n r p) n 0) hb hinc
  apply dig_ext (n := n) (f_tl n hn r hr) (f_tl n hn t ht)
  intro p hp
  have h1 := f_dig n hn r hr p hp
  have e := (f_plc n hn t ht (dgt n r p - 1) (by omega)).2
  rw [show dgt n r p - 1 + 1 = dgt n r p by omega] at e
  have e2 : plc n t (dgt n r p) n 0 = p := hid p hp
  rw [e2] at e
  exact e.symm
def upL (n r t : Nat) : Nat → Nat → Nat
  | 0, p => p
  | k + 1, p => if isD n r p = false ∧ subB n (sw n r p) t = true then p else upL n r t k (p + 1)
/-- the place of the first step up from r that stays below t -/
def upP (n r t : Nat) : Nat := upL n r t (n - 1) 0
theorem upL_ok {n r t : Nat} : ∀ (k p q : Nat), p ≤ q → q < p + k → isD n r q = false → subB n (sw n r q) t = true → upL n r t k p < p + k ∧ isD n r (upL n r t k p) = false ∧ subB n (sw n r (upL n r t k p)) t = true := by
  intro k
  induction k with
  | zero => intro p q h1 h2; omega
  | succ k ih =>
    intro p q h1 h2 h3 h4
    unfold upL
    by_cases hc : isD n r p = false ∧ subB n (sw n r p) t = true
    · rw [if_pos hc]; exact ⟨by omega, hc⟩
    · rw [if_neg hc]
      have hq : p ≠ q := fun e => hc (by rw [e]; exact ⟨h3, h4⟩)
      have := ih (p + 1) q (by omega) (by omega) h3 h4
      exact ⟨by omega, this.2⟩
theorem upP_ok {n r t : Nat} (hn : n < 7) (hr : r ∈ rws n) (ht : t ∈ rws n) (hs : subB n r t = true) (hne : r ≠ t) : upP n r t < n - 1 ∧ isD n r (upP n r t) = false ∧ subB n (sw n r (upP n r t)) t = true := by
  obtain ⟨p, h1, h2, h3⟩ := up_ex hn hr ht hs hne
  have := upL_ok (n := n) (r := r) (t := t) (n - 1) 0 p (Nat.zero_le _) (by omega) h2 h3
  rw [Nat.zero_add] at this
  exact this
def clp (n t : Nat) : Nat → Nat → Nat → Nat
  | 0, _, g => g
  | f + 1, r, g => if r = t then g else clp n t f (sw n r (upP n r t)) (g ||| fo n (aa n r (upP n r t)))
theorem clp_lt {n t : Nat} (hn : n < 7) : ∀ (f r g : Nat), g < 2 ^ 57 → clp n t f r g < 2 ^ 57 := by
  intro f
  induction f with
  | zero => intro r g h; exact h
  | succ f ih =>
    intro r g h
    unfold clp
    split
    · exact h
    · exact ih _ _ (Nat.or_lt_two_pow h (fo_lt hn _))
def s_collapse (n g : Nat) (x y : Int32) : Nat := if rowB n x && rowB n y then clp n (jnS n (inv n (tn x) ||| inv n (tn y))) 16 (mtS n (inv n (tn x) &&& inv n (tn y))) g else g
def o_collapse (n g : Nat) (x y : Int32) : Int32 := if rowB n x && rowB n y then nI (pc64 (s_collapse n g x y)) else -1
theorem mtS_sub {n B : Nat} (hn : n < 7) (h1 : 1 ≤ n) : inv n (mtS n B) &&& B = inv n (mtS n B) := by
  have key : ∀ (k i : Nat) (s : Nat × Nat), inv n s.1 &&& B = inv n s.1 → inv n (lpN (mtF n B) i k s).1 &&& B = inv n (lpN (mtF n B) i k s).1 := by
    intro k
    induction k with
    | zero => intro i s h; exact h
    | succ k ih =>
      intro i s h
      refine ih (i + 1) _ ?_
      unfold mtF
      split
      · rename_i hc; exact hc.1
      · exact h
  have hw : 0 < wy n := (wy_in n hn).1
  have e : mtS n B = (lpN (mtF n B) 1 (wy n - 1) (mtF n B 0 (0, 0))).1 := by
    unfold mtS
    have := lp_step (mtF n B) hw (0, 0)
    rw [Nat.sub_zero] at this
    rw [this]
  rw [e]
  refine key _ _ _ ?_
  unfold mtF
  rw [if_pos ⟨by rw [f_id0 n hn h1]; exact Nat.zero_and _, Nat.succ_pos _⟩]
  show inv n (rb n 0) &&& B = inv n (rb n 0)
  rw [f_id0 n hn h1]; exact Nat.zero_and _
theorem jnS_sup {n B : Nat} (hn : n < 7) (h1 : 1 ≤ n) (hB : B &&& inv n (rb n (wy n - 1)) = B) : B &&& inv n (jnS n B) = B := by
  have key : ∀ (k i : Nat) (s : Nat × Nat), (B &&& inv n s.1 = B ∨ s = (0, 99)) → (B &&& inv n (lpN (jnF n B) i k s).1 = B ∨ lpN (jnF n B) i k s = (0, 99)) := by
    intro k
    induction k with
    | zero => intro i s h; exact h
    | succ k ih =>
      intro i s h
      refine ih (i + 1) _ ?_
      unfold jnF
      split
      · rename_i hc; exact Or.inl hc.1
      · exact h
  have hw : 0 < wy n := (wy_in n hn).1
  unfold jnS
  rw [show wy n = (wy n - 1) + 1 by omega, lpN_last, Nat.zero_add]
  rcases key (wy n - 1) 0 (0, 99) (Or.inr rfl) with h | h
  · unfold jnF at h ⊢
    split
    · rename_i hc; exact hc.1
    · exact h
  · rw [h]
    unfold jnF
    rw [if_pos ⟨hB, Nat.lt_of_le_of_lt (pc64_le _) (by decide)⟩]
    exact hB
theorem mj_sub {n a b : Nat} (hn : n < 7) (h1 : 1 ≤ n) (ha : a ∈ rws n) (hb : b ∈ rws n) : subB n (mtS n (inv n a &&& inv n b)) (jnS n (inv n a ||| inv n b)) = true := by
  have e1 := mtS_sub (B := inv n a &&& inv n b) hn h1
  have e2 := jnS_sup (B := inv n a ||| inv n b) hn h1 (by rw [Nat.and_or_distrib_right, f_rev n hn h1 a ha, f_rev n hn h1 b hb])
  unfold subB
  rw [beq_iff_eq]
  apply Nat.eq_of_testBit_eq
  intro i
  have q1 := congrArg (fun x => Nat.testBit x i) e1
  have q2 := congrArg (fun x => Nat.testBit x i) e2
  simp only [Nat.testBit_and, Nat.testBit_or] at q1 q2 ⊢
  revert q1 q2
  cases (inv n (mtS n (inv n a &&& inv n b))).testBit i <;> cases (inv n a).testBit i <;> cases (inv n b).testBit i <;> cases (inv n (jnS n (inv n a ||| inv n b))).testBit i <;> decide
theorem inB_60 {x : Int32} : inB x.toInt64 1 60 = in1 x 60 := inB_1 (n := 60) (by decide)
theorem inB_16 {x : Int32} : inB x.toInt64 1 6 = in1 x 6 := inB_1 (n := 6) (by decide)
theorem inB_18 {x : Int32} : inB x.toInt64 1 8 = in1 x 8 := inB_1 (n := 8) (by decide)
theorem nI_m1 {p : Nat} (h : 0 < p) : nI p + -1 = nI (p - 1) := by
  rw [show p = (p - 1) + 1 by omega]; exact pk_m1 (p - 1)
