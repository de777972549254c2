/-! ===== how far classes are, ways up, the list ===== -/
set_option maxRecDepth 100000
def apS (n q v : Nat) (s : List Int32 × List Nat) : Option (List Int32 × List Nat) := if s.1.getD (rk n v) 0 < 0 then (if s.2.length < 120 then some (s.1.set (rk n v) (s.1.getD (rk n q) 0 + 1), s.2 ++ [v]) else none) else some s
def apV (n q : Nat) : List Nat → List Int32 × List Nat → Option (List Int32 × List Nat)
  | [], s => some s
  | v :: l, s => match apS n q v s with
    | none => none
    | some s' => apV n q l s'
def apW (n g k : Nat) (s : List Int32 × List Nat) : Option (List Int32 × List Nat) := match s.2[k]? with
  | none => none
  | some q => match apV n q (rot n g q true) s with
    | none => none
    | some s1 => apV n q (rot n g q false) s1
def apF (n g b : Nat) : Nat → Nat → List Int32 × List Nat → Option Int32
  | 0, _, _ => none
  | f + 1, k, s => if 0 ≤ s.1.getD (rk n b) 0 then some (s.1.getD (rk n b) 0) else match apW n g k s with
    | none => none
    | some s2 => apF n g b f (k + 1) s2
def apA (n g a b : Nat) : Option Int32 := apF n g b 121 0 ((List.replicate 120 (-1)).set (rk n a) 0, [a])
def o_apart (n g : Nat) (x y : Int32) : Option Int32 := if rowB n x && rowB n y then (if n = 6 then some (-4) else apA n g (gos n true g (tn x)) (gos n true g (tn y))) else some (-1)
def clS (n i v : Nat) (s : List Int32 × List Int32) : List Int32 × List Int32 :=
  (s.1.set (rk n v) (if s.1.getD (rk n v) 0 < s.1.getD i 0 + 1 then s.1.getD i 0 + 1 else s.1.getD (rk n v) 0),
   s.2.set (rk n v) (if s.2.getD (rk n v) 0 < 0 ∨ s.2.getD i 0 + 1 < s.2.getD (rk n v) 0 then s.2.getD i 0 + 1 else s.2.getD (rk n v) 0))
def clV (n i : Nat) : List Nat → List Int32 × List Int32 → List Int32 × List Int32
  | [], s => s
  | v :: l, s => clV n i l (clS n i v s)
def clI (n g w : Nat) : Nat → List Int32 × List Int32 → List Int32 × List Int32 := fun i s => if pc64 (inv n (rb n i)) = w ∧ lst n g (rb n i) = true then clV n i (rot n g (rb n i) false) s else s
def clO (n g : Nat) : Nat → List Int32 × List Int32 → List Int32 × List Int32 := fun w s => lpN (clI n g w) 0 (wy n) s
def clA (n g : Nat) : List Int32 × List Int32 := lpN (clO n g) 0 (n * (n - 1) / 2 + 1) ((List.replicate 120 (-1)).set 0 0, (List.replicate 120 (-1)).set 0 0)
def o_wayUp (n g : Nat) (w : Int32) : Int32 := if inI w 2 then (if n = 6 then -4 else (if w = 0 then (clA n g).1 else (clA n g).2).getD (rk n (gos n true g (rb n (wy n - 1)))) 0) else -1
theorem f_rk5 : ∀ n, n < 6 → ∀ r ∈ rws n, rk n r < 120 := by decide +kernel
def nrF (n g r v : Nat) (b : Int32) : Nat → Int32 → Int32
  | 0, _ => -3
  | f + 1, d => if o_jumped n r v d = -3 ∨ lst n g (tn (o_jumped n r v d)) = true then o_jumped n r v d else nrF n g r v b f (d + b)
def sg (u : Bool) : Int32 := if u then 1 else -1
def nrs (n g r v : Nat) (u : Bool) : Int32 := nrF n g r v (sg u) 8 (sg u)
def nbB (n : Nat) (S : List Int32) (x : Int32) : Bool := decide (x ≠ -3) && decide (S.getD (rk n (tn x)) 0 = 0)
def nbF (n g r : Nat) (S : List Int32) : Nat → Int32
  | 0 => -3
  | v + 1 => if v = 0 then -3 else if nbB n S (nrs n g r (v + 1) false) then nrs n g r (v + 1) false else if nbB n S (nrs n g r (v + 1) true) then nrs n g r (v + 1) true else nbF n g r S v
def lsF (n g : Nat) (i : Int32) : Nat → Int32 → List Nat → List Int32 → List Nat
  | 0, _, l, _ => l
  | f + 1, r, l, S => if r = -3 ∨ i < nI l.length then l else lsF n g i f (nbF n g (tn r) (S.set (rk n (tn r)) 1) n) (l ++ [tn r]) (S.set (rk n (tn r)) 1)
def lsA (n g : Nat) (i : Int32) : List Nat := lsF n g i 121 (nI (rb n 0)) [] (List.replicate 120 0)
def o_listed (n g : Nat) (i : Int32) : Int32 := if i < 0 then -1 else if n = 6 then -4 else if i < nI (lsA n g i).length then nI ((lsA n g i).getD (tn i) 0) else -3
/-- how many are nought -/
def zc : List Int32 → Nat
  | [] => 0
  | x :: l => (if x = 0 then 1 else 0) + zc l
theorem zc_le : ∀ l : List Int32, zc l ≤ l.length := by
  intro l
  induction l with
  | nil => exact Nat.le_refl _
  | cons x l ih => unfold zc; rw [List.length_cons]; split <;> omega
theorem zc_set : ∀ (l : List Int32) (k : Nat), l[k]? = some 0 → zc (l.set k 1) + 1 = zc l := by
  intro l
  induction l with
  | nil => intro k h; cases h
  | cons x l ih =>
    intro k h
    cases k with
    | zero =>
      have : x = 0 := by simpa using h
      subst this
      show zc (1 :: l) + 1 = zc (0 :: l)
      unfold zc
      rw [if_neg (by decide), if_pos rfl]
      omega
    | succ k =>
      have h : l[k]? = some 0 := by simpa using h
      have := ih k h
      show zc (x :: l.set k 1) + 1 = zc (x :: l)
      unfold zc
      omega
theorem jmU_row {n v : Nat} (hn : n < 7) : ∀ (k p s : Nat), p + k < n → s ∈ rws n → jmU n v k p s = -3 ∨ ∃ q ∈ rws n, jmU n v k p s = nI q := by
  intro k
  induction k with
  | zero => intro p s _ h; exact Or.inr ⟨s, h, rfl⟩
  | succ k ih =>
    intro p s hp h
    unfold jmU
    split
    · exact Or.inl rfl
    · exact ih (p + 1) _ (by omega) (f_sw hn h (by omega))
theorem jmD_row {n v : Nat} (hn : n < 7) : ∀ (k p s : Nat), k ≤ p → p < n → s ∈ rws n → jmD n v k p s = -3 ∨ ∃ q ∈ rws n, jmD n v k p s = nI q := by
  intro k
  induction k with
  | zero => intro p s _ _ h; exact Or.inr ⟨s, h, rfl⟩
  | succ k ih =>
    intro p s hp hpn h
    unfold jmD
    split
    · exact Or.inl rfl
    · exact ih (p - 1) _ (by omega) (by omega) (f_sw hn h (by omega))
theorem jumped_row {n r v : Nat} {d : Int32} (hn : n < 7) (hr : r ∈ rws n) (hpl : plc n r v n 0 < n) : o_jumped n r v d = -3 ∨ ∃ q ∈ rws n, o_jumped n r v d = nI q := by
  unfold o_jumped
  split
  · rename_i hc
    split
    · exact jmU_row hn _ _ _ (by omega) hr
    · exact jmD_row hn _ _ _ (by omega) hpl hr
  · exact Or.inl rfl
theorem nrF_row {n g r v : Nat} {b : Int32} (hn : n < 7) (hr : r ∈ rws n) (hpl : plc n r v n 0 < n) : ∀ (f : Nat) (d : Int32), nrF n g r v b f d = -3 ∨ ∃ q ∈ rws n, nrF n g r v b f d = nI q := by
  intro f
  induction f with
  | zero => intro d; exact Or.inl rfl
  | succ f ih =>
    intro d
    unfold nrF
    split
    · exact jumped_row hn hr hpl
    · exact ih _
theorem nbF_row {n g r : Nat} {S : List Int32} (hn : n < 7) (hr : r ∈ rws n) : ∀ v, v ≤ n → nbF n g r S v = -3 ∨ ∃ q ∈ rws n, nbF n g r S v = nI q ∧ S.getD (rk n q) 0 = 0 := by
  intro v
  induction v with
  | zero => intro _; exact Or.inl rfl
  | succ v ih =>
    intro hv
    have hpl : plc n r (v + 1) n 0 < n := (f_plc n hn r hr v (by omega)).1
    have key : ∀ u, nbB n S (nrs n g r (v + 1) u) = true → ∃ q ∈ rws n, nrs n g r (v + 1) u = nI q ∧ S.getD (rk n q) 0 = 0 := by
      intro u h
      unfold nbB at h
      rw [Bool.and_eq_true, decide_eq_true_eq, decide_eq_true_eq] at h
      rcases nrF_row (g := g) (b := sg u) hn hr hpl 8 (sg u) with h1 | ⟨q, hq, h1⟩
      · exact absurd h1 h.1
      · have h1 : nrs n g r (v + 1) u = nI q := h1
        rw [h1, tn_nI hn hq] at h
        exact ⟨q, hq, h1, h.2⟩
    unfold nbF
    split
    · exact Or.inl rfl
    · split
      · rename_i h; exact Or.inr (key _ h)
      · split
        · rename_i h; exact Or.inr (key _ h)
        · exact ih (by omega)
def apZ (n g q : Nat) : Nat → List Int32 × List Nat → Option (List Int32 × List Nat)
  | 0, s => match apV n q (rot n g q true) s with
    | none => none
    | some s1 => apV n q (rot n g q false) s1
  | 1, s => apV n q (rot n g q false) s
  | _, s => some s
theorem repl_ext {F : List Int32} {x : Int32} (h1 : F.length = 120) (h : ∀ i, i < 120 → F[i]? = some x) : F = List.replicate 120 x := by
  apply List.ext_getElem?
  intro i
  by_cases hi : i < 120
  · rw [h i hi, List.getElem?_replicate, if_pos hi]
  · rw [List.getElem?_eq_none (by omega), List.getElem?_eq_none (by rw [List.length_replicate]; omega)]
theorem gD_at {F : List Int32} {k : Nat} (h : k < F.length) : F[k]? = some (F.getD k 0) := by rw [List.getD_eq_getElem?_getD, List.getElem?_eq_getElem h]; rfl
/-- the cells while distances are sought -/
def qG (a : Nat → xC) (X F Q : List Int32) : Nat → xC := au (au (au a 68 (cI 0 X)) 69 (cI 0 F)) 71 (cI 0 Q)
theorem qG_68 {a : Nat → xC} {X F Q Y : List Int32} : au (qG a X F Q) 68 (cI 0 Y) = qG a Y F Q := by
  unfold qG
  rw [au_comm _ _ _ (by decide : 71 ≠ 68), au_comm _ _ _ (by decide : 69 ≠ 68), au_au]
theorem qG_69 {a : Nat → xC} {X F Q Y : List Int32} : au (qG a X F Q) 69 (cI 0 Y) = qG a X Y Q := by
  unfold qG
  rw [au_comm _ _ _ (by decide : 71 ≠ 69), au_au]
theorem qG_71 {a : Nat → xC} {X F Q Y : List Int32} : au (qG a X F Q) 71 (cI 0 Y) = qG a X F Y := by
  unfold qG
  rw [au_au]
def lnq (L : List Int32) (l : List Nat) (n : Nat) : Prop := L.length = 120 ∧ l.length ≤ 120 ∧ ∀ (i x : Nat), l[i]? = some x → L[i]? = some (nI x) ∧ x ∈ rws n
theorem lnq_push {L : List Int32} {l : List Nat} {n v : Nat} (h : lnq L l n) (hl : l.length < 120) (hv : v ∈ rws n) : lnq (L.set l.length (nI v)) (l ++ [v]) n := by
  obtain ⟨h1, h2, h3⟩ := h
  refine ⟨by rw [List.length_set, h1], by rw [List.length_append, List.length_singleton]; omega, fun i x hx => ?_⟩
  by_cases e : i = l.length
  · subst e
    rw [List.getElem?_append_right (Nat.le_refl _), Nat.sub_self] at hx
    cases hx
    exact ⟨List.getElem?_set_self (by omega), hv⟩
  · have hi : i < l.length := by
      have := (List.getElem?_eq_some_iff.mp hx).1
      rw [List.length_append, List.length_singleton] at this
      omega
    rw [List.getElem?_append_left hi] at hx
    rw [List.getElem?_set_ne (fun q => e q.symm)]
    exact h3 i x hx
theorem rot_mem {n g r : Nat} {t : Bool} (hn : n < 7) (hr : r ∈ rws n) : ∀ v ∈ rot n g r t, v ∈ rws n := by
  have hf := gos_mem' (g := g) (t := t) hn hr
  have key : ∀ (k p : Nat) (l : List Nat), p + k ≤ n - 1 → (∀ v ∈ l, v ∈ rws n) → ∀ v ∈ lpN (rotF n g (gos n t g r) t) p k l, v ∈ rws n := by
    intro k
    induction k with
    | zero => intro p l _ h; exact h
    | succ k ih =>
      intro p l hp h
      refine ih (p + 1) _ (by omega) ?_
      unfold rotF
      split
      · intro v hv
        unfold insE at hv
        rcases List.mem_append.mp hv with h1 | h1
        · exact h v (List.mem_of_mem_take h1)
        · rcases List.mem_cons.mp h1 with h2 | h2
          · rw [h2]; exact gos_mem' hn (f_sw hn hf (by omega))
          · exact h v (List.mem_of_mem_drop h2)
      · exact h
  exact key (n - 1) 0 [] (by omega) (fun v hv => by cases hv)
