/-! ===== what the public questions answer, on ===== -/
set_option maxRecDepth 100000
theorem inB_c3 {x : Int32} : inB x.toInt64 0 3 = inI x 4 := inB_inI (m := 4) (by decide)
theorem inB_c2 {x : Int32} : inB x.toInt64 0 2 = inI x 3 := inB_inI (m := 3) (by decide)
theorem inB_c1 {x : Int32} : inB x.toInt64 0 1 = inI x 2 := inB_inI (m := 2) (by decide)
def o_of (n : Nat) (x w : Int32) : Int32 := if rowB n x && inI w 4 then (if w = 0 then nI (pc64 (inv n (tn x))) else if w = 1 then nI (drp n (tn x)) else if w = 2 then nI (rk n (tn x)) else nI (trn n (tn x) n 0)) else -1
def o_alike (n g : Nat) (x w : Int32) : Int32 := if rowB n x && inI w 3 then (if w = 0 then nI (gos n true g (tn x)) else if w = 1 then nI (gos n false g (tn x)) else nI (mnA n g (tn x))) else -1
def o_classes (n g : Nat) (x y w : Int32) : Int32 := if (rowB n x && rowB n y) && inI w 3 then (if w = 0 then b1 (subB n (gos n true g (tn x)) (gos n true g (tn y))) else if w = 1 then nI (gos n true g (mtS n (inv n (gos n true g (tn x)) &&& inv n (gos n true g (tn y))))) else nI (gos n true g (jnS n (inv n (gos n true g (tn x)) ||| inv n (gos n true g (tn y)))))) else -1
def o_forces (n : Nat) (x y : Int32) : Int32 := if inI x (na n) && inI y (na n) then b1 ((fo n (tn x)).testBit (tn y)) else -1
theorem gos_mem' {n g r : Nat} {t : Bool} (hn : n < 7) (hr : r ∈ rws n) : gos n t g r ∈ rws n := gos_mem hn 16 r (gmu_lt hn hr) hr
theorem na30 {n : Nat} (hn : n < 7) : na n < 2 ^ 30 := Nat.lt_of_le_of_lt (na_lt n hn) (by decide)
/-- rowOf by search -/
def roF (n S : Nat) : Nat → Nat → Int32
  | 0, _ => -3
  | k + 1, i => if dgm n (rb n i) = S then nI (rb n i) else roF n S k (i + 1)
def o_rowOf (n S : Nat) : Int32 := if S / 2 ^ na n = 0 then roF n S (wy n) 0 else -1
/-- classAt by search -/
def caF (n g : Nat) : Nat → Nat → Int32 → Int32
  | 0, _, _ => -1
  | k + 1, i, x => if x < 0 then -1 else if lst n g (rb n i) then (if x = 0 then nI (rb n i) else caF n g k (i + 1) (x + -1)) else caF n g k (i + 1) x
theorem mt_mem {n B : Nat} (hn : n < 7) (h1 : 1 ≤ n) : mtS n B ∈ rws n ∨ mtS n B = 0 := by
  have key : ∀ (k i : Nat) (s : Nat × Nat), i + k ≤ wy n → (s.1 ∈ rws n ∨ s.1 = 0) → ((lpN (mtF n B) i k s).1 ∈ rws n ∨ (lpN (mtF n B) i k s).1 = 0) := by
    intro k
    induction k with
    | zero => intro i s _ h; exact h
    | succ k ih =>
      intro i s hi h
      refine ih (i + 1) _ (by omega) ?_
      unfold mtF
      split
      · exact Or.inl (rb_mem hn h1 (by omega))
      · exact h
  exact key (wy n) 0 (0, 0) (by omega) (Or.inr rfl)
theorem f_id0 : ∀ n, n < 7 → 1 ≤ n → inv n (rb n 0) = 0 := by decide +kernel
theorem f_rev : ∀ n, n < 7 → 1 ≤ n → ∀ r ∈ rws n, inv n r &&& inv n (rb n (wy n - 1)) = inv n r := by decide +kernel
