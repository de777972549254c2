/-! ===== the class: how arcs are linked; what is forced, by going on ===== -/
set_option maxRecDepth 100000
/-- the arcs one wider (0 .. 3) and one narrower (4, 5) -/
def lk (n k : Nat) : Nat → Option Nat
  | 0 => if aL n k = 1 then none else some (fsA n (aL n k - 1) (aH n k) + 2 * aF n k)
  | 1 => if aL n k = 1 then none else some (fsA n (aL n k - 1) (aH n k) + (2 * aF n k + 1))
  | 2 => if n ≤ aH n k then none else some (fsA n (aL n k) (aH n k + 1) + aF n k)
  | 3 => if n ≤ aH n k then none else some (fsA n (aL n k) (aH n k + 1) + (aF n k ||| 2 ^ (aH n k - aL n k - 1)))
  | 4 => if aH n k = aL n k + 1 then none else some (fsA n (aL n k + 1) (aH n k) + aF n k / 2)
  | _ => if aH n k = aL n k + 1 then none else some (fsA n (aL n k) (aH n k - 1) + (aF n k &&& (2 ^ (aH n k - aL n k - 1) / 2 - 1)))
def lkC (n k : Nat) : Bool := (List.range 6).all fun i => match lk n k i with | none => true | some j => Nat.blt j (na n)
theorem f_lkC : ∀ n, n < 7 → ∀ k, k < na n → lkC n k = true := by decide +kernel
theorem lk_lt {n k i j : Nat} (hn : n < 7) (hk : k < na n) (hi : i < 6) (h : lk n k i = some j) : j < na n := by
  have h2 := List.all_eq_true.mp (f_lkC n hn k hk) i (List.mem_range.mpr hi)
  rw [h] at h2
  exact Nat.le_of_ble_eq_true h2
def gOn (w : Nat → Nat → Option Nat) (o : Option Nat) (s : Option Nat) : Option Nat := s.bind fun s => match o with
  | none => some s
  | some j => w s j
/-- a set, and with it all that are found by going on -/
def wth (n : Nat) (t : Bool) : Nat → Nat → Nat → Option Nat
  | 0, _, _ => none
  | f + 1, s, k => if s.testBit k then some s else fz (s ||| 2 ^ k) fun m => if t then gOn (wth n t f) (lk n k 3) (gOn (wth n t f) (lk n k 2) (gOn (wth n t f) (lk n k 1) (gOn (wth n t f) (lk n k 0) (some m)))) else gOn (wth n t f) (lk n k 5) (gOn (wth n t f) (lk n k 4) (some m))
def oeq (a : Option Nat) (b : Nat) : Bool := match a with
  | none => false
  | some x => Nat.beq x b
theorem oeq_t {a : Option Nat} {b : Nat} (h : oeq a b = true) : a = some b := by
  cases a with
  | none => cases h
  | some x => rw [Nat.eq_of_beq_eq_true h]
theorem f_wthB : ∀ n, n < 7 → ∀ k, k < na n → (oeq (wth n true 60 0 k) (fo n k) && oeq (wth n false 60 0 k) (fcr n k)) = true := by decide +kernel
theorem f_wth {n k : Nat} (hn : n < 7) (hk : k < na n) : wth n true 60 0 k = some (fo n k) ∧ wth n false 60 0 k = some (fcr n k) := by
  have h := f_wthB n hn k hk
  rw [Bool.and_eq_true] at h
  exact ⟨oeq_t h.1, oeq_t h.2⟩
theorem gOn_some {w : Nat → Nat → Option Nat} {o s : Option Nat} {r : Nat} (h : gOn w o s = some r) : ∃ s0, s = some s0 ∧ gOn w o (some s0) = some r := by
  cases s with
  | none => cases h
  | some s0 => exact ⟨s0, rfl, h⟩
theorem wth_lt {n : Nat} {t : Bool} (hn : n < 7) : ∀ (f s k r : Nat), s < 2 ^ 57 → k < na n → wth n t f s k = some r → r < 2 ^ 57 := by
  intro f
  induction f with
  | zero => intro s k r _ _ h; cases h
  | succ f ih =>
    intro s k r hs hk h
    have hna := na_lt n hn
    unfold wth at h
    by_cases hb : s.testBit k = true
    · rw [if_pos hb] at h; cases h; exact hs
    · rw [if_neg hb, fz_eq] at h
      have hm : s ||| 2 ^ k < 2 ^ 57 := Nat.or_lt_two_pow hs (Nat.pow_lt_pow_right (by decide) (by omega))
      have g : ∀ (i : Nat) (s r : Nat), i < 6 → s < 2 ^ 57 → gOn (wth n t f) (lk n k i) (some s) = some r → r < 2 ^ 57 := by
        intro i s r hi hs h
        cases ho : lk n k i with
        | none => rw [ho] at h; cases h; exact hs
        | some j => rw [ho] at h; exact ih s j r hs (lk_lt hn hk hi ho) h
      cases t with
      | true =>
        rw [if_pos rfl] at h
        obtain ⟨s3, e3, h⟩ := gOn_some h
        obtain ⟨s2, e2, e3⟩ := gOn_some e3
        obtain ⟨s1, e1, e2⟩ := gOn_some e2
        exact g 3 _ _ (by decide) (g 2 _ _ (by decide) (g 1 _ _ (by decide) (g 0 _ _ (by decide) hm e1) e2) e3) h
      | false =>
        rw [if_neg (by decide)] at h
        obtain ⟨s1, e1, h⟩ := gOn_some h
        exact g 5 _ _ (by decide) (g 4 _ _ (by decide) hm e1) h
/-- arcs while they are made: fields -/
def lval (n B k i : Nat) : Value := match lk n k i with
  | none => .null
  | some j => .ref (B + j)
theorem lval_rf {n B k i : Nat} : xrf (lval n B k i) = true := by
  unfold lval
  cases lk n k i <;> rfl
def ar0 (n k : Nat) : List Value := [.int (nI k), .int (nI (aL n k)), .int (nI (aH n k)), .int (nI (aF n k)), .null, .null, .null, .null, .null, .null, .long 0, .long 0]
def arF (n B k : Nat) (u v : Value) : List Value := [.int (nI k), .int (nI (aL n k)), .int (nI (aH n k)), .int (nI (aF n k)), lval n B k 0, lval n B k 1, lval n B k 2, lval n B k 3, lval n B k 4, lval n B k 5, u, v]
def LJ (B N j : Nat) : List Value := (List.range N).map fun k => if k < j then .ref (B + k) else .null
theorem LJ_len {B N j : Nat} : (LJ B N j).length = N := by unfold LJ; rw [List.length_map, List.length_range]
theorem LJ_at {B N j i : Nat} (hi : i < N) : (LJ B N j)[i]? = some (if i < j then .ref (B + i) else .null) := by
  unfold LJ
  rw [List.getElem?_map, List.getElem?_range hi]; rfl
theorem LJ_0 {B N : Nat} : LJ B N 0 = List.replicate N .null := by
  apply List.ext_getElem?
  intro i
  by_cases hi : i < N
  · rw [LJ_at hi, if_neg (Nat.not_lt_zero _), List.getElem?_replicate, if_pos hi]
  · rw [List.getElem?_eq_none (by rw [LJ_len]; omega), List.getElem?_eq_none (by rw [List.length_replicate]; omega)]
theorem LJ_set {B N j : Nat} (hj : j < N) : (LJ B N j).set j (.ref (B + j)) = LJ B N (j + 1) := by
  apply List.ext_getElem?
  intro i
  by_cases hi : i < N
  · rw [LJ_at hi]
    by_cases e : j = i
    · subst e; rw [List.getElem?_set_self (by rw [LJ_len]; exact hj), if_pos (by omega)]
    · rw [List.getElem?_set_ne e, LJ_at hi]
      congr 1
      by_cases h : i < j
      · rw [if_pos h, if_pos (by omega)]
      · rw [if_neg h, if_neg (by omega)]
  · rw [List.getElem?_eq_none (by rw [List.length_set, LJ_len]; omega), List.getElem?_eq_none (by rw [LJ_len]; omega)]
/-- j arcs are made -/
def mkA (G : xH) (ar n j : Nat) (H : xH) : Prop := H.length = G.length + j ∧ H[ar]? = some (cR 5 (LJ G.length (na n) j)) ∧ (∀ k, k < j → H[G.length + k]? = some (cO 6 (ar0 n k))) ∧ ∀ i, i < G.length → i ≠ ar → H[i]? = G[i]?
theorem mkA.step {G H : xH} {ar n j : Nat} {z : xC} (h : mkA G ar n j H) (har : ar < G.length) (hj : j < na n) : mkA G ar n (j + 1) (((H ++ [z]).set (G.length + j) (cO 6 (ar0 n j))).set ar (cR 5 ((LJ G.length (na n) j).set j (.ref (G.length + j))))) := by
  obtain ⟨h1, h2, h3, h4⟩ := h
  refine ⟨?_, ?_, fun k hk => ?_, fun i hi hne => ?_⟩
  · rw [List.length_set, List.length_set, List.length_append, List.length_singleton, h1]; omega
  · rw [List.getElem?_set_self (by rw [List.length_set, List.length_append, List.length_singleton]; omega), LJ_set hj]
  · rw [gset (by omega)]
    by_cases e : k = j
    · subst e; rw [List.getElem?_set_self (by rw [List.length_append, List.length_singleton]; omega)]
    · rw [gset (by omega), List.getElem?_append_left (by omega)]; exact h3 k (by omega)
  · rw [gset (fun q => hne q.symm), gset (by omega), List.getElem?_append_left (by omega)]; exact h4 i hi hne
/-- arcs of which some are linked, some are told what they force -/
def lkA (G : xH) (ar n : Nat) (F : Nat → List Value) (H : xH) : Prop := H.length = G.length + na n ∧ H[ar]? = some (cR 5 (LJ G.length (na n) (na n))) ∧ (∀ k, k < na n → H[G.length + k]? = some (cO 6 (F k))) ∧ ∀ i, i < G.length → i ≠ ar → H[i]? = G[i]?
theorem mkA.lk {G H : xH} {ar n : Nat} (h : mkA G ar n (na n) H) : lkA G ar n (ar0 n) H := h
theorem lkA.set {G H : xH} {ar n k : Nat} {F : Nat → List Value} {f : List Value} (h : lkA G ar n F H) (har : ar < G.length) (hk : k < na n) : lkA G ar n (fun j => if j = k then f else F j) (H.set (G.length + k) (cO 6 f)) := by
  obtain ⟨h1, h2, h3, h4⟩ := h
  refine ⟨by rw [List.length_set]; exact h1, by rw [gset (by omega)]; exact h2, fun j hj => ?_, fun i hi hne => by rw [gset (by omega)]; exact h4 i hi hne⟩
  show (List.set H (G.length + k) (cO 6 f))[G.length + j]? = some (cO 6 (if j = k then f else F j))
  by_cases e : j = k
  · subst e; rw [if_pos rfl, gset_self (h3 j hj)]
  · rw [if_neg e, gset (by omega)]; exact h3 j hj
theorem lkA.at {G H : xH} {ar n j : Nat} {F : Nat → List Value} (_ : lkA G ar n F H) (hj : j < na n) : (LJ G.length (na n) (na n))[j]? = some (.ref (G.length + j)) := by rw [LJ_at hj, if_pos hj]
theorem c_shr1 : ∀ a, a < 16 → nI a >>> ((1 : Int32) &&& 31) = nI (a / 2) := by decide +kernel
theorem c_wn : ∀ a, a < 16 → ∀ e, e < 5 → 1 ≤ e → nI a &&& ((nI (2 ^ e) >>> ((1 : Int32) &&& 31)) - 1) = nI (a &&& (2 ^ e / 2 - 1)) := by decide +kernel
