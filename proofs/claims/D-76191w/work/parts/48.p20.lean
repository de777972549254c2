/-! ===== rows out of sheets, threes ===== -/
set_option maxRecDepth 100000
def kM (c : Nat → Value) (l : List (Nat × Nat)) (a : Nat → xC) : Prop := c 2 = .int (nI l.length) ∧ ∃ K M : List Int32, a 55 = cI 0 K ∧ a 56 = cI 0 M ∧ mML K M l
theorem kM.M {c : Nat → Value} {l : List (Nat × Nat)} {a : Nat → xC} {T : xH} (h : kM c l a) : mM c l (kG a T) := by
  obtain ⟨h1, K, M, p1, p2, p3⟩ := h
  exact ⟨h1, K, M, kG_a (by decide) p1, kG_a (by decide) p2, p3⟩
theorem kM.u {c c' : Nat → Value} {l : List (Nat × Nat)} {a b : Nat → xC} (h : kM c l a) (h0 : c' 2 = c 2) (h1 : b 55 = a 55) (h2 : b 56 = a 56) : kM c' l b := by
  obtain ⟨p0, K, M, p1, p2, p3⟩ := h
  exact ⟨h0.trans p0, K, M, h1.trans p1, h2.trans p2, p3⟩
theorem inB_L {d a c : Int64} : inB d a c = decide (a.toInt ≤ d.toInt ∧ d.toInt ≤ c.toInt) := by
  unfold inB
  rw [Bool.eq_iff_iff]
  simp only [Bool.and_eq_true, Bool.not_eq_true', decide_eq_false_iff_not, decide_eq_true_eq, Int64.lt_iff_toInt_lt]
  omega
theorem inB_dn {d : Int64} {n : Nat} (hn : n < 2 ^ 31) : inB d 1 (nI n).toInt64 = decide (1 ≤ d.toInt ∧ d.toInt ≤ n) := by
  rw [inB_L, Int32.toInt_toInt64, nI_toInt hn]; rfl
theorem inB_d01 {d : Int64} : inB d 0 1 = decide (0 ≤ d.toInt ∧ d.toInt ≤ 1) := by rw [inB_L]; rfl
theorem l_dig {d : Int64} {D : Nat} (hD : D < 2 ^ 31) (h : d.toInt = (D : Int)) : d.toInt32 = nI D := by
  have : d = (nI D).toInt64 := Int64.toInt_inj.mp (by rw [Int32.toInt_toInt64, nI_toInt hD, h])
  rw [this]
  exact Int32.toInt32_toInt64 _
def t3 (n : Nat) (xs : List Int64) (k : Nat) : Bool := rowB n (xs.getD k 0).toInt32 && (rowB n (xs.getD (k + 1) 0).toInt32 && decide (0 ≤ (xs.getD (k + 2) 0).toInt ∧ (xs.getD (k + 2) 0).toInt ≤ 1))
def ar3 (n : Nat) (xs : List Int64) : Nat → Nat → Bool → Bool
  | 0, _, t => t
  | f + 1, k, t => if k + 2 < xs.length ∧ t = true then ar3 n xs f (k + 3) (t3 n xs k) else t
def aT (n : Nat) (xs : List Int64) : Bool := ar3 n xs 15 0 (xs.length % 3 == 0)
theorem ar3_t {n : Nat} {xs : List Int64} : ∀ (f k : Nat) (t : Bool), (xs.length - k + 2) / 3 < f → ar3 n xs f k t = true → t = true ∧ ∀ i, k + 3 * i + 2 < xs.length → t3 n xs (k + 3 * i) = true := by
  intro f
  induction f with
  | zero => intro k t h; omega
  | succ f ih =>
    intro k t hf h
    unfold ar3 at h
    split at h
    · rename_i hc
      obtain ⟨h1, h2⟩ := ih (k + 3) _ (by omega) h
      refine ⟨hc.2, fun i hi => ?_⟩
      cases i with
      | zero => exact h1
      | succ i => have := h2 i (by omega); rwa [show k + 3 + 3 * i = k + 3 * (i + 1) by omega] at this
    · rename_i hc
      refine ⟨h, fun i hi => ?_⟩
      exact absurd ⟨by omega, h⟩ hc
def ftL (n S : Nat) (xs : List Int64) : Nat → Nat → Bool
  | 0, _ => true
  | f + 1, k => if k + 2 < xs.length then (if (b1 (gos n true S (tn (xs.getD k 0).toInt32) == gos n true S (tn (xs.getD (k + 1) 0).toInt32))).toInt64 = xs.getD (k + 2) 0 then ftL n S xs f (k + 3) else false) else true
def ftB (n S : Nat) (xs : List Int64) : Bool := ftL n S xs 15 0
def wiF (n : Nat) (xs : List Int64) : Nat → Nat × Int32 → Nat × Int32
  | 0, s => s
  | k + 1, s => wiF n xs k (if ftB n (clo n (tkS n (k / 16) (k % 16))) xs then (s.1 + 1, nI k) else s)
def wiS (n : Nat) (xs : List Int64) : Nat × Int32 := if aT n xs then wiF n xs 96 (0, -3) else (0, -3)
def o_whatIs (n : Nat) (sh : Nat → Option (Nat × List Int64)) (k w : Int32) : Int32 := if inI k 4 && inI w 2 then (match sh (tn k) with | none => -11 | some q => if q.1 = 2 then (if w = 0 then nI (wiS n q.2).1 else (wiS n q.2).2) else -13) else -1
