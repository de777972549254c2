/-! ===== what the public questions answer ===== -/
set_option maxRecDepth 100000
theorem b1_z {t : Bool} (h : b1 t = 0) : t = false := by
  cases t with
  | false => rfl
  | true => exact absurd h (by decide)
theorem b1_nz {t : Bool} (h : ¬ b1 t = 0) : t = true := by
  cases t with
  | true => rfl
  | false => exact absurd rfl h
def tn (x : Int32) : Nat := x.toNatClampNeg
theorem tn_nI {n R : Nat} (hn : n < 7) (h : R ∈ rws n) : tn (nI R) = R := nI_clamp (R31 hn h)
theorem rows2 {n : Nat} (hn : n < 7) (h1 : 1 ≤ n) {x y : Int32} (h : (rowB n x && rowB n y) = true) : ∃ R S, R ∈ rws n ∧ S ∈ rws n ∧ x = nI R ∧ y = nI S := by
  rw [Bool.and_eq_true] at h
  obtain ⟨R, hR, rfl⟩ := rowB_t hn h1 h.1
  obtain ⟨S, hS, rfl⟩ := rowB_t hn h1 h.2
  exact ⟨R, S, hR, hS, rfl, rfl⟩
def o_below (n : Nat) (x y : Int32) : Int32 := if rowB n x && rowB n y then b1 (subB n (tn x) (tn y)) else -1
def o_meet (n : Nat) (x y : Int32) : Int32 := if rowB n x && rowB n y then nI (mtS n (inv n (tn x) &&& inv n (tn y))) else -1
def o_join (n : Nat) (x y : Int32) : Int32 := if rowB n x && rowB n y then nI (jnS n (inv n (tn x) ||| inv n (tn y))) else -1
def o_diagram (n : Nat) (x : Int32) : Int64 := if rowB n x then lN (dgm n (tn x)) else -1
/-- an int between 0 and m - 1 -/
def inI (x : Int32) (m : Nat) : Bool := !decide (x < 0) && decide (tn x < m)
theorem inI_t {x : Int32} {m : Nat} (h : inI x m = true) : ∃ k, k < m ∧ k < 2 ^ 31 ∧ x = nI k := by
  unfold inI at h
  simp only [Bool.and_eq_true, Bool.not_eq_true', decide_eq_false_iff_not, decide_eq_true_eq] at h
  obtain ⟨k, hk, rfl⟩ := nI_of h.1
  exact ⟨k, by have := h.2; unfold tn at this; rwa [nI_clamp hk] at this, hk, rfl⟩
theorem inI_nI {k m : Nat} (h : k < m) (hk : k < 2 ^ 31) : inI (nI k) m = true := by
  unfold inI tn
  rw [nI_clamp hk, decide_eq_true h, decide_eq_false (nI_pos hk)]
  rfl
/-- 'in(x, 0, m - 1)' over longs -/
theorem inB_inI {x : Int32} {m : Nat} (hm : m < 2 ^ 30) : inB x.toInt64 0 (nI m - 1).toInt64 = inI x m := by
  have e1 : (x.toInt64 < 0) ↔ x < 0 := by
    rw [Int64.lt_iff_toInt_lt, Int32.lt_iff_toInt_lt, Int32.toInt_toInt64]; rfl
  have e2 : ((nI m - 1).toInt64 < x.toInt64) ↔ (m : Int) - 1 < x.toInt := by
    rw [Int64.lt_iff_toInt_lt, Int32.toInt_toInt64, Int32.toInt_toInt64, show nI m - 1 = nI m - nI 1 from rfl, pk_sub_toInt hm (by decide)]
    rfl
  unfold inB inI
  by_cases h : x < 0
  · rw [decide_eq_true (e1.mpr h), decide_eq_true h]; rfl
  · rw [decide_eq_false (fun q => h (e1.mp q)), decide_eq_false h]
    obtain ⟨k, hk, rfl⟩ := nI_of h
    have e3 : ((nI m - 1).toInt64 < (nI k).toInt64) ↔ m ≤ k := by rw [e2, nI_toInt hk]; omega
    unfold tn
    rw [nI_clamp hk]
    by_cases h2 : k < m
    · rw [decide_eq_true h2, decide_eq_false (fun q => by have := e3.mp q; omega)]; rfl
    · rw [decide_eq_false h2, decide_eq_true (e3.mpr (by omega))]; rfl
def o_rowAt (n : Nat) (x : Int32) : Int32 := if inI x (wy n) then nI (rb n (tn x)) else -1
def o_arc (n : Nat) (x p : Int32) : Int32 := if rowB n x && inI p (n - 1) then nI (aa n (tn x) (tn p)) else -1
