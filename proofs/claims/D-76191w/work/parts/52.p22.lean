/-! ===== feeding; arcs told; keeping ===== -/
set_option maxRecDepth 100000
def byt (e k : Nat) : Nat := e / 2 ^ (8 * k) % 256
def fdL (e : Nat) : Nat → Nat → List Nat → List Nat
  | 0, _, l => l
  | k + 1, i, l => fdL e k (i + 1) (l ++ [byt e i])
def o_feed (tp : List Nat) (x : Int32) : Int32 := if in1 x 8 then (if 200 < tp.length + tn x then -2 else nI (tp.length + tn x)) else -1
def s_feed (tp : List Nat) (e : Nat) (x : Int32) : List Nat := if in1 x 8 then (if 200 < tp.length + tn x then tp else fdL e (tn x) 0 tp) else tp
theorem fdL_len (e : Nat) : ∀ (k i : Nat) (l : List Nat), (fdL e k i l).length = l.length + k := by
  intro k
  induction k with
  | zero => intro i l; rfl
  | succ k ih => intro i l; show (fdL e k (i + 1) (l ++ [byt e i])).length = _; rw [ih, List.length_append, List.length_singleton]; omega
def tpL (L : List Int32) (tp : List Nat) : Prop := L.length = 200 ∧ tp.length ≤ 200 ∧ ∀ (i v : Nat), tp[i]? = some v → L[i]? = some (nI v) ∧ v < 256
def kT (tp : List Nat) (c : Nat → Value) (a : Nat → xC) : Prop := c 23 = .int (nI tp.length) ∧ ∃ L : List Int32, a 65 = cI 0 L ∧ tpL L tp
theorem kT.u {tp : List Nat} {c c' : Nat → Value} {a b : Nat → xC} (h : kT tp c a) (h0 : c' 23 = c 23) (h1 : b 65 = a 65) : kT tp c' b := by
  obtain ⟨p0, L, p1, p2⟩ := h
  exact ⟨h0.trans p0, L, h1.trans p1, p2⟩
theorem tpL_push {L : List Int32} {tp : List Nat} {v : Nat} (h : tpL L tp) (hl : tp.length < 200) (hv : v < 256) : tpL (L.set tp.length (nI v)) (tp ++ [v]) := by
  obtain ⟨h1, h2, h3⟩ := h
  refine ⟨by rw [List.length_set, h1], by rw [List.length_append, List.length_singleton]; omega, fun i x hx => ?_⟩
  by_cases e : i = tp.length
  · subst e
    rw [List.getElem?_append_right (Nat.le_refl _), Nat.sub_self] at hx
    cases hx
    exact ⟨List.getElem?_set_self (by omega), hv⟩
  · have hi : i < tp.length := by
      have := (List.getElem?_eq_some_iff.mp hx).1
      rw [List.length_append, List.length_singleton] at this
      omega
    rw [List.getElem?_append_left hi] at hx
    rw [List.getElem?_set_ne (fun q => e q.symm)]
    exact h3 i x hx
theorem l2i_nI {x : Nat} (h : x < 2 ^ 31) : (lN x).toInt32 = nI x := by rw [← nI_l h]; exact Int32.toInt32_toInt64 _
theorem c_byt {e k : Nat} (he : e < 2 ^ 64) (hk : k < 8) : (((lN e).toUInt64 >>> ((8 * nI k : Int32).toInt64.toUInt64 &&& Int64.toUInt64 63)).toInt64 &&& 255).toInt32 = nI (byt e k) := by
  rw [show (8 : Int32) * nI k = nI (8 * k) from (Int32.ofNat_mul 8 k).symm, wb_shr he (by omega)]
  rw [show (255 : Int64) = lN (2 ^ 8 - 1) from rfl, wb_mask (Nat.lt_of_le_of_lt (Nat.div_le_self _ _) he) (by decide)]
  exact l2i_nI (Nat.lt_trans (Nat.mod_lt _ (by decide)) (by decide))
/-! arcs told -/
def fsA (n lo hi : Nat) : Nat := lpN (fun a k => k + (2 ^ (n - a) - 1)) 1 (lo - 1) 0 + 2 ^ (hi - lo - 1) - 1
def fsC (n lo hi : Nat) : Bool := (Nat.ble n 6 && Nat.ble 1 lo && Nat.ble (lo + 1) hi && Nat.ble hi n).not || (Nat.beq (fsA n lo (hi + 1)) (fsA n lo hi + 2 ^ (hi - lo - 1)) && Nat.ble (2 ^ (hi - lo - 1)) 16 && (List.range (2 ^ (hi - lo - 1))).all fun l => Nat.ble (fsA n lo hi + l + 1) (na n) && Nat.beq (aL n (fsA n lo hi + l)) lo && Nat.beq (aH n (fsA n lo hi + l)) hi && Nat.beq (aF n (fsA n lo hi + l)) l)
def fsD : Bool := (List.range 7).all fun n => (List.range 7).all fun lo => (List.range 7).all fun hi => fsC n lo hi
theorem f_fsD : fsD = true := by decide +kernel
theorem f_fsC {n lo hi : Nat} (hn : n < 7) (h1 : lo < 7) (h2 : 1 ≤ lo) (h3 : hi < 7) (h4 : lo < hi) (h5 : hi ≤ n) : (Nat.beq (fsA n lo (hi + 1)) (fsA n lo hi + 2 ^ (hi - lo - 1)) && Nat.ble (2 ^ (hi - lo - 1)) 16 && (List.range (2 ^ (hi - lo - 1))).all fun l => Nat.ble (fsA n lo hi + l + 1) (na n) && Nat.beq (aL n (fsA n lo hi + l)) lo && Nat.beq (aH n (fsA n lo hi + l)) hi && Nat.beq (aF n (fsA n lo hi + l)) l) = true := by
  have h := List.all_eq_true.mp (List.all_eq_true.mp (List.all_eq_true.mp f_fsD n (List.mem_range.mpr hn)) lo (List.mem_range.mpr h1)) hi (List.mem_range.mpr h3)
  unfold fsC at h
  rw [Nat.ble_eq_true_of_le (show n ≤ 6 by omega), Nat.ble_eq_true_of_le h2, Nat.ble_eq_true_of_le (show lo + 1 ≤ hi from h4), Nat.ble_eq_true_of_le h5] at h
  exact h
theorem f_fs1' (n : Nat) (hn : n < 7) (lo : Nat) (h1 : lo < 7) (hi : Nat) (h3 : hi < 7) (h : 1 ≤ lo ∧ lo < hi ∧ hi ≤ n) : fsA n lo (hi + 1) = fsA n lo hi + 2 ^ (hi - lo - 1) ∧ 2 ^ (hi - lo - 1) ≤ 16 := by
  have h := f_fsC hn h1 h.1 h3 h.2.1 h.2.2
  rw [Bool.and_eq_true, Bool.and_eq_true] at h
  exact ⟨Nat.eq_of_beq_eq_true h.1.1, Nat.le_of_ble_eq_true h.1.2⟩
theorem f_fs' (n : Nat) (hn : n < 7) (lo : Nat) (h1 : lo < 7) (hi : Nat) (h3 : hi < 7) (l : Nat) (_ : l < 16) (h : 1 ≤ lo ∧ lo < hi ∧ hi ≤ n ∧ l < 2 ^ (hi - lo - 1)) : fsA n lo hi + l < na n ∧ aL n (fsA n lo hi + l) = lo ∧ aH n (fsA n lo hi + l) = hi ∧ aF n (fsA n lo hi + l) = l := by
  have h2 := f_fsC hn h1 h.1 h3 h.2.1 h.2.2.1
  rw [Bool.and_eq_true] at h2
  have h4 := List.all_eq_true.mp h2.2 l (List.mem_range.mpr h.2.2.2)
  rw [Bool.and_eq_true, Bool.and_eq_true, Bool.and_eq_true] at h4
  exact ⟨Nat.le_of_ble_eq_true h4.1.1.1, Nat.eq_of_beq_eq_true h4.1.1.2, Nat.eq_of_beq_eq_true h4.1.2, Nat.eq_of_beq_eq_true h4.2⟩
theorem f_fs (n : Nat) (hn : n < 7) (lo : Nat) (h1 : lo < 7) (h2 : 1 ≤ lo) (hi : Nat) (h3 : hi < 7) (h4 : lo < hi) (h5 : hi ≤ n) (l : Nat) (h6 : l < 16) (h7 : l < 2 ^ (hi - lo - 1)) : fsA n lo hi + l < na n ∧ aL n (fsA n lo hi + l) = lo ∧ aH n (fsA n lo hi + l) = hi ∧ aF n (fsA n lo hi + l) = l := f_fs' n hn lo h1 hi h3 l h6 ⟨h2, h4, h5, h7⟩
theorem f_fs1 (n : Nat) (hn : n < 7) (lo : Nat) (h1 : lo < 7) (h2 : 1 ≤ lo) (hi : Nat) (h3 : hi < 7) (h4 : lo < hi) (h5 : hi ≤ n) : fsA n lo (hi + 1) = fsA n lo hi + 2 ^ (hi - lo - 1) ∧ 2 ^ (hi - lo - 1) ≤ 16 := f_fs1' n hn lo h1 hi h3 ⟨h2, h4, h5⟩
theorem f_fs2 : ∀ n, n < 7 → ∀ lo, lo < 7 → 1 ≤ lo → lo ≤ n → fsA n (lo + 1) (lo + 2) = fsA n lo (n + 1) := by decide +kernel
theorem f_fs3 : ∀ n, n < 7 → 1 ≤ n → fsA n (n + 1) (n + 2) = na n ∧ fsA n 1 2 = 0 := by decide +kernel
theorem c_pw : ∀ lo, lo < 7 → ∀ hi, hi < 7 → lo < hi → (1 : Int32) <<< ((nI hi - nI lo - 1) &&& 31) = nI (2 ^ (hi - lo - 1)) := by decide +kernel
def arT (n k : Nat) (L1 L2 L3 : List Int32) : Prop := L1.length = 57 ∧ L2.length = 57 ∧ L3.length = 57 ∧ ∀ j, j < k → L1[j]? = some (nI (aL n j)) ∧ L2[j]? = some (nI (aH n j)) ∧ L3[j]? = some (nI (aF n j))
theorem arT_s {n k : Nat} {L1 L2 L3 : List Int32} (h : arT n k L1 L2 L3) (hk : k < 57) : arT n (k + 1) (L1.set k (nI (aL n k))) (L2.set k (nI (aH n k))) (L3.set k (nI (aF n k))) := by
  obtain ⟨h1, h2, h3, h4⟩ := h
  refine ⟨by rw [List.length_set, h1], by rw [List.length_set, h2], by rw [List.length_set, h3], fun j hj => ?_⟩
  by_cases e : k = j
  · subst e
    exact ⟨List.getElem?_set_self (by omega), List.getElem?_set_self (by omega), List.getElem?_set_self (by omega)⟩
  · rw [List.getElem?_set_ne e, List.getElem?_set_ne e, List.getElem?_set_ne e]
    exact h4 j (by omega)
/-- the cells while arcs are told -/
def tG (a : Nat → xC) (c : Nat → Value) (k : Nat) (L1 L2 L3 : List Int32) : Nat → xC := au (au (au (au a 54 (cO 7 (mFs (cu c 17 (.int (nI k)))))) 59 (cI 0 L1)) 60 (cI 0 L2)) 61 (cI 0 L3)
theorem tG_59 {a : Nat → xC} {c : Nat → Value} {k : Nat} {L1 L2 L3 X : List Int32} : au (tG a c k L1 L2 L3) 59 (cI 0 X) = tG a c k X L2 L3 := by
  unfold tG
  rw [au_comm _ _ _ (by decide : 61 ≠ 59), au_comm _ _ _ (by decide : 60 ≠ 59), au_au]
theorem tG_60 {a : Nat → xC} {c : Nat → Value} {k : Nat} {L1 L2 L3 X : List Int32} : au (tG a c k L1 L2 L3) 60 (cI 0 X) = tG a c k L1 X L3 := by
  unfold tG
  rw [au_comm _ _ _ (by decide : 61 ≠ 60), au_au]
theorem tG_61 {a : Nat → xC} {c : Nat → Value} {k : Nat} {L1 L2 L3 X : List Int32} : au (tG a c k L1 L2 L3) 61 (cI 0 X) = tG a c k L1 L2 X := by
  unfold tG
  rw [au_au]
theorem tG_54 {a : Nat → xC} {c : Nat → Value} {k kk : Nat} {L1 L2 L3 : List Int32} : au (tG a c k L1 L2 L3) 54 (cO 7 (mFs (cu c 17 (.int (nI kk))))) = tG a c kk L1 L2 L3 := by
  unfold tG
  rw [au_comm _ _ _ (by decide : 61 ≠ 54), au_comm _ _ _ (by decide : 60 ≠ 54), au_comm _ _ _ (by decide : 59 ≠ 54), au_au]
def kZ (a : Nat → xC) : Prop := ∃ (L1 L2 L3 : List Int32) (L4 : List Int64), a 59 = cI 0 L1 ∧ a 60 = cI 0 L2 ∧ a 61 = cI 0 L3 ∧ a 62 = cL 4 L4 ∧ L1.length = 57 ∧ L2.length = 57 ∧ L3.length = 57 ∧ L4.length = 57
theorem kZ.u {a b : Nat → xC} (h : kZ a) (h1 : b 59 = a 59) (h2 : b 60 = a 60) (h3 : b 61 = a 61) (h4 : b 62 = a 62) : kZ b := by
  obtain ⟨L1, L2, L3, L4, p1, p2, p3, p4, p5⟩ := h
  exact ⟨L1, L2, L3, L4, h1.trans p1, h2.trans p2, h3.trans p3, h4.trans p4, p5⟩
def foF (n x : Nat) : Nat → Nat → Nat := fun y s => s ||| (if frcB n x y then 2 ^ y else 0)
def o_size (n : Nat) (v : Int32) : Int32 := if in1 v 6 then nI n else -1
def s_size (n : Nat) (v : Int32) : Nat := if in1 v 6 then tn v else n
def s_sizeG (n g : Nat) (v : Int32) : Nat := if in1 v 6 then (if tn v = n then g else 0) else g
/-! kept -/
def kP (kp : Option (Nat × Int32 × Nat × List (Nat × Nat))) (c : Nat → Value) (a : Nat → xC) : Prop := ∃ K M : List Int32, a 57 = cI 0 K ∧ a 58 = cI 0 M ∧ K.length = 6 ∧ M.length = 6 ∧
  match kp with
  | none => c 12 = .int 0
  | some q => c 12 = .int 1 ∧ c 6 = .int (nI q.1) ∧ c 7 = .int q.2.1 ∧ c 9 = .long (lN q.2.2.1) ∧ c 8 = .int (nI q.2.2.2.length) ∧ 1 ≤ q.1 ∧ q.1 ≤ 6 ∧ q.2.2.1 < 2 ^ 57 ∧ mML K M q.2.2.2
theorem kP.u {kp : Option (Nat × Int32 × Nat × List (Nat × Nat))} {c c' : Nat → Value} {a b : Nat → xC} (h : kP kp c a) (h6 : c' 6 = c 6) (h7 : c' 7 = c 7) (h8 : c' 8 = c 8) (h9 : c' 9 = c 9) (h12 : c' 12 = c 12) (h1 : b 57 = a 57) (h2 : b 58 = a 58) : kP kp c' b := by
  obtain ⟨K, M, p1, p2, p3, p4, p5⟩ := h
  refine ⟨K, M, h1.trans p1, h2.trans p2, p3, p4, ?_⟩
  cases kp with
  | none => exact h12.trans p5
  | some q =>
    obtain ⟨q1, q2, q3, q4, q5, q6⟩ := p5
    exact ⟨h12.trans q1, h6.trans q2, h7.trans q3, h9.trans q4, h8.trans q5, q6⟩
theorem l6_ext {K D : List Int32} (h1 : K.length = 6) (h2 : D.length = 6) (h : ∀ i, i < 6 → D[i]? = K[i]?) : D = K := by
  apply List.ext_getElem?
  intro i
  by_cases hi : i < 6
  · exact h i hi
  · rw [List.getElem?_eq_none (by omega), List.getElem?_eq_none (by omega)]
theorem cp_step {K D : List Int32} {p : Nat} {v : Int32} (hp : p < D.length) (hv : K[p]? = some v) (h : ∀ i, i < p → D[i]? = K[i]?) : ∀ i, i < p + 1 → (D.set p v)[i]? = K[i]? := by
  intro i hi
  by_cases e : p = i
  · subst e; rw [List.getElem?_set_self hp, hv]
  · rw [List.getElem?_set_ne e]; exact h i (by omega)
