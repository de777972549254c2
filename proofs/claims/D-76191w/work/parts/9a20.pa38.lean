/-! ===== the class: moves between sheets, shelves; words ===== -/
set_option maxRecDepth 100000
theorem fit_8 (x : Int8) : fits .byte (.int x.toInt32) = true := by
  show (decide (-128 ≤ x.toInt32) && decide (x.toInt32 ≤ 127)) = true
  have h1 := x.le_toInt
  have h2 := x.toInt_lt
  rw [Bool.and_eq_true, decide_eq_true_iff, decide_eq_true_iff, Int32.le_iff_toInt_le, Int32.le_iff_toInt_le, Int8.toInt_toInt32]
  exact ⟨h1, by show x.toInt ≤ 127; omega⟩
theorem fit_16 (x : Int16) : fits .short (.int x.toInt32) = true := by
  show (decide (-32768 ≤ x.toInt32) && decide (x.toInt32 ≤ 32767)) = true
  have h1 := x.le_toInt
  have h2 := x.toInt_lt
  rw [Bool.and_eq_true, decide_eq_true_iff, decide_eq_true_iff, Int32.le_iff_toInt_le, Int32.le_iff_toInt_le, Int16.toInt_toInt32]
  exact ⟨h1, by show x.toInt ≤ 32767; omega⟩
theorem sh_mem {xs : List Int64} {j : Nat} (h : j < xs.length) : xs.getD j 0 ∈ xs := by
  rw [List.getD_eq_getElem?_getD, List.getElem?_eq_getElem h]; exact List.getElem_mem h
theorem shm_getD {xs : List Int64} {j : Nat} (h : j < xs.length) : (xs.map Int64.toInt32).getD j 0 = (xs.getD j 0).toInt32 := by
  rw [List.getD_eq_getElem?_getD, sh_at h]; rfl
theorem fit_0 {xs : List Int64} (h : shN 0 xs) {j : Nat} (hj : j < xs.length) : fits .byte (.int ((xs.map Int64.toInt32).getD j 0)) = true := by
  rw [shm_getD hj, ← h.2.2 _ (sh_mem hj), show nrw (nI 0) (xs.getD j 0) = (xs.getD j 0).toInt32.toInt8.toInt32.toInt64 from rfl, i64_32]
  exact fit_8 _
theorem fit_1 {xs : List Int64} (h : shN 1 xs) {j : Nat} (hj : j < xs.length) : fits .short (.int ((xs.map Int64.toInt32).getD j 0)) = true := by
  rw [shm_getD hj, ← h.2.2 _ (sh_mem hj), show nrw (nI 1) (xs.getD j 0) = (xs.getD j 0).toInt32.toInt16.toInt32.toInt64 from rfl, i64_32]
  exact fit_16 _
theorem cpL_mv {xs ys : List Int64} {i j m : Nat} (h1 : i + m ≤ xs.length) (h2 : j + m ≤ ys.length) : cpL (xs.map Int64.toInt32) (ys.map Int64.toInt32) i j m = (mvL xs ys i j m).map Int64.toInt32 := by
  apply List.ext_getElem?
  intro p
  by_cases hp : p < ys.length
  · rw [cpL_at (by rw [List.length_map]; exact hp), List.getElem?_map, mvL_at h1 h2]
    by_cases c : j ≤ p ∧ p < j + m
    · rw [if_pos c, if_pos c, shm_getD (by omega), List.getD_eq_getElem?_getD, List.getElem?_eq_getElem (show i + (p - j) < xs.length by omega)]; rfl
    · rw [if_neg c, if_neg c, shm_getD hp, List.getD_eq_getElem?_getD, List.getElem?_eq_getElem hp]; rfl
  · rw [List.getElem?_eq_none (by rw [cpL_len, List.length_map]; omega), List.getElem?_eq_none (by rw [List.length_map, mvL_len h1 h2]; omega)]
theorem cpQ_mv {xs ys : List Int64} {i j m : Nat} (h1 : i + m ≤ xs.length) (h2 : j + m ≤ ys.length) : cpQ xs ys i j m = mvL xs ys i j m := by
  apply List.ext_getElem?
  intro p
  by_cases hp : p < ys.length
  · rw [cpQ_at hp, mvL_at h1 h2]
    by_cases c : j ≤ p ∧ p < j + m
    · rw [if_pos c, if_pos c, List.getD_eq_getElem?_getD, List.getElem?_eq_getElem (show i + (p - j) < xs.length by omega)]; rfl
    · rw [if_neg c, if_neg c, List.getD_eq_getElem?_getD, List.getElem?_eq_getElem hp]; rfl
  · rw [List.getElem?_eq_none (by rw [cpQ_len]; omega), List.getElem?_eq_none (by rw [mvL_len h1 h2]; omega)]
theorem shN_mv {t i j m : Nat} {xs ys : List Int64} (h : shN t xs) (hy : shN t ys) (h1 : i + m ≤ xs.length) (h2 : j + m ≤ ys.length) : shN t (mvL xs ys i j m) := by
  refine ⟨h.1, by rw [mvL_len h1 h2]; exact hy.2.1, fun v hv => ?_⟩
  unfold mvL at hv
  rcases List.mem_append.mp hv with q | q
  · exact hy.2.2 v (List.mem_of_mem_take q)
  · rcases List.mem_append.mp q with q | q
    · exact h.2.2 v (List.mem_of_mem_drop (List.mem_of_mem_take q))
    · exact hy.2.2 v (List.mem_of_mem_drop q)
theorem shC_mv {t i j m : Nat} {xs ys : List Int64} (ht : t < 4) (h1 : i + m ≤ xs.length) (h2 : j + m ≤ ys.length) : shC t (mvL xs ys i j m) = if t = 0 then cI 1 (cpL (xs.map Int64.toInt32) (ys.map Int64.toInt32) i j m) else if t = 1 then cI 3 (cpL (xs.map Int64.toInt32) (ys.map Int64.toInt32) i j m) else if t = 2 then cI 0 (cpL (xs.map Int64.toInt32) (ys.map Int64.toInt32) i j m) else cL 4 (cpQ xs ys i j m) := by
  rw [cpL_mv h1 h2, cpQ_mv h1 h2]; rfl
/-- the bounds of a move -/
theorem mv_in {i j m : Int32} {x y : Nat} (hx : x ≤ 40) (hy : y ≤ 40) (h : mvB i j m x y = true) : ∃ a b c : Nat, i = nI a ∧ j = nI b ∧ m = nI c ∧ a + c ≤ x ∧ b + c ≤ y ∧ tn i = a ∧ tn j = b ∧ tn m = c := by
  have h := of_decide_eq_true h
  obtain ⟨h1, h2, h3, h4, h5⟩ := h
  have key : ∀ {s : Int32} {b : Nat}, 0 ≤ s.toInt → s.toInt ≤ b → ∃ t : Nat, t ≤ b ∧ s = nI t := fun {s b} p q => i_nat (Int32.not_lt.mpr (Int32.le_iff_toInt_le.mpr p)) q
  obtain ⟨a, ha, rfl⟩ := key (b := x) h2 (by omega)
  obtain ⟨b, hb, rfl⟩ := key (b := y) h3 (by omega)
  obtain ⟨c, hc, rfl⟩ := key (b := x) h1 (by omega)
  rw [nI_toInt (by omega), nI_toInt (by omega)] at h4 h5
  exact ⟨a, b, c, rfl, rfl, rfl, by omega, by omega, nI_clamp (by omega), nI_clamp (by omega), nI_clamp (by omega)⟩
theorem mv_out {i j m : Int32} {x y : Nat} (h : mvB i j m x y = false) : cOut i j m x y := by
  have h := of_decide_eq_false h
  unfold cOut
  apply Classical.byContradiction
  intro hn
  apply h
  have n1 : ¬ i < 0 := fun q => hn (Or.inl q)
  have n2 : ¬ j < 0 := fun q => hn (Or.inr (Or.inl q))
  have n3 : ¬ m < 0 := fun q => hn (Or.inr (Or.inr (Or.inl q)))
  have n4 : ¬ (x : Int) < i.toInt + m.toInt := fun q => hn (Or.inr (Or.inr (Or.inr (Or.inl q))))
  have n5 : ¬ (y : Int) < j.toInt + m.toInt := fun q => hn (Or.inr (Or.inr (Or.inr (Or.inr q))))
  have e : ∀ {s : Int32}, ¬ s < 0 → 0 ≤ s.toInt := fun q => Int32.le_iff_toInt_le.mp (Int32.not_lt.mp q)
  exact ⟨e n3, e n1, e n2, by omega, by omega⟩
def shF (t : Nat) : FieldType := if t = 0 then .byte else if t = 1 then .short else if t = 2 then .int else .long
theorem shF_ty {t : Nat} (h : t < 4) : xtys[shT t]? = some (shF t) ∧ refKind (shF t) = false := by
  rcases sh_cases h with rfl | rfl | rfl | rfl <;> exact ⟨rfl, rfl⟩
theorem shF_ne {t s : Nat} (ht : t < 4) (hs : s < 4) (h : t ≠ s) : xmt (shF t) (shF s) = true := by
  have key := xmt_4
  rw [List.all_eq_true] at key
  have m : ∀ {t : Nat}, t < 4 → shF t ∈ [FieldType.byte, .short, .int, .long] := fun h => by
    rcases sh_cases h with rfl | rfl | rfl | rfl <;> decide
  have k1 := List.all_eq_true.mp (key _ (m ht)) _ (m hs)
  rw [Bool.or_eq_true] at k1
  rcases k1 with k1 | k1
  · exfalso
    rcases sh_cases ht with rfl | rfl | rfl | rfl <;> rcases sh_cases hs with rfl | rfl | rfl | rfl <;> first | exact h rfl | exact absurd k1 (by decide)
  · exact k1
/-! shelves -/
def cHl1 (o : Option (Nat ⊕ (Nat × Nat))) (k : Nat) (G : xH) : Prop := match o with
  | none => G[34 + 2 * k]? = some (cO 5 [.null])
  | some (.inl m) => ∃ a : Nat, G[34 + 2 * k]? = some (cO 5 [.ref a]) ∧ 82 < a ∧ G[a]? = some (cO 24 [.int (nI m)]) ∧ m < 6
  | some (.inr q) => ∃ (a : Nat) (xs : List Int64), G[34 + 2 * k]? = some (cO 5 [.ref a]) ∧ 82 < a ∧ G[a]? = some (shC q.1 xs) ∧ xs.length = q.2 ∧ q.1 < 4 ∧ q.2 ≤ 40
def cHl (hl : Nat → Option (Nat ⊕ (Nat × Nat))) (G : xH) : Prop := G[30]? = some (cR 8 [.ref 34, .ref 36, .ref 38, .ref 40]) ∧ ∀ k, k < 4 → cHl1 (hl k) k G
theorem smK_shC {t : Nat} {xs : List Int64} {y : xC} (ht : t < 4) (h : smK (shC t xs) y) : ∃ ys : List Int64, y = shC t ys ∧ ys.length = xs.length := by
  have key : ∀ L : List Int32, (L.map Int32.toInt64).map Int64.toInt32 = L := fun L => by
    rw [List.map_map]
    conv => rhs; rw [← List.map_id L]
    exact List.map_congr_left fun x _ => i64_32 x
  rcases sh_cases ht with rfl | rfl | rfl | rfl
  · obtain ⟨L, rfl, hl⟩ := h
    exact ⟨L.map Int32.toInt64, by show _ = cI 1 _; rw [key], by rw [List.length_map, hl]; exact List.length_map ..⟩
  · obtain ⟨L, rfl, hl⟩ := h
    exact ⟨L.map Int32.toInt64, by show _ = cI 3 _; rw [key], by rw [List.length_map, hl]; exact List.length_map ..⟩
  · obtain ⟨L, rfl, hl⟩ := h
    exact ⟨L.map Int32.toInt64, by show _ = cI 0 _; rw [key], by rw [List.length_map, hl]; exact List.length_map ..⟩
  · obtain ⟨L, rfl, hl⟩ := h
    exact ⟨L, rfl, hl⟩
theorem cHl1.mv {o : Option (Nat ⊕ (Nat × Nat))} {k : Nat} {G G' : xH} (h : cHl1 o k G) (h1 : G'[34 + 2 * k]? = G[34 + 2 * k]?) (hs : gsm G G') : cHl1 o k G' := by
  match o, h with
  | none, h => exact h1.trans h
  | some (.inl m), h =>
    obtain ⟨a, a1, a2, a3, a4⟩ := h
    exact ⟨a, h1.trans a1, a2, hs.kpt a _ (dyn_82 a2) a3 trivial, a4⟩
  | some (.inr q), h =>
    obtain ⟨a, xs, a1, a2, a3, a4, a5, a6⟩ := h
    obtain ⟨y, hy, sy⟩ := hs a _ (dyn_82 a2) a3
    obtain ⟨ys, rfl, hl⟩ := smK_shC a5 sy
    exact ⟨a, ys, h1.trans a1, a2, hy, hl.trans a4, a5, a6⟩
theorem cHl.mv {hl : Nat → Option (Nat ⊕ (Nat × Nat))} {G G' : xH} (h : cHl hl G) (h30 : G'[30]? = G[30]?) (h1 : ∀ k, k < 4 → G'[34 + 2 * k]? = G[34 + 2 * k]?) (hs : gsm G G') : cHl hl G' :=
  ⟨h30.trans h.1, fun k hk => (h.2 k hk).mv (h1 k hk) hs⟩
theorem cHl1.at {o : Option (Nat ⊕ (Nat × Nat))} {k : Nat} {G : xH} (h : cHl1 o k G) : ∃ v, G[34 + 2 * k]? = some (cO 5 [v]) := by
  match o, h with
  | none, h => exact ⟨_, h⟩
  | some (.inl m), h => obtain ⟨a, a1, _⟩ := h; exact ⟨_, a1⟩
  | some (.inr q), h => obtain ⟨a, xs, a1, _⟩ := h; exact ⟨_, a1⟩
theorem cHl.set {hl : Nat → Option (Nat ⊕ (Nat × Nat))} {G H : xH} {k : Nat} {o : Option (Nat ⊕ (Nat × Nat))} {x : xC} (h : cHl hl G) (hk : k < 4) (hf : gfa [] G H) (hn : cHl1 o k (H.set (34 + 2 * k) x)) : cHl (hlU hl k o) (H.set (34 + 2 * k) x) := by
  refine ⟨by rw [gset (by omega)]; exact (hf.2 30 (List.getElem?_eq_some_iff.mp h.1).1 (by intro q; cases q)).trans h.1, fun j hj => ?_⟩
  unfold hlU
  by_cases e : j = k
  · subst e; rw [if_pos rfl]; exact hn
  · rw [if_neg e]
    obtain ⟨v, hv⟩ := (h.2 j hj).at
    refine (h.2 j hj).mv (by rw [gset (by omega)]; exact hf.2 _ (List.getElem?_eq_some_iff.mp hv).1 (by intro q; cases q)) ?_
    exact (hf.gsm (fun i hi => by cases hi)).oth (ndyn_42 (by omega))
/-- what is on a shelf now -/
def hvl (l : List (Nat × Nat)) : Option (Nat ⊕ (Nat × Nat)) → Option (Nat ⊕ (Nat × Nat))
  | some (.inl m) => if m < l.length then some (.inl m) else none
  | o => o
def heldV (l : List (Nat × Nat)) (o : Option (Nat ⊕ (Nat × Nat))) (G : xH) (v : Option Value) : Prop := match hvl l o with
  | none => v = some .null
  | some (.inl m) => m < l.length ∧ ∃ a : Nat, v = some (.ref a) ∧ 82 < a ∧ G[a]? = some (mkO m (mkAt l m))
  | some (.inr q) => ∃ (a : Nat) (xs : List Int64), v = some (.ref a) ∧ G[a]? = some (shC q.1 xs) ∧ xs.length = q.2 ∧ q.1 < 4 ∧ q.2 ≤ 40
def knm (k : Nat) : String := if k = 0 then "CoarserOrders$Plain" else if k = 1 then "CoarserOrders$Lefty" else if k = 2 then "CoarserOrders$Longer" else if k = 3 then "CoarserOrders$Twosided" else if k = 4 then "CoarserOrders$Signed" else "CoarserOrders$Mixed"
theorem k_cases {k : Nat} (h : k < 6) : k = 0 ∨ k = 1 ∨ k = 2 ∨ k = 3 ∨ k = 4 ∨ k = 5 := by omega
theorem xnm_k {k : Nat} {fs : List Value} (h : k < 6) : xnm (knm k) (cO (8 + k) fs) := by
  rcases k_cases h with rfl | rfl | rfl | rfl | rfl | rfl <;> exact xnm_O rfl
theorem nc_ak {t k : Nat} (ht : t < 4) (hk : k < 6) : xnc (snm t) (knm k) ∧ xcp (snm t) (knm k) = true := by
  rcases sh_cases ht with rfl | rfl | rfl | rfl <;> rcases k_cases hk with rfl | rfl | rfl | rfl | rfl | rfl
  · exact ⟨nc_B_0, by decide +kernel⟩
  · exact ⟨nc_B_1, by decide +kernel⟩
  · exact ⟨nc_B_2, by decide +kernel⟩
  · exact ⟨nc_B_3, by decide +kernel⟩
  · exact ⟨nc_B_4, by decide +kernel⟩
  · exact ⟨nc_B_5, by decide +kernel⟩
  · exact ⟨nc_S_0, by decide +kernel⟩
  · exact ⟨nc_S_1, by decide +kernel⟩
  · exact ⟨nc_S_2, by decide +kernel⟩
  · exact ⟨nc_S_3, by decide +kernel⟩
  · exact ⟨nc_S_4, by decide +kernel⟩
  · exact ⟨nc_S_5, by decide +kernel⟩
  · exact ⟨nc_I_0, by decide +kernel⟩
  · exact ⟨nc_I_1, by decide +kernel⟩
  · exact ⟨nc_I_2, by decide +kernel⟩
  · exact ⟨nc_I_3, by decide +kernel⟩
  · exact ⟨nc_I_4, by decide +kernel⟩
  · exact ⟨nc_I_5, by decide +kernel⟩
  · exact ⟨nc_J_0, by decide +kernel⟩
  · exact ⟨nc_J_1, by decide +kernel⟩
  · exact ⟨nc_J_2, by decide +kernel⟩
  · exact ⟨nc_J_3, by decide +kernel⟩
  · exact ⟨nc_J_4, by decide +kernel⟩
  · exact ⟨nc_J_5, by decide +kernel⟩
theorem nc_ka {t k : Nat} (ht : t < 4) (hk : k < 6) : xnc (knm k) (snm t) ∧ xcp (knm k) (snm t) = true := by
  rcases k_cases hk with rfl | rfl | rfl | rfl | rfl | rfl <;> rcases sh_cases ht with rfl | rfl | rfl | rfl
  · exact ⟨nc_0_B, by decide +kernel⟩
  · exact ⟨nc_0_S, by decide +kernel⟩
  · exact ⟨nc_0_I, by decide +kernel⟩
  · exact ⟨nc_0_J, by decide +kernel⟩
  · exact ⟨nc_1_B, by decide +kernel⟩
  · exact ⟨nc_1_S, by decide +kernel⟩
  · exact ⟨nc_1_I, by decide +kernel⟩
  · exact ⟨nc_1_J, by decide +kernel⟩
  · exact ⟨nc_2_B, by decide +kernel⟩
  · exact ⟨nc_2_S, by decide +kernel⟩
  · exact ⟨nc_2_I, by decide +kernel⟩
  · exact ⟨nc_2_J, by decide +kernel⟩
  · exact ⟨nc_3_B, by decide +kernel⟩
  · exact ⟨nc_3_S, by decide +kernel⟩
  · exact ⟨nc_3_I, by decide +kernel⟩
  · exact ⟨nc_3_J, by decide +kernel⟩
  · exact ⟨nc_4_B, by decide +kernel⟩
  · exact ⟨nc_4_S, by decide +kernel⟩
  · exact ⟨nc_4_I, by decide +kernel⟩
  · exact ⟨nc_4_J, by decide +kernel⟩
  · exact ⟨nc_5_B, by decide +kernel⟩
  · exact ⟨nc_5_S, by decide +kernel⟩
  · exact ⟨nc_5_I, by decide +kernel⟩
  · exact ⟨nc_5_J, by decide +kernel⟩
theorem nc_kk {kd k : Nat} (hd : kd < 6) (hk : k < 6) (h : undB (nI kd) (nI k) = false) : xnc (knm kd) (knm k) ∧ xcp (knm kd) (knm k) = true := by
  rcases k_cases hd with rfl | rfl | rfl | rfl | rfl | rfl <;> rcases k_cases hk with rfl | rfl | rfl | rfl | rfl | rfl
  · exact absurd h (by decide)
  · exact ⟨nc_0_1, by decide +kernel⟩
  · exact ⟨nc_0_2, by decide +kernel⟩
  · exact ⟨nc_0_3, by decide +kernel⟩
  · exact ⟨nc_0_4, by decide +kernel⟩
  · exact ⟨nc_0_5, by decide +kernel⟩
  · exact absurd h (by decide)
  · exact absurd h (by decide)
  · exact ⟨nc_1_2, by decide +kernel⟩
  · exact ⟨nc_1_3, by decide +kernel⟩
  · exact ⟨nc_1_4, by decide +kernel⟩
  · exact ⟨nc_1_5, by decide +kernel⟩
  · exact absurd h (by decide)
  · exact ⟨nc_2_1, by decide +kernel⟩
  · exact absurd h (by decide)
  · exact ⟨nc_2_3, by decide +kernel⟩
  · exact ⟨nc_2_4, by decide +kernel⟩
  · exact ⟨nc_2_5, by decide +kernel⟩
  · exact absurd h (by decide)
  · exact absurd h (by decide)
  · exact ⟨nc_3_2, by decide +kernel⟩
  · exact absurd h (by decide)
  · exact ⟨nc_3_4, by decide +kernel⟩
  · exact ⟨nc_3_5, by decide +kernel⟩
  · exact absurd h (by decide)
  · exact absurd h (by decide)
  · exact ⟨nc_4_2, by decide +kernel⟩
  · exact ⟨nc_4_3, by decide +kernel⟩
  · exact absurd h (by decide)
  · exact ⟨nc_4_5, by decide +kernel⟩
  · exact absurd h (by decide)
  · exact ⟨nc_5_1, by decide +kernel⟩
  · exact absurd h (by decide)
  · exact ⟨nc_5_3, by decide +kernel⟩
  · exact ⟨nc_5_4, by decide +kernel⟩
  · exact absurd h (by decide)
theorem cy_kk {kd k : Nat} (hd : kd < 6) (hk : k < 6) (h : undB (nI kd) (nI k) = true) : knm kd = knm k ∨ Cond.castable (knm kd) (knm k) ∈ lw_tbl := by
  rcases k_cases hd with rfl | rfl | rfl | rfl | rfl | rfl <;> rcases k_cases hk with rfl | rfl | rfl | rfl | rfl | rfl
  · exact Or.inl rfl
  · exact absurd h (by decide)
  · exact absurd h (by decide)
  · exact absurd h (by decide)
  · exact absurd h (by decide)
  · exact absurd h (by decide)
  · exact Or.inr cy_1_0
  · exact Or.inl rfl
  · exact absurd h (by decide)
  · exact absurd h (by decide)
  · exact absurd h (by decide)
  · exact absurd h (by decide)
  · exact Or.inr cy_2_0
  · exact absurd h (by decide)
  · exact Or.inl rfl
  · exact absurd h (by decide)
  · exact absurd h (by decide)
  · exact absurd h (by decide)
  · exact Or.inr cy_3_0
  · exact Or.inr cy_3_1
  · exact absurd h (by decide)
  · exact Or.inl rfl
  · exact absurd h (by decide)
  · exact absurd h (by decide)
  · exact Or.inr cy_4_0
  · exact Or.inr cy_4_1
  · exact absurd h (by decide)
  · exact absurd h (by decide)
  · exact Or.inl rfl
  · exact absurd h (by decide)
  · exact Or.inr cy_5_0
  · exact absurd h (by decide)
  · exact Or.inr cy_5_2
  · exact absurd h (by decide)
  · exact absurd h (by decide)
  · exact Or.inl rfl
