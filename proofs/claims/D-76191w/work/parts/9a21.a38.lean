/-! ===== the class: moves, shelves ===== -/
set_option maxRecDepth 100000
theorem kV_X0_held : xsV yX0_held cX0_held 4 (some (FieldType.object "java/lang/Object")) 1 := ⟨q1645, qs75, q151, q1646, by decide, by decide, by decide +kernel⟩
theorem kV_X0_makerOf : xsV yX0_makerOf cX0_makerOf 2 (some (FieldType.object "CoarserOrders$Plain")) 1 := ⟨q1649, qs76, q151, q1650, by decide, by decide, by decide +kernel⟩
theorem kS_X0_takenAs : xsS yX0_takenAs cX0_takenAs 2 (some FieldType.int) 2 := ⟨q1652, q151, q1653, by decide, by decide, by decide +kernel⟩
theorem kS_X0_takenFor : xsS yX0_takenFor cX0_takenFor 2 (some (FieldType.object "CoarserOrders$Plain")) 2 := ⟨q1655, q151, q1656, by decide, by decide, by decide +kernel⟩
theorem kI_X24_init : xsI yX24_init cX24_init 2 1 := ⟨q1631, q191, q1632, rfl, by decide, by decide, by decide +kernel⟩
theorem slv_mk {mk : List (Nat × Nat)} {k m : Int32} (h : slB mk k 0 m = true) : inI m mk.length = true := by
  unfold slB at h
  rw [Bool.and_eq_true, Bool.and_eq_true, Bool.and_eq_true] at h
  have := h.2.2.1
  rwa [decide_eq_true rfl, Bool.not_true, Bool.false_or] at this
theorem slv_sh {mk : List (Nat × Nat)} {k m : Int32} (h : slB mk k 1 m = true) : inI m 4 = true := by
  unfold slB at h
  rw [Bool.and_eq_true, Bool.and_eq_true, Bool.and_eq_true] at h
  have := h.2.2.2
  rwa [decide_eq_true rfl, Bool.not_true, Bool.false_or] at this
theorem inI_f {y m : Nat} (h : ¬ y < m) (hy : y < 2 ^ 31) : inI (nI y) m = false := by
  cases hb : inI (nI y) m with
  | false => rfl
  | true =>
    obtain ⟨k, h1, h2, h3⟩ := inI_t hb
    exact absurd (((nI_eq hy h2).mp h3) ▸ h1) h
theorem nc_aT {t : Nat} (ht : t < 4) : xnc (snm t) "CoarserOrders$Ticket" := by
  rcases sh_cases ht with rfl | rfl | rfl | rfl
  · exact nc_B_T
  · exact nc_S_T
  · exact nc_I_T
  · exact nc_J_T
theorem som_i {a b : Int32} (h : a = b) : some (Value.int a) = some (Value.int b) := by rw [h]
theorem knd_k : ∀ k : Nat, k < 6 → ∀ i : Nat, i < 5 → nI k = Int32.ofInt (0 + (i : Int)) → k = i := by decide +kernel
theorem knd_5 : ∀ k : Nat, k < 6 → ((nI k).toInt < 0 ∨ 4 < (nI k).toInt) → k = 5 := by decide +kernel
theorem nI_lt10 {k : Nat} (h : k < 6) : nI k < 10 := nI_lt (b := 10) (by omega) (by decide)
theorem nI_nlt10 {s : Nat} (h : s < 4) : ¬ nI (10 + s) < 10 := Int32.not_lt.mpr (nI_le (a := 10) (by omega) (by omega))
theorem sub10 : ∀ s : Nat, s < 4 → nI (10 + s) - 10 = nI s := by decide +kernel
theorem tki_k {w : Int32} (h : inI w 6 = true) : tkI w = true := by unfold tkI; rw [h]; rfl
theorem tki_ex {w : Int32} (h : inC w 10 13 = true) : ∃ s : Nat, s < 4 ∧ w = nI (10 + s) := by
  unfold inC at h
  rw [Bool.and_eq_true, decide_eq_true_iff, decide_eq_true_iff, Int32.le_iff_toInt_le, Int32.le_iff_toInt_le] at h
  obtain ⟨h1, h2⟩ := h
  have h1 : 10 ≤ w.toInt := h1
  have h2 : w.toInt ≤ 13 := h2
  obtain ⟨t, h3, h4⟩ := i_nat (s := w) (Int32.not_lt.mpr (Int32.le_iff_toInt_le.mpr (by show (0 : Int) ≤ _; omega))) (b := 13) h2
  subst h4
  rw [nI_toInt (by omega)] at h1
  exact ⟨t - 10, by omega, by rw [show 10 + (t - 10) = t by omega]⟩
theorem tki_s {w : Int32} (h : inC w 10 13 = true) : tkI w = true := by
  obtain ⟨s, hs, rfl⟩ := tki_ex h
  unfold tkI
  rw [nI_toInt (by omega), Bool.or_eq_true]
  exact Or.inr (decide_eq_true (by omega))
theorem tki_no {w : Int32} (h : inC w 10 13 = false) : decide (10 ≤ w.toInt ∧ w.toInt ≤ 13) = false := by
  apply decide_eq_false
  rintro ⟨h1, h2⟩
  unfold inC at h
  rw [decide_eq_true (show (10 : Int32) ≤ w from Int32.le_iff_toInt_le.mpr h1), decide_eq_true (show w ≤ (13 : Int32) from Int32.le_iff_toInt_le.mpr h2)] at h
  cases h
theorem mk_bd {mk : List (Nat × Nat)} {e : Nat → Value} {G : xH} {y : Nat} (h : cMk mk e G) (hy : y < mk.length) : (mkAt mk y).1 < 6 ∧ (mkAt mk y).2 < 16 := by
  obtain ⟨-, ⟨K, M, -, -, q⟩, -⟩ := h
  obtain ⟨-, -, h3, h4⟩ := q.2.2.2 y _ (mkAt_some hy)
  exact ⟨h3, h4⟩
/-- what is taken, by what is on the shelf now -/
def otV (mk : List (Nat × Nat)) (o : Option (Nat ⊕ (Nat × Nat))) (w : Int32) : Int32 := match hvl mk o with
  | none => -11
  | some (.inl y) => if w ≤ 5 ∧ undB (nI (mkAt mk y).1) w = true then nI y else -13
  | some (.inr q) => if w = nI (10 + q.1) then nI q.2 else -13
theorem otk {mk : List (Nat × Nat)} {hl : Nat → Option (Nat ⊕ (Nat × Nat))} {x : Nat} {w : Int32} (hb : inI (nI x) 4 = true) (hw : tkI w = true) (tx : tn (nI x) = x) : o_taken mk hl (nI x) w = otV mk (hl x) w := by
  unfold o_taken otV
  rw [hb, hw, tx]
  cases hl x with
  | none => rfl
  | some p =>
    cases p with
    | inr q => rfl
    | inl y =>
      show (if y < mk.length then _ else _) = _
      unfold hvl
      by_cases h : y < mk.length
      · rw [if_pos h]; simp only [if_pos h]
      · rw [if_neg h]; simp only [if_neg h]
theorem otk_n {mk : List (Nat × Nat)} {o : Option (Nat ⊕ (Nat × Nat))} {w : Int32} (ho : hvl mk o = none) : -11 = otV mk o w := by unfold otV; rw [ho]
theorem otk_ms {mk : List (Nat × Nat)} {o : Option (Nat ⊕ (Nat × Nat))} {s y : Nat} (hs : s < 4) (ho : hvl mk o = some (.inl y)) : -13 = otV mk o (nI (10 + s)) := by
  unfold otV; rw [ho]
  show _ = (if _ then _ else _)
  rw [if_neg (fun h => absurd h.1 (nI_ge (a := 5) (by omega) (by omega)))]
theorem otk_mu {mk : List (Nat × Nat)} {o : Option (Nat ⊕ (Nat × Nat))} {k y : Nat} (hk : k < 6) (ho : hvl mk o = some (.inl y)) (hu : undB (nI (mkAt mk y).1) (nI k) = true) : nI y = otV mk o (nI k) := by
  unfold otV; rw [ho]
  show _ = (if _ then _ else _)
  rw [if_pos ⟨nI_le (b := 5) (by omega) (by decide), hu⟩]
theorem otk_mx {mk : List (Nat × Nat)} {o : Option (Nat ⊕ (Nat × Nat))} {y : Nat} {w : Int32} (ho : hvl mk o = some (.inl y)) (hu : undB (nI (mkAt mk y).1) w = false) : -13 = otV mk o w := by
  unfold otV; rw [ho]
  show _ = (if _ then _ else _)
  rw [if_neg (fun h => by rw [hu] at h; cases h.2)]
theorem otk_ry {mk : List (Nat × Nat)} {o : Option (Nat ⊕ (Nat × Nat))} {q : Nat × Nat} (ho : hvl mk o = some (.inr q)) : nI q.2 = otV mk o (nI (10 + q.1)) := by
  unfold otV; rw [ho]
  show _ = (if _ then _ else _)
  rw [if_pos rfl]
theorem otk_rx {mk : List (Nat × Nat)} {o : Option (Nat ⊕ (Nat × Nat))} {q : Nat × Nat} {s : Nat} (h4 : q.1 < 4) (hs : s < 4) (h : q.1 ≠ s) (ho : hvl mk o = some (.inr q)) : -13 = otV mk o (nI (10 + s)) := by
  unfold otV; rw [ho]
  show _ = (if _ then _ else _)
  rw [if_neg (fun h' => h (by have := (nI_eq (by omega) (by omega)).mp h'; omega))]
theorem otk_rk {mk : List (Nat × Nat)} {o : Option (Nat ⊕ (Nat × Nat))} {q : Nat × Nat} {k : Nat} (hk : k < 6) (h4 : q.1 < 4) (ho : hvl mk o = some (.inr q)) : -13 = otV mk o (nI k) := by
  unfold otV; rw [ho]
  show _ = (if _ then _ else _)
  rw [if_neg (fun h' => by have := (nI_eq (by omega) (by omega)).mp h'; omega)]
section OPS
variable {sh : Nat → Option (Nat × List Int64)} {x y : Nat} {i j m : Int32} {q q2 : Nat × List Int64}
theorem om_n (hb : inI (nI x) 4 = true) (hb2 : inI (nI y) 4 = true) (tx : tn (nI x) = x) (ty : tn (nI y) = y) (h : sh x = none ∨ sh y = none) : o_move sh (nI x) i (nI y) j m = -11 := by unfold o_move; rw [hb, hb2, tx, ty, Bool.and_self, if_pos rfl]; (rcases h with h | h; (rw [h]); (rw [h]; cases sh x <;> rfl))
theorem sm_n (hb : inI (nI x) 4 = true) (hb2 : inI (nI y) 4 = true) (tx : tn (nI x) = x) (ty : tn (nI y) = y) (h : sh x = none ∨ sh y = none) : s_move sh (nI x) i (nI y) j m = sh := by unfold s_move; rw [hb, hb2, tx, ty, Bool.and_self, if_pos rfl]; (rcases h with h | h; (rw [h]); (rw [h]; cases sh x <;> rfl))
theorem om_x (hb : inI (nI x) 4 = true) (hb2 : inI (nI y) 4 = true) (tx : tn (nI x) = x) (ty : tn (nI y) = y) (hq : sh x = some q) (hq2 : sh y = some q2) (h : ¬ q.1 = q2.1) : o_move sh (nI x) i (nI y) j m = -13 := by unfold o_move; rw [hb, hb2, tx, ty, Bool.and_self, if_pos rfl]; rw [hq, hq2]; exact if_neg h
theorem sm_x (hb : inI (nI x) 4 = true) (hb2 : inI (nI y) 4 = true) (tx : tn (nI x) = x) (ty : tn (nI y) = y) (hq : sh x = some q) (hq2 : sh y = some q2) (h : ¬ q.1 = q2.1) : s_move sh (nI x) i (nI y) j m = sh := by unfold s_move; rw [hb, hb2, tx, ty, Bool.and_self, if_pos rfl]; rw [hq, hq2]; exact if_neg h
theorem om_o (hb : inI (nI x) 4 = true) (hb2 : inI (nI y) 4 = true) (tx : tn (nI x) = x) (ty : tn (nI y) = y) (hq : sh x = some q) (hq2 : sh y = some q2) (h : q.1 = q2.1) (hm : mvB i j m q.2.length q2.2.length = false) : o_move sh (nI x) i (nI y) j m = -12 := by unfold o_move; rw [hb, hb2, tx, ty, Bool.and_self, if_pos rfl]; rw [hq, hq2]; exact (if_pos h).trans (if_neg (fun q => by rw [hm] at q; cases q))
theorem sm_o (hb : inI (nI x) 4 = true) (hb2 : inI (nI y) 4 = true) (tx : tn (nI x) = x) (ty : tn (nI y) = y) (hq : sh x = some q) (hq2 : sh y = some q2) (h : q.1 = q2.1) (hm : mvB i j m q.2.length q2.2.length = false) : s_move sh (nI x) i (nI y) j m = sh := by unfold s_move; rw [hb, hb2, tx, ty, Bool.and_self, if_pos rfl]; rw [hq, hq2]; exact (if_pos h).trans (if_neg (fun q => by rw [hm] at q; cases q))
theorem om_y (hb : inI (nI x) 4 = true) (hb2 : inI (nI y) 4 = true) (tx : tn (nI x) = x) (ty : tn (nI y) = y) (hq : sh x = some q) (hq2 : sh y = some q2) (h : q.1 = q2.1) (hm : mvB i j m q.2.length q2.2.length = true) : o_move sh (nI x) i (nI y) j m = m := by unfold o_move; rw [hb, hb2, tx, ty, Bool.and_self, if_pos rfl]; rw [hq, hq2]; exact (if_pos h).trans (if_pos hm)
theorem sm_y (hb : inI (nI x) 4 = true) (hb2 : inI (nI y) 4 = true) (tx : tn (nI x) = x) (ty : tn (nI y) = y) (hq : sh x = some q) (hq2 : sh y = some q2) (h : q.1 = q2.1) (hm : mvB i j m q.2.length q2.2.length = true) : s_move sh (nI x) i (nI y) j m = shU sh y (some (q2.1, mvL q.2 q2.2 (tn i) (tn j) (tn m))) := by unfold s_move; rw [hb, hb2, tx, ty, Bool.and_self, if_pos rfl]; rw [hq, hq2]; exact (if_pos h).trans (if_pos hm)
end OPS
section A38
variable {E : xE} {G : xH} {d e : Nat → Value} {n : Nat}
theorem A_move {k i k2 j m : Int32} {sh : Nat → Option (Nat × List Int64)} {sa : Nat → Nat}  (hv : cV d e n G) (hSh : cSh sh sa G) : xMetW E yX0_move cX0_move 7 (some FieldType.int) [(16, 44, 45, 689), (16, 44, 50, 691), (16, 44, 55, 341)] 2 3 410 [.ref 0, .int k, .int i, .int k2, .int j, .int m] G (xre (fun v_ G' => v_ = some (.int (o_move sh k i k2 j m)) ∧ cSh (s_move sh k i k2 j m) sa G' ∧ gfa [sa (tn k2)] G G' ∧ gsm G G')) := by
  obtain ⟨hO, hN, hn0, h1n, hn6⟩ := id hv
  refine xMetW.of (lv := [some (.ref 0), some (.int k), some (.int i), some (.int k2), some (.int j), some (.int m), none]) rfl rfl (Nat.le_of_ble_eq_true rfl) ?_
  refine xj_iload_n dX0_move_0 rfl ?_
  refine xj_cS dX0_move_1 q1468 kS_X0_isShelf A_isShelf rfl rfl (Nat.le_of_ble_eq_true rfl) ⟨(Nat.le_of_ble_eq_true rfl), (Nat.le_of_ble_eq_true rfl)⟩ (Nat.le_of_ble_eq_true rfl) (Nat.le_of_ble_eq_true rfl) ?_
  refine xj_if_eq (tgt := 14) dX0_move_4 rfl (fun c4 => ?_) (fun c4 => ?_)
  · refine xj_icm1 dX0_move_14 ?_
    exact xj_ireturn dX0_move_15 rfl rfl ⟨by unfold o_move; first | (rw [b1_z c4]; rfl) | (rw [b1_z c11, Bool.and_false]; rfl), by unfold s_move; first | (rw [b1_z c4]; exact hSh) | (rw [b1_z c11, Bool.and_false]; exact hSh), gfa.refl, gsm.refl⟩
  · refine xj_iload_n dX0_move_7 rfl ?_
    refine xj_cS dX0_move_8 q1468 kS_X0_isShelf A_isShelf rfl rfl (Nat.le_of_ble_eq_true rfl) ⟨(Nat.le_of_ble_eq_true rfl), (Nat.le_of_ble_eq_true rfl)⟩ (Nat.le_of_ble_eq_true rfl) (Nat.le_of_ble_eq_true rfl) ?_
    refine xj_if_ne (tgt := 16) dX0_move_11 rfl (fun c11 => ?_) (fun c11 => ?_)
    · have hb := b1_nz c4
      have hb2 := b1_nz c11
      obtain ⟨x, hx, hx31, rfl⟩ := inI_t hb
      obtain ⟨y, hy, hy31, rfl⟩ := inI_t hb2
      have tx : tn (nI x) = x := nI_clamp hx31
      have ty : tn (nI y) = y := nI_clamp hy31
      have hx1 := hSh.2.1 x hx
      have hy1 := hSh.2.1 y hy
      cases hq : sh x with
      | none =>
        rw [hq] at hx1
        have hx1 : G[35 + 2 * x]? = some (cO 5 [.null]) := hx1
        cases hq2 : sh y with
        | none =>
          rw [hq2] at hy1
          have hy1 : G[35 + 2 * y]? = some (cO 5 [.null]) := hy1
          refine xj_aload_n dX0_move_16 rfl rfl ?_
          refine xj_get dX0_move_17 K0 34 (by decide) q506 hO rfl ?_
          refine xj_iload_n dX0_move_20 rfl ?_
          refine xj_aald dX0_move_21 hSh.1 rfl rfl rfl (by omega) (sh_ref hx) ?_
          refine xj_getN dX0_move_22 K5 0 (by decide) q381 hx1 rfl ?_
          refine xj_iload_n dX0_move_25 rfl ?_
          refine xj_aload_n dX0_move_26 rfl rfl ?_
          refine xj_get dX0_move_27 K0 34 (by decide) q506 hO rfl ?_
          refine xj_iload_n dX0_move_30 rfl ?_
          refine xj_aald dX0_move_31 hSh.1 rfl rfl rfl (by omega) (sh_ref hy) ?_
          refine xj_getN dX0_move_32 K5 0 (by decide) q381 hy1 rfl ?_
          refine xj_iload dX0_move_35 rfl ?_
          refine xj_iload dX0_move_37 rfl ?_
          refine xj_copyN dX0_move_39 q732 q734 q733 q165 (Or.inl rfl) (Or.inl rfl) (Or.inl rfl) (xrm_R (Nat.le_of_ble_eq_true rfl) (Nat.le_of_ble_eq_true rfl) (Nat.le_of_ble_eq_true rfl)) (Nat.le_of_ble_eq_true rfl) (fun j_ => ?_)
          refine xjT_catchV [] (16, 44, 45, 689) [(16, 44, 50, 691), (16, 44, 55, 341)] rfl (fun z hz => by cases hz) rfl (by decide) q1565 (Or.inl rfl) dX0_move_45 (Nat.le_of_ble_eq_true rfl) rfl ?_
          refine xj_bipush (v := -11) dX0_move_47 rfl ?_
          exact xj_ireturn dX0_move_49 rfl rfl ⟨by rw [om_n hb hb2 tx ty (Or.inl hq)], by rw [sm_n hb hb2 tx ty (Or.inl hq)]; exact hSh.gfa (gfa.refl (W := [])).apps (fun i hi => by cases hi), gfa.refl.apps, gsm.refl.apps⟩
        | some q2 =>
          rw [hq2] at hy1
          obtain ⟨b1_, b2_, b3_, b4_⟩ := hy1
          refine xj_aload_n dX0_move_16 rfl rfl ?_
          refine xj_get dX0_move_17 K0 34 (by decide) q506 hO rfl ?_
          refine xj_iload_n dX0_move_20 rfl ?_
          refine xj_aald dX0_move_21 hSh.1 rfl rfl rfl (by omega) (sh_ref hx) ?_
          refine xj_getN dX0_move_22 K5 0 (by decide) q381 hx1 rfl ?_
          refine xj_iload_n dX0_move_25 rfl ?_
          refine xj_aload_n dX0_move_26 rfl rfl ?_
          refine xj_get dX0_move_27 K0 34 (by decide) q506 hO rfl ?_
          refine xj_iload_n dX0_move_30 rfl ?_
          refine xj_aald dX0_move_31 hSh.1 rfl rfl rfl (by omega) (sh_ref hy) ?_
          refine xj_getN dX0_move_32 K5 0 (by decide) q381 b1_ rfl ?_
          refine xj_iload dX0_move_35 rfl ?_
          refine xj_iload dX0_move_37 rfl ?_
          refine xj_copyN dX0_move_39 q732 q734 q733 q165 (Or.inl rfl) (Or.inr ⟨_, rfl⟩) (Or.inl rfl) (xrm_R (Nat.le_of_ble_eq_true rfl) (Nat.le_of_ble_eq_true rfl) (Nat.le_of_ble_eq_true rfl)) (Nat.le_of_ble_eq_true rfl) (fun j_ => ?_)
          refine xjT_catchV [] (16, 44, 45, 689) [(16, 44, 50, 691), (16, 44, 55, 341)] rfl (fun z hz => by cases hz) rfl (by decide) q1565 (Or.inl rfl) dX0_move_45 (Nat.le_of_ble_eq_true rfl) rfl ?_
          refine xj_bipush (v := -11) dX0_move_47 rfl ?_
          exact xj_ireturn dX0_move_49 rfl rfl ⟨by rw [om_n hb hb2 tx ty (Or.inl hq)], by rw [sm_n hb hb2 tx ty (Or.inl hq)]; exact hSh.gfa (gfa.refl (W := [])).apps (fun i hi => by cases hi), gfa.refl.apps, gsm.refl.apps⟩
      | some q =>
        rw [hq] at hx1
        obtain ⟨a1, a2, a3, a4⟩ := hx1
        have a41 := a4.2.1
        cases hq2 : sh y with
        | none =>
          rw [hq2] at hy1
          have hy1 : G[35 + 2 * y]? = some (cO 5 [.null]) := hy1
          refine xj_aload_n dX0_move_16 rfl rfl ?_
          refine xj_get dX0_move_17 K0 34 (by decide) q506 hO rfl ?_
          refine xj_iload_n dX0_move_20 rfl ?_
          refine xj_aald dX0_move_21 hSh.1 rfl rfl rfl (by omega) (sh_ref hx) ?_
          refine xj_getN dX0_move_22 K5 0 (by decide) q381 a1 rfl ?_
          refine xj_iload_n dX0_move_25 rfl ?_
          refine xj_aload_n dX0_move_26 rfl rfl ?_
          refine xj_get dX0_move_27 K0 34 (by decide) q506 hO rfl ?_
          refine xj_iload_n dX0_move_30 rfl ?_
          refine xj_aald dX0_move_31 hSh.1 rfl rfl rfl (by omega) (sh_ref hy) ?_
          refine xj_getN dX0_move_32 K5 0 (by decide) q381 hy1 rfl ?_
          refine xj_iload dX0_move_35 rfl ?_
          refine xj_iload dX0_move_37 rfl ?_
          refine xj_copyN dX0_move_39 q732 q734 q733 q165 (Or.inr ⟨_, rfl⟩) (Or.inl rfl) (Or.inr rfl) (xrm_R (Nat.le_of_ble_eq_true rfl) (Nat.le_of_ble_eq_true rfl) (Nat.le_of_ble_eq_true rfl)) (Nat.le_of_ble_eq_true rfl) (fun j_ => ?_)
          refine xjT_catchV [] (16, 44, 45, 689) [(16, 44, 50, 691), (16, 44, 55, 341)] rfl (fun z hz => by cases hz) rfl (by decide) q1565 (Or.inl rfl) dX0_move_45 (Nat.le_of_ble_eq_true rfl) rfl ?_
          refine xj_bipush (v := -11) dX0_move_47 rfl ?_
          exact xj_ireturn dX0_move_49 rfl rfl ⟨by rw [om_n hb hb2 tx ty (Or.inr hq2)], by rw [sm_n hb hb2 tx ty (Or.inr hq2)]; exact hSh.gfa (gfa.refl (W := [])).apps (fun i hi => by cases hi), gfa.refl.apps, gsm.refl.apps⟩
        | some q2 =>
          rw [hq2] at hy1
          obtain ⟨b1_, b2_, b3_, b4_⟩ := hy1
          have b41 := b4_.2.1
          by_cases hts : q.1 = q2.1
          · cases hmv : mvB i j m q.2.length q2.2.length with
            | true =>
              obtain ⟨A, B, C, rfl, rfl, rfl, hA, hB, tA, tB, tC⟩ := mv_in a4.2.1 b4_.2.1 hmv
              rcases sh_cases a4.1 with hqt | hqt | hqt | hqt
              · have a3 : G[sa x]? = some (cI 1 (q.2.map Int64.toInt32)) := by rw [hqt] at a3; exact a3
                have b3_ : G[sa y]? = some (cI 1 (q2.2.map Int64.toInt32)) := by rw [← hts, hqt] at b3_; exact b3_
                have a40 := a4
                rw [hqt] at a4
                refine xj_aload_n dX0_move_16 rfl rfl ?_
                refine xj_get dX0_move_17 K0 34 (by decide) q506 hO rfl ?_
                refine xj_iload_n dX0_move_20 rfl ?_
                refine xj_aald dX0_move_21 hSh.1 rfl rfl rfl (by omega) (sh_ref hx) ?_
                refine xj_getN dX0_move_22 K5 0 (by decide) q381 a1 rfl ?_
                refine xj_iload_n dX0_move_25 rfl ?_
                refine xj_aload_n dX0_move_26 rfl rfl ?_
                refine xj_get dX0_move_27 K0 34 (by decide) q506 hO rfl ?_
                refine xj_iload_n dX0_move_30 rfl ?_
                refine xj_aald dX0_move_31 hSh.1 rfl rfl rfl (by omega) (sh_ref hy) ?_
                refine xj_getN dX0_move_32 K5 0 (by decide) q381 b1_ rfl ?_
                refine xj_iload dX0_move_35 rfl ?_
                refine xj_iload dX0_move_37 rfl ?_
                refine xj_copy (t := 1) (sp := A) (dp := B) (N := C) dX0_move_39 q732 q734 q733 q165 a3 b3_ rfl rfl rfl rfl rfl (by omega) (by omega) (by omega) (by rw [List.length_map]; exact hA) (by rw [List.length_map]; exact hB) (fun i_ hi => fit_0 a4 (by omega)) (Nat.le_of_ble_eq_true rfl) ⟨(Nat.le_of_ble_eq_true rfl), (Nat.le_of_ble_eq_true rfl)⟩ ?_
                refine xj_iload dX0_move_42 rfl ?_
                exact xj_ireturn dX0_move_44 rfl rfl ⟨by rw [om_y hb hb2 tx ty hq hq2 hts hmv], by rw [sm_y hb hb2 tx ty hq hq2 hts hmv, tA, tB, tC]; have hp := hSh.put hy hq2 (ys := mvL q.2 q2.2 A B C) (shN_mv (by rw [← hts]; exact a40) b4_ hA hB); rw [shC_mv b4_.1 hA hB, ← hts, hqt] at hp; rw [← hts, hqt]; exact hp, gfa.refl.set (by rw [ty]; exact List.mem_cons_self), gsm.refl.set b3_ ⟨_, rfl, cpL_len _ _ _ _ _⟩⟩
              · have a3 : G[sa x]? = some (cI 3 (q.2.map Int64.toInt32)) := by rw [hqt] at a3; exact a3
                have b3_ : G[sa y]? = some (cI 3 (q2.2.map Int64.toInt32)) := by rw [← hts, hqt] at b3_; exact b3_
                have a40 := a4
                rw [hqt] at a4
                refine xj_aload_n dX0_move_16 rfl rfl ?_
                refine xj_get dX0_move_17 K0 34 (by decide) q506 hO rfl ?_
                refine xj_iload_n dX0_move_20 rfl ?_
                refine xj_aald dX0_move_21 hSh.1 rfl rfl rfl (by omega) (sh_ref hx) ?_
                refine xj_getN dX0_move_22 K5 0 (by decide) q381 a1 rfl ?_
                refine xj_iload_n dX0_move_25 rfl ?_
                refine xj_aload_n dX0_move_26 rfl rfl ?_
                refine xj_get dX0_move_27 K0 34 (by decide) q506 hO rfl ?_
                refine xj_iload_n dX0_move_30 rfl ?_
                refine xj_aald dX0_move_31 hSh.1 rfl rfl rfl (by omega) (sh_ref hy) ?_
                refine xj_getN dX0_move_32 K5 0 (by decide) q381 b1_ rfl ?_
                refine xj_iload dX0_move_35 rfl ?_
                refine xj_iload dX0_move_37 rfl ?_
                refine xj_copy (t := 3) (sp := A) (dp := B) (N := C) dX0_move_39 q732 q734 q733 q165 a3 b3_ rfl rfl rfl rfl rfl (by omega) (by omega) (by omega) (by rw [List.length_map]; exact hA) (by rw [List.length_map]; exact hB) (fun i_ hi => fit_1 a4 (by omega)) (Nat.le_of_ble_eq_true rfl) ⟨(Nat.le_of_ble_eq_true rfl), (Nat.le_of_ble_eq_true rfl)⟩ ?_
                refine xj_iload dX0_move_42 rfl ?_
                exact xj_ireturn dX0_move_44 rfl rfl ⟨by rw [om_y hb hb2 tx ty hq hq2 hts hmv], by rw [sm_y hb hb2 tx ty hq hq2 hts hmv, tA, tB, tC]; have hp := hSh.put hy hq2 (ys := mvL q.2 q2.2 A B C) (shN_mv (by rw [← hts]; exact a40) b4_ hA hB); rw [shC_mv b4_.1 hA hB, ← hts, hqt] at hp; rw [← hts, hqt]; exact hp, gfa.refl.set (by rw [ty]; exact List.mem_cons_self), gsm.refl.set b3_ ⟨_, rfl, cpL_len _ _ _ _ _⟩⟩
              · have a3 : G[sa x]? = some (cI 0 (q.2.map Int64.toInt32)) := by rw [hqt] at a3; exact a3
                have b3_ : G[sa y]? = some (cI 0 (q2.2.map Int64.toInt32)) := by rw [← hts, hqt] at b3_; exact b3_
                have a40 := a4
                refine xj_aload_n dX0_move_16 rfl rfl ?_
                refine xj_get dX0_move_17 K0 34 (by decide) q506 hO rfl ?_
                refine xj_iload_n dX0_move_20 rfl ?_
                refine xj_aald dX0_move_21 hSh.1 rfl rfl rfl (by omega) (sh_ref hx) ?_
                refine xj_getN dX0_move_22 K5 0 (by decide) q381 a1 rfl ?_
                refine xj_iload_n dX0_move_25 rfl ?_
                refine xj_aload_n dX0_move_26 rfl rfl ?_
                refine xj_get dX0_move_27 K0 34 (by decide) q506 hO rfl ?_
                refine xj_iload_n dX0_move_30 rfl ?_
                refine xj_aald dX0_move_31 hSh.1 rfl rfl rfl (by omega) (sh_ref hy) ?_
                refine xj_getN dX0_move_32 K5 0 (by decide) q381 b1_ rfl ?_
                refine xj_iload dX0_move_35 rfl ?_
                refine xj_iload dX0_move_37 rfl ?_
                refine xj_copy (t := 0) (sp := A) (dp := B) (N := C) dX0_move_39 q732 q734 q733 q165 a3 b3_ rfl rfl rfl rfl rfl (by omega) (by omega) (by omega) (by rw [List.length_map]; exact hA) (by rw [List.length_map]; exact hB) (fun _ _ => rfl) (Nat.le_of_ble_eq_true rfl) ⟨(Nat.le_of_ble_eq_true rfl), (Nat.le_of_ble_eq_true rfl)⟩ ?_
                refine xj_iload dX0_move_42 rfl ?_
                exact xj_ireturn dX0_move_44 rfl rfl ⟨by rw [om_y hb hb2 tx ty hq hq2 hts hmv], by rw [sm_y hb hb2 tx ty hq hq2 hts hmv, tA, tB, tC]; have hp := hSh.put hy hq2 (ys := mvL q.2 q2.2 A B C) (shN_mv (by rw [← hts]; exact a40) b4_ hA hB); rw [shC_mv b4_.1 hA hB, ← hts, hqt] at hp; rw [← hts, hqt]; exact hp, gfa.refl.set (by rw [ty]; exact List.mem_cons_self), gsm.refl.set b3_ ⟨_, rfl, cpL_len _ _ _ _ _⟩⟩
              · have a3 : G[sa x]? = some (cL 4 q.2) := by rw [hqt] at a3; exact a3
                have b3_ : G[sa y]? = some (cL 4 q2.2) := by rw [← hts, hqt] at b3_; exact b3_
                have a40 := a4
                refine xj_aload_n dX0_move_16 rfl rfl ?_
                refine xj_get dX0_move_17 K0 34 (by decide) q506 hO rfl ?_
                refine xj_iload_n dX0_move_20 rfl ?_
                refine xj_aald dX0_move_21 hSh.1 rfl rfl rfl (by omega) (sh_ref hx) ?_
                refine xj_getN dX0_move_22 K5 0 (by decide) q381 a1 rfl ?_
                refine xj_iload_n dX0_move_25 rfl ?_
                refine xj_aload_n dX0_move_26 rfl rfl ?_
                refine xj_get dX0_move_27 K0 34 (by decide) q506 hO rfl ?_
                refine xj_iload_n dX0_move_30 rfl ?_
                refine xj_aald dX0_move_31 hSh.1 rfl rfl rfl (by omega) (sh_ref hy) ?_
                refine xj_getN dX0_move_32 K5 0 (by decide) q381 b1_ rfl ?_
                refine xj_iload dX0_move_35 rfl ?_
                refine xj_iload dX0_move_37 rfl ?_
                refine xj_copyL (t := 4) (sp := A) (dp := B) (N := C) dX0_move_39 q732 q734 q733 q165 a3 b3_ rfl rfl rfl rfl rfl (by omega) (by omega) (by omega) hA hB (fun _ _ => rfl) (Nat.le_of_ble_eq_true rfl) ⟨(Nat.le_of_ble_eq_true rfl), (Nat.le_of_ble_eq_true rfl)⟩ ?_
                refine xj_iload dX0_move_42 rfl ?_
                exact xj_ireturn dX0_move_44 rfl rfl ⟨by rw [om_y hb hb2 tx ty hq hq2 hts hmv], by rw [sm_y hb hb2 tx ty hq hq2 hts hmv, tA, tB, tC]; have hp := hSh.put hy hq2 (ys := mvL q.2 q2.2 A B C) (shN_mv (by rw [← hts]; exact a40) b4_ hA hB); rw [shC_mv b4_.1 hA hB, ← hts, hqt] at hp; rw [← hts, hqt]; exact hp, gfa.refl.set (by rw [ty]; exact List.mem_cons_self), gsm.refl.set b3_ ⟨_, rfl, cpQ_len _ _ _ _ _⟩⟩
            | false =>
              refine xj_aload_n dX0_move_16 rfl rfl ?_
              refine xj_get dX0_move_17 K0 34 (by decide) q506 hO rfl ?_
              refine xj_iload_n dX0_move_20 rfl ?_
              refine xj_aald dX0_move_21 hSh.1 rfl rfl rfl (by omega) (sh_ref hx) ?_
              refine xj_getN dX0_move_22 K5 0 (by decide) q381 a1 rfl ?_
              refine xj_iload_n dX0_move_25 rfl ?_
              refine xj_aload_n dX0_move_26 rfl rfl ?_
              refine xj_get dX0_move_27 K0 34 (by decide) q506 hO rfl ?_
              refine xj_iload_n dX0_move_30 rfl ?_
              refine xj_aald dX0_move_31 hSh.1 rfl rfl rfl (by omega) (sh_ref hy) ?_
              refine xj_getN dX0_move_32 K5 0 (by decide) q381 b1_ rfl ?_
              refine xj_iload dX0_move_35 rfl ?_
              refine xj_iload dX0_move_37 rfl ?_
              refine xj_copyZ dX0_move_39 q732 q734 q733 q165 a3 b3_ (xar_sh a4.1) (by rw [hts]; exact xar_sh b4_.1) (shF_ty a4.1).1 (shF_ty a4.1).2 (by omega) (by omega) (mv_out hmv) (xrm_R (Nat.le_of_ble_eq_true rfl) (Nat.le_of_ble_eq_true rfl) (Nat.le_of_ble_eq_true rfl)) (Nat.le_of_ble_eq_true rfl) (fun j_ => ?_)
              refine xjT_catchV [(16, 44, 45, 689), (16, 44, 50, 691)] (16, 44, 55, 341) [] rfl (fun z hz => by
                rcases List.mem_cons.mp hz with rfl | hz
                · exact Or.inr ⟨by decide, _, q1565, nc_AI_NP⟩
                rcases List.mem_cons.mp hz with rfl | hz
                · exact Or.inr ⟨by decide, _, q1601, nc_AI_AS⟩
                cases hz) rfl (by decide) q689 (Or.inr cy_AI_IO) dX0_move_55 (Nat.le_of_ble_eq_true rfl) rfl ?_
              refine xj_bipush (v := -12) dX0_move_57 rfl ?_
              exact xj_ireturn dX0_move_59 rfl rfl ⟨by rw [om_o hb hb2 tx ty hq hq2 hts hmv], by rw [sm_o hb hb2 tx ty hq hq2 hts hmv]; exact hSh.gfa (gfa.refl (W := [])).apps (fun i hi => by cases hi), gfa.refl.apps, gsm.refl.apps⟩
          · refine xj_aload_n dX0_move_16 rfl rfl ?_
            refine xj_get dX0_move_17 K0 34 (by decide) q506 hO rfl ?_
            refine xj_iload_n dX0_move_20 rfl ?_
            refine xj_aald dX0_move_21 hSh.1 rfl rfl rfl (by omega) (sh_ref hx) ?_
            refine xj_getN dX0_move_22 K5 0 (by decide) q381 a1 rfl ?_
            refine xj_iload_n dX0_move_25 rfl ?_
            refine xj_aload_n dX0_move_26 rfl rfl ?_
            refine xj_get dX0_move_27 K0 34 (by decide) q506 hO rfl ?_
            refine xj_iload_n dX0_move_30 rfl ?_
            refine xj_aald dX0_move_31 hSh.1 rfl rfl rfl (by omega) (sh_ref hy) ?_
            refine xj_getN dX0_move_32 K5 0 (by decide) q381 b1_ rfl ?_
            refine xj_iload dX0_move_35 rfl ?_
            refine xj_iload dX0_move_37 rfl ?_
            refine xj_copyS dX0_move_39 q732 q734 q733 q165 a3 b3_ (xar_sh a4.1) (xar_sh b4_.1) (shF_ty a4.1).1 (shF_ty b4_.1).1 (shF_ne a4.1 b4_.1 hts) (xrm_R (Nat.le_of_ble_eq_true rfl) (Nat.le_of_ble_eq_true rfl) (Nat.le_of_ble_eq_true rfl)) (fun j_ => ?_)
            refine xjT_catchV [(16, 44, 45, 689)] (16, 44, 50, 691) [(16, 44, 55, 341)] rfl (fun z hz => by
              rcases List.mem_cons.mp hz with rfl | hz
              · exact Or.inr ⟨by decide, _, q1565, nc_AS_NP⟩
              cases hz) rfl (by decide) q1601 (Or.inl rfl) dX0_move_50 (Nat.le_of_ble_eq_true rfl) rfl ?_
            refine xj_bipush (v := -13) dX0_move_52 rfl ?_
            exact xj_ireturn dX0_move_54 rfl rfl ⟨by rw [om_x hb hb2 tx ty hq hq2 hts], by rw [sm_x hb hb2 tx ty hq hq2 hts]; exact hSh.gfa (gfa.refl (W := [])).apps (fun i hi => by cases hi), gfa.refl.apps, gsm.refl.apps⟩
    · refine xj_icm1 dX0_move_14 ?_
      exact xj_ireturn dX0_move_15 rfl rfl ⟨by unfold o_move; first | (rw [b1_z c4]; rfl) | (rw [b1_z c11, Bool.and_false]; rfl), by unfold s_move; first | (rw [b1_z c4]; exact hSh) | (rw [b1_z c11, Bool.and_false]; exact hSh), gfa.refl, gsm.refl⟩
theorem A_ticket {a : Nat} {v : Int32}  (hT : G[a]? = some (cO 24 [.int 0])) : xMet E yX24_init cX24_init 2 none 0 0 0 [.ref a, .int v] G (xrv none (G.set a (cO 24 [.int v]))) := by
  refine xMet.of (lv := [some (.ref a), some (.int v)]) rfl rfl (Nat.le_of_ble_eq_true rfl) ?_
  refine xj_aload_n dX24_init_0 rfl rfl ?_
  refine xj_objInit dX24_init_1 q1633 qObjI qObjC ⟨(Nat.le_of_ble_eq_true rfl), (Nat.le_of_ble_eq_true rfl)⟩ (Nat.le_of_ble_eq_true rfl) ?_
  refine xj_aload_n dX24_init_4 rfl rfl ?_
  refine xj_iload_n dX24_init_5 rfl ?_
  refine xj_putF dX24_init_6 K24 0 (by decide) q1634 rfl rfl rfl rfl hT (Nat.le_of_ble_eq_true rfl) ?_
  exact xj_return dX24_init_9 rfl ⟨rfl, rfl⟩
theorem A_shelf {k w m : Int32} {sh : Nat → Option (Nat × List Int64)} {sa : Nat → Nat} {hl : Nat → Option (Nat ⊕ (Nat × Nat))} {mk : List (Nat × Nat)}  (hv : cV d e n G) (hSh : cSh sh sa G) (hmk : cMk mk e G) (hHl : cHl hl G) (h82 : 82 < G.length) : xMet E yX0_shelf cX0_shelf 4 (some FieldType.int) 2 1 1 [.ref 0, .int k, .int w, .int m] G (xre (fun v_ G' => v_ = some (.int (o_shelf mk k w m)) ∧ cHl (s_shelf mk sh hl k w m) G' ∧ gfa [34, 36, 38, 40] G G')) := by
  obtain ⟨hO, hN, hn0, h1n, hn6⟩ := id hv
  have hl6 : mk.length ≤ 6 := by obtain ⟨-, ⟨K, M, -, -, q⟩, -⟩ := id hmk; exact q.2.2.1
  refine xMet.of (lv := [some (.ref 0), some (.int k), some (.int w), some (.int m)]) rfl rfl (Nat.le_of_ble_eq_true rfl) ?_
  refine xj_iload_n dX0_shelf_0 rfl ?_
  refine xj_cS dX0_shelf_1 q1468 kS_X0_isShelf A_isShelf rfl rfl (Nat.le_of_ble_eq_true rfl) ⟨(Nat.le_of_ble_eq_true rfl), (Nat.le_of_ble_eq_true rfl)⟩ (Nat.le_of_ble_eq_true rfl) (Nat.le_of_ble_eq_true rfl) ?_
  refine xj_if_eq (tgt := 40) dX0_shelf_4 rfl (fun c4 => ?_) (fun c4 => ?_)
  · have hB : slB mk k w m = false := by
      unfold slB
      first
      | (rw [b1_z c4]; rfl)
      | (rw [b1_z c13, Bool.false_and, Bool.and_false]; done)
      | (rw [b1_z c25, decide_eq_true c18]; simp)
      | (rw [b1_z c37, decide_eq_true c29]; simp)
    refine xj_icm1 dX0_shelf_40 ?_
    exact xj_ireturn dX0_shelf_41 rfl rfl ⟨by unfold o_shelf; rw [hB]; rfl, by unfold s_shelf; rw [hB]; exact hHl, gfa.refl⟩
  · refine xj_iload_n dX0_shelf_7 rfl ?_
    refine xj_ic0 dX0_shelf_8 ?_
    refine xj_ic2 dX0_shelf_9 ?_
    refine xj_cS dX0_shelf_10 q585 kS_X0_isIn A_isIn rfl rfl (Nat.le_of_ble_eq_true rfl) ⟨(Nat.le_of_ble_eq_true rfl), (Nat.le_of_ble_eq_true rfl)⟩ (Nat.le_of_ble_eq_true rfl) (Nat.le_of_ble_eq_true rfl) ?_
    rw [show inC w 0 2 = inI w 3 from inC_inI (m := 3) (by decide)]
    refine xj_if_eq (tgt := 40) dX0_shelf_13 rfl (fun c13 => ?_) (fun c13 => ?_)
    · have hB : slB mk k w m = false := by
        unfold slB
        first
        | (rw [b1_z c4]; rfl)
        | (rw [b1_z c13, Bool.false_and, Bool.and_false]; done)
        | (rw [b1_z c25, decide_eq_true c18]; simp)
        | (rw [b1_z c37, decide_eq_true c29]; simp)
      refine xj_icm1 dX0_shelf_40 ?_
      exact xj_ireturn dX0_shelf_41 rfl rfl ⟨by unfold o_shelf; rw [hB]; rfl, by unfold s_shelf; rw [hB]; exact hHl, gfa.refl⟩
    · refine xj_iload_n dX0_shelf_16 rfl ?_
      refine xj_ic1 dX0_shelf_17 ?_
      refine xj_icmp_ne (tgt := 28) dX0_shelf_18 rfl (fun c18 => ?_) (fun c18 => ?_)
      · refine xj_iload_n dX0_shelf_28 rfl ?_
        refine xj_if_ne (tgt := 42) dX0_shelf_29 rfl (fun c29 => ?_) (fun c29 => ?_)
        · have hB : slB mk k w m = true := by
            unfold slB
            rw [b1_nz c4, b1_nz c13]
            first
            | (rw [decide_eq_false c29, decide_eq_false c18]; rfl)
            | (rw [decide_eq_false c29, b1_nz c25, Bool.or_true]; rfl)
            | (rw [b1_nz c37, decide_eq_false c18, Bool.or_true]; rfl)
            | (rw [b1_nz c37, b1_nz c25, Bool.or_true, Bool.or_true]; rfl)
          obtain ⟨x, hx, hx31, rfl⟩ := inI_t (b1_nz c4)
          have tx : tn (nI x) = x := nI_clamp hx31
          obtain ⟨v0, hc5⟩ := (hHl.2 x hx).at
          refine xj_aload_n dX0_shelf_42 rfl rfl ?_
          refine xj_get dX0_shelf_43 K0 33 (by decide) q505 hO rfl ?_
          refine xj_iload_n dX0_shelf_46 rfl ?_
          refine xj_aald dX0_shelf_47 hHl.1 rfl rfl rfl (by omega) (sl_ref hx) ?_
          refine xj_iload_n dX0_shelf_48 rfl ?_
          refine xj_if_ne (tgt := 63) dX0_shelf_49 rfl (fun c49 => ?_) (fun c49 => ?_)
          · have hw0 : w ≠ 0 := c49
            refine xj_iload_n dX0_shelf_63 rfl ?_
            refine xj_ic1 dX0_shelf_64 ?_
            refine xj_icmp_ne (tgt := 80) dX0_shelf_65 rfl (fun c65 => ?_) (fun c65 => ?_)
            · have hw1 : w ≠ 1 := c65
              refine xj_null dX0_shelf_80 ?_
              refine xj_putN dX0_shelf_81 K5 0 (by decide) q381 rfl rfl hc5 (Nat.le_of_ble_eq_true rfl) ?_
              refine xj_ic1 dX0_shelf_84 ?_
              exact xj_ireturn dX0_shelf_85 rfl rfl ⟨by unfold o_shelf; rw [if_pos hB], by unfold s_shelf; rw [if_pos hB, tx]; refine hHl.set hx gfa.refl ?_; unfold slO; rw [if_neg hw0, if_neg hw1]; exact gset_self hc5, gfa.refl.set (by rcases sh_cases hx with rfl | rfl | rfl | rfl <;> decide)⟩
            · have hw1 : w = 1 := c65
              subst hw1
              obtain ⟨y, hy, hy31, rfl⟩ := inI_t (show inI m 4 = true from slv_sh hB)
              have ty : tn (nI y) = y := nI_clamp hy31
              have hy1 := hSh.2.1 y hy
              cases hq : sh y with
              | none =>
                rw [hq] at hy1
                have hy1 : G[35 + 2 * y]? = some (cO 5 [.null]) := hy1
                refine xj_aload_n dX0_shelf_68 rfl rfl ?_
                refine xj_get dX0_shelf_69 K0 34 (by decide) q506 hO rfl ?_
                refine xj_iload_n dX0_shelf_72 rfl ?_
                refine xj_aald dX0_shelf_73 hSh.1 rfl rfl rfl (by omega) (sh_ref hy) ?_
                refine xj_getN dX0_shelf_74 K5 0 (by decide) q381 hy1 rfl ?_
                refine xj_goto (tgt := 81) dX0_shelf_77 rfl ?_
                refine xj_putN dX0_shelf_81 K5 0 (by decide) q381 rfl rfl hc5 (Nat.le_of_ble_eq_true rfl) ?_
                refine xj_ic1 dX0_shelf_84 ?_
                exact xj_ireturn dX0_shelf_85 rfl rfl ⟨by unfold o_shelf; rw [if_pos hB], by unfold s_shelf; rw [if_pos hB, tx]; refine hHl.set hx gfa.refl ?_; unfold slO; rw [if_neg (by decide), if_pos rfl, ty, hq]; exact gset_self hc5, gfa.refl.set (by rcases sh_cases hx with rfl | rfl | rfl | rfl <;> decide)⟩
              | some q =>
                rw [hq] at hy1
                obtain ⟨a1, a2, a3, a4⟩ := hy1
                refine xj_aload_n dX0_shelf_68 rfl rfl ?_
                refine xj_get dX0_shelf_69 K0 34 (by decide) q506 hO rfl ?_
                refine xj_iload_n dX0_shelf_72 rfl ?_
                refine xj_aald dX0_shelf_73 hSh.1 rfl rfl rfl (by omega) (sh_ref hy) ?_
                refine xj_getN dX0_shelf_74 K5 0 (by decide) q381 a1 rfl ?_
                refine xj_goto (tgt := 81) dX0_shelf_77 rfl ?_
                refine xj_putN dX0_shelf_81 K5 0 (by decide) q381 rfl rfl hc5 (Nat.le_of_ble_eq_true rfl) ?_
                refine xj_ic1 dX0_shelf_84 ?_
                exact xj_ireturn dX0_shelf_85 rfl rfl ⟨by unfold o_shelf; rw [if_pos hB], by unfold s_shelf; rw [if_pos hB, tx]; refine hHl.set hx gfa.refl ?_; unfold slO; rw [if_neg (by decide), if_pos rfl, ty, hq]; exact ⟨sa y, q.2, gset_self hc5, a2, by rw [gset (by omega)]; exact a3, rfl, a4.1, a4.2.1⟩, gfa.refl.set (by rcases sh_cases hx with rfl | rfl | rfl | rfl <;> decide)⟩
          · have hw0 : w = 0 := c49
            subst hw0
            obtain ⟨y, hy, hy31, rfl⟩ := inI_t (show inI m mk.length = true from slv_mk hB)
            have ty : tn (nI y) = y := nI_clamp hy31
            refine xj_new (fs := [.int 0]) dX0_shelf_52 K24 q1628 q1629 q191 rfl (Nat.le_of_ble_eq_true rfl) (Nat.le_of_ble_eq_true rfl) ?_
            refine xj_dup dX0_shelf_55 rfl ?_
            refine xj_iload_n dX0_shelf_56 rfl ?_
            refine xj_cI dX0_shelf_57 q1630 kI_X24_init (A_ticket app_at) rfl rfl (Nat.le_of_ble_eq_true rfl) ⟨(Nat.le_of_ble_eq_true rfl), (Nat.le_of_ble_eq_true rfl)⟩ (Nat.le_of_ble_eq_true rfl) (Nat.le_of_ble_eq_true rfl) ?_
            rw [app_set]
            have hc6 : (G ++ [cO 24 [.int (nI y)]])[34 + 2 * x]? = some (cO 5 [v0]) := by rw [List.getElem?_append_left (List.getElem?_eq_some_iff.mp hc5).1]; exact hc5
            have hfin : cHl (s_shelf mk sh hl (nI x) 0 (nI y)) ((G ++ [cO 24 [.int (nI y)]]).set (34 + 2 * x) (cO 5 [.ref G.length])) := by
              unfold s_shelf
              rw [if_pos hB, tx]
              refine hHl.set hx gfa.refl.app ?_
              unfold slO
              rw [if_pos rfl, ty]
              exact ⟨G.length, gset_self hc6, h82, by rw [gset (by omega)]; exact app_at, by omega⟩
            have hff : gfa [34, 36, 38, 40] G ((G ++ [cO 24 [.int (nI y)]]).set (34 + 2 * x) (cO 5 [.ref G.length])) := (gfa.refl.app).set (by rcases sh_cases hx with rfl | rfl | rfl | rfl <;> decide)
            refine xj_goto (tgt := 81) dX0_shelf_60 rfl ?_
            refine xj_putN dX0_shelf_81 K5 0 (by decide) q381 rfl rfl hc6 (Nat.le_of_ble_eq_true rfl) ?_
            refine xj_ic1 dX0_shelf_84 ?_
            exact xj_ireturn dX0_shelf_85 rfl rfl ⟨by unfold o_shelf; rw [if_pos hB], hfin, hff⟩
        · refine xj_aload_n dX0_shelf_32 rfl rfl ?_
          refine xj_iload_n dX0_shelf_33 rfl ?_
          refine xj_cV dX0_shelf_34 q901 kV_X0_isMaker (A_isMaker hv hmk.1 hl6) hO rfl rfl rfl rfl (Nat.le_of_ble_eq_true rfl) ⟨(Nat.le_of_ble_eq_true rfl), (Nat.le_of_ble_eq_true rfl)⟩ (Nat.le_of_ble_eq_true rfl) (Nat.le_of_ble_eq_true rfl) ?_
          refine xj_if_ne (tgt := 42) dX0_shelf_37 rfl (fun c37 => ?_) (fun c37 => ?_)
          · have hB : slB mk k w m = true := by
              unfold slB
              rw [b1_nz c4, b1_nz c13]
              first
              | (rw [decide_eq_false c29, decide_eq_false c18]; rfl)
              | (rw [decide_eq_false c29, b1_nz c25, Bool.or_true]; rfl)
              | (rw [b1_nz c37, decide_eq_false c18, Bool.or_true]; rfl)
              | (rw [b1_nz c37, b1_nz c25, Bool.or_true, Bool.or_true]; rfl)
            obtain ⟨x, hx, hx31, rfl⟩ := inI_t (b1_nz c4)
            have tx : tn (nI x) = x := nI_clamp hx31
            obtain ⟨v0, hc5⟩ := (hHl.2 x hx).at
            refine xj_aload_n dX0_shelf_42 rfl rfl ?_
            refine xj_get dX0_shelf_43 K0 33 (by decide) q505 hO rfl ?_
            refine xj_iload_n dX0_shelf_46 rfl ?_
            refine xj_aald dX0_shelf_47 hHl.1 rfl rfl rfl (by omega) (sl_ref hx) ?_
            refine xj_iload_n dX0_shelf_48 rfl ?_
            refine xj_if_ne (tgt := 63) dX0_shelf_49 rfl (fun c49 => ?_) (fun c49 => ?_)
            · have hw0 : w ≠ 0 := c49
              refine xj_iload_n dX0_shelf_63 rfl ?_
              refine xj_ic1 dX0_shelf_64 ?_
              refine xj_icmp_ne (tgt := 80) dX0_shelf_65 rfl (fun c65 => ?_) (fun c65 => ?_)
              · have hw1 : w ≠ 1 := c65
                refine xj_null dX0_shelf_80 ?_
                refine xj_putN dX0_shelf_81 K5 0 (by decide) q381 rfl rfl hc5 (Nat.le_of_ble_eq_true rfl) ?_
                refine xj_ic1 dX0_shelf_84 ?_
                exact xj_ireturn dX0_shelf_85 rfl rfl ⟨by unfold o_shelf; rw [if_pos hB], by unfold s_shelf; rw [if_pos hB, tx]; refine hHl.set hx gfa.refl ?_; unfold slO; rw [if_neg hw0, if_neg hw1]; exact gset_self hc5, gfa.refl.set (by rcases sh_cases hx with rfl | rfl | rfl | rfl <;> decide)⟩
              · have hw1 : w = 1 := c65
                subst hw1
                obtain ⟨y, hy, hy31, rfl⟩ := inI_t (show inI m 4 = true from slv_sh hB)
                have ty : tn (nI y) = y := nI_clamp hy31
                have hy1 := hSh.2.1 y hy
                cases hq : sh y with
                | none =>
                  rw [hq] at hy1
                  have hy1 : G[35 + 2 * y]? = some (cO 5 [.null]) := hy1
                  refine xj_aload_n dX0_shelf_68 rfl rfl ?_
                  refine xj_get dX0_shelf_69 K0 34 (by decide) q506 hO rfl ?_
                  refine xj_iload_n dX0_shelf_72 rfl ?_
                  refine xj_aald dX0_shelf_73 hSh.1 rfl rfl rfl (by omega) (sh_ref hy) ?_
                  refine xj_getN dX0_shelf_74 K5 0 (by decide) q381 hy1 rfl ?_
                  refine xj_goto (tgt := 81) dX0_shelf_77 rfl ?_
                  refine xj_putN dX0_shelf_81 K5 0 (by decide) q381 rfl rfl hc5 (Nat.le_of_ble_eq_true rfl) ?_
                  refine xj_ic1 dX0_shelf_84 ?_
                  exact xj_ireturn dX0_shelf_85 rfl rfl ⟨by unfold o_shelf; rw [if_pos hB], by unfold s_shelf; rw [if_pos hB, tx]; refine hHl.set hx gfa.refl ?_; unfold slO; rw [if_neg (by decide), if_pos rfl, ty, hq]; exact gset_self hc5, gfa.refl.set (by rcases sh_cases hx with rfl | rfl | rfl | rfl <;> decide)⟩
                | some q =>
                  rw [hq] at hy1
                  obtain ⟨a1, a2, a3, a4⟩ := hy1
                  refine xj_aload_n dX0_shelf_68 rfl rfl ?_
                  refine xj_get dX0_shelf_69 K0 34 (by decide) q506 hO rfl ?_
                  refine xj_iload_n dX0_shelf_72 rfl ?_
                  refine xj_aald dX0_shelf_73 hSh.1 rfl rfl rfl (by omega) (sh_ref hy) ?_
                  refine xj_getN dX0_shelf_74 K5 0 (by decide) q381 a1 rfl ?_
                  refine xj_goto (tgt := 81) dX0_shelf_77 rfl ?_
                  refine xj_putN dX0_shelf_81 K5 0 (by decide) q381 rfl rfl hc5 (Nat.le_of_ble_eq_true rfl) ?_
                  refine xj_ic1 dX0_shelf_84 ?_
                  exact xj_ireturn dX0_shelf_85 rfl rfl ⟨by unfold o_shelf; rw [if_pos hB], by unfold s_shelf; rw [if_pos hB, tx]; refine hHl.set hx gfa.refl ?_; unfold slO; rw [if_neg (by decide), if_pos rfl, ty, hq]; exact ⟨sa y, q.2, gset_self hc5, a2, by rw [gset (by omega)]; exact a3, rfl, a4.1, a4.2.1⟩, gfa.refl.set (by rcases sh_cases hx with rfl | rfl | rfl | rfl <;> decide)⟩
            · have hw0 : w = 0 := c49
              subst hw0
              obtain ⟨y, hy, hy31, rfl⟩ := inI_t (show inI m mk.length = true from slv_mk hB)
              have ty : tn (nI y) = y := nI_clamp hy31
              refine xj_new (fs := [.int 0]) dX0_shelf_52 K24 q1628 q1629 q191 rfl (Nat.le_of_ble_eq_true rfl) (Nat.le_of_ble_eq_true rfl) ?_
              refine xj_dup dX0_shelf_55 rfl ?_
              refine xj_iload_n dX0_shelf_56 rfl ?_
              refine xj_cI dX0_shelf_57 q1630 kI_X24_init (A_ticket app_at) rfl rfl (Nat.le_of_ble_eq_true rfl) ⟨(Nat.le_of_ble_eq_true rfl), (Nat.le_of_ble_eq_true rfl)⟩ (Nat.le_of_ble_eq_true rfl) (Nat.le_of_ble_eq_true rfl) ?_
              rw [app_set]
              have hc6 : (G ++ [cO 24 [.int (nI y)]])[34 + 2 * x]? = some (cO 5 [v0]) := by rw [List.getElem?_append_left (List.getElem?_eq_some_iff.mp hc5).1]; exact hc5
              have hfin : cHl (s_shelf mk sh hl (nI x) 0 (nI y)) ((G ++ [cO 24 [.int (nI y)]]).set (34 + 2 * x) (cO 5 [.ref G.length])) := by
                unfold s_shelf
                rw [if_pos hB, tx]
                refine hHl.set hx gfa.refl.app ?_
                unfold slO
                rw [if_pos rfl, ty]
                exact ⟨G.length, gset_self hc6, h82, by rw [gset (by omega)]; exact app_at, by omega⟩
              have hff : gfa [34, 36, 38, 40] G ((G ++ [cO 24 [.int (nI y)]]).set (34 + 2 * x) (cO 5 [.ref G.length])) := (gfa.refl.app).set (by rcases sh_cases hx with rfl | rfl | rfl | rfl <;> decide)
              refine xj_goto (tgt := 81) dX0_shelf_60 rfl ?_
              refine xj_putN dX0_shelf_81 K5 0 (by decide) q381 rfl rfl hc6 (Nat.le_of_ble_eq_true rfl) ?_
              refine xj_ic1 dX0_shelf_84 ?_
              exact xj_ireturn dX0_shelf_85 rfl rfl ⟨by unfold o_shelf; rw [if_pos hB], hfin, hff⟩
          · have hB : slB mk k w m = false := by
              unfold slB
              first
              | (rw [b1_z c4]; rfl)
              | (rw [b1_z c13, Bool.false_and, Bool.and_false]; done)
              | (rw [b1_z c25, decide_eq_true c18]; simp)
              | (rw [b1_z c37, decide_eq_true c29]; simp)
            refine xj_icm1 dX0_shelf_40 ?_
            exact xj_ireturn dX0_shelf_41 rfl rfl ⟨by unfold o_shelf; rw [hB]; rfl, by unfold s_shelf; rw [hB]; exact hHl, gfa.refl⟩
      · refine xj_iload_n dX0_shelf_21 rfl ?_
        refine xj_cS dX0_shelf_22 q1468 kS_X0_isShelf A_isShelf rfl rfl (Nat.le_of_ble_eq_true rfl) ⟨(Nat.le_of_ble_eq_true rfl), (Nat.le_of_ble_eq_true rfl)⟩ (Nat.le_of_ble_eq_true rfl) (Nat.le_of_ble_eq_true rfl) ?_
        refine xj_if_eq (tgt := 40) dX0_shelf_25 rfl (fun c25 => ?_) (fun c25 => ?_)
        · have hB : slB mk k w m = false := by
            unfold slB
            first
            | (rw [b1_z c4]; rfl)
            | (rw [b1_z c13, Bool.false_and, Bool.and_false]; done)
            | (rw [b1_z c25, decide_eq_true c18]; simp)
            | (rw [b1_z c37, decide_eq_true c29]; simp)
          refine xj_icm1 dX0_shelf_40 ?_
          exact xj_ireturn dX0_shelf_41 rfl rfl ⟨by unfold o_shelf; rw [hB]; rfl, by unfold s_shelf; rw [hB]; exact hHl, gfa.refl⟩
        · refine xj_iload_n dX0_shelf_28 rfl ?_
          refine xj_if_ne (tgt := 42) dX0_shelf_29 rfl (fun c29 => ?_) (fun c29 => ?_)
          · have hB : slB mk k w m = true := by
              unfold slB
              rw [b1_nz c4, b1_nz c13]
              first
              | (rw [decide_eq_false c29, decide_eq_false c18]; rfl)
              | (rw [decide_eq_false c29, b1_nz c25, Bool.or_true]; rfl)
              | (rw [b1_nz c37, decide_eq_false c18, Bool.or_true]; rfl)
              | (rw [b1_nz c37, b1_nz c25, Bool.or_true, Bool.or_true]; rfl)
            obtain ⟨x, hx, hx31, rfl⟩ := inI_t (b1_nz c4)
            have tx : tn (nI x) = x := nI_clamp hx31
            obtain ⟨v0, hc5⟩ := (hHl.2 x hx).at
            refine xj_aload_n dX0_shelf_42 rfl rfl ?_
            refine xj_get dX0_shelf_43 K0 33 (by decide) q505 hO rfl ?_
            refine xj_iload_n dX0_shelf_46 rfl ?_
            refine xj_aald dX0_shelf_47 hHl.1 rfl rfl rfl (by omega) (sl_ref hx) ?_
            refine xj_iload_n dX0_shelf_48 rfl ?_
            refine xj_if_ne (tgt := 63) dX0_shelf_49 rfl (fun c49 => ?_) (fun c49 => ?_)
            · have hw0 : w ≠ 0 := c49
              refine xj_iload_n dX0_shelf_63 rfl ?_
              refine xj_ic1 dX0_shelf_64 ?_
              refine xj_icmp_ne (tgt := 80) dX0_shelf_65 rfl (fun c65 => ?_) (fun c65 => ?_)
              · have hw1 : w ≠ 1 := c65
                refine xj_null dX0_shelf_80 ?_
                refine xj_putN dX0_shelf_81 K5 0 (by decide) q381 rfl rfl hc5 (Nat.le_of_ble_eq_true rfl) ?_
                refine xj_ic1 dX0_shelf_84 ?_
                exact xj_ireturn dX0_shelf_85 rfl rfl ⟨by unfold o_shelf; rw [if_pos hB], by unfold s_shelf; rw [if_pos hB, tx]; refine hHl.set hx gfa.refl ?_; unfold slO; rw [if_neg hw0, if_neg hw1]; exact gset_self hc5, gfa.refl.set (by rcases sh_cases hx with rfl | rfl | rfl | rfl <;> decide)⟩
              · have hw1 : w = 1 := c65
                subst hw1
                obtain ⟨y, hy, hy31, rfl⟩ := inI_t (show inI m 4 = true from slv_sh hB)
                have ty : tn (nI y) = y := nI_clamp hy31
                have hy1 := hSh.2.1 y hy
                cases hq : sh y with
                | none =>
                  rw [hq] at hy1
                  have hy1 : G[35 + 2 * y]? = some (cO 5 [.null]) := hy1
                  refine xj_aload_n dX0_shelf_68 rfl rfl ?_
                  refine xj_get dX0_shelf_69 K0 34 (by decide) q506 hO rfl ?_
                  refine xj_iload_n dX0_shelf_72 rfl ?_
                  refine xj_aald dX0_shelf_73 hSh.1 rfl rfl rfl (by omega) (sh_ref hy) ?_
                  refine xj_getN dX0_shelf_74 K5 0 (by decide) q381 hy1 rfl ?_
                  refine xj_goto (tgt := 81) dX0_shelf_77 rfl ?_
                  refine xj_putN dX0_shelf_81 K5 0 (by decide) q381 rfl rfl hc5 (Nat.le_of_ble_eq_true rfl) ?_
                  refine xj_ic1 dX0_shelf_84 ?_
                  exact xj_ireturn dX0_shelf_85 rfl rfl ⟨by unfold o_shelf; rw [if_pos hB], by unfold s_shelf; rw [if_pos hB, tx]; refine hHl.set hx gfa.refl ?_; unfold slO; rw [if_neg (by decide), if_pos rfl, ty, hq]; exact gset_self hc5, gfa.refl.set (by rcases sh_cases hx with rfl | rfl | rfl | rfl <;> decide)⟩
                | some q =>
                  rw [hq] at hy1
                  obtain ⟨a1, a2, a3, a4⟩ := hy1
                  refine xj_aload_n dX0_shelf_68 rfl rfl ?_
                  refine xj_get dX0_shelf_69 K0 34 (by decide) q506 hO rfl ?_
                  refine xj_iload_n dX0_shelf_72 rfl ?_
                  refine xj_aald dX0_shelf_73 hSh.1 rfl rfl rfl (by omega) (sh_ref hy) ?_
                  refine xj_getN dX0_shelf_74 K5 0 (by decide) q381 a1 rfl ?_
                  refine xj_goto (tgt := 81) dX0_shelf_77 rfl ?_
                  refine xj_putN dX0_shelf_81 K5 0 (by decide) q381 rfl rfl hc5 (Nat.le_of_ble_eq_true rfl) ?_
                  refine xj_ic1 dX0_shelf_84 ?_
                  exact xj_ireturn dX0_shelf_85 rfl rfl ⟨by unfold o_shelf; rw [if_pos hB], by unfold s_shelf; rw [if_pos hB, tx]; refine hHl.set hx gfa.refl ?_; unfold slO; rw [if_neg (by decide), if_pos rfl, ty, hq]; exact ⟨sa y, q.2, gset_self hc5, a2, by rw [gset (by omega)]; exact a3, rfl, a4.1, a4.2.1⟩, gfa.refl.set (by rcases sh_cases hx with rfl | rfl | rfl | rfl <;> decide)⟩
            · have hw0 : w = 0 := c49
              subst hw0
              obtain ⟨y, hy, hy31, rfl⟩ := inI_t (show inI m mk.length = true from slv_mk hB)
              have ty : tn (nI y) = y := nI_clamp hy31
              refine xj_new (fs := [.int 0]) dX0_shelf_52 K24 q1628 q1629 q191 rfl (Nat.le_of_ble_eq_true rfl) (Nat.le_of_ble_eq_true rfl) ?_
              refine xj_dup dX0_shelf_55 rfl ?_
              refine xj_iload_n dX0_shelf_56 rfl ?_
              refine xj_cI dX0_shelf_57 q1630 kI_X24_init (A_ticket app_at) rfl rfl (Nat.le_of_ble_eq_true rfl) ⟨(Nat.le_of_ble_eq_true rfl), (Nat.le_of_ble_eq_true rfl)⟩ (Nat.le_of_ble_eq_true rfl) (Nat.le_of_ble_eq_true rfl) ?_
              rw [app_set]
              have hc6 : (G ++ [cO 24 [.int (nI y)]])[34 + 2 * x]? = some (cO 5 [v0]) := by rw [List.getElem?_append_left (List.getElem?_eq_some_iff.mp hc5).1]; exact hc5
              have hfin : cHl (s_shelf mk sh hl (nI x) 0 (nI y)) ((G ++ [cO 24 [.int (nI y)]]).set (34 + 2 * x) (cO 5 [.ref G.length])) := by
                unfold s_shelf
                rw [if_pos hB, tx]
                refine hHl.set hx gfa.refl.app ?_
                unfold slO
                rw [if_pos rfl, ty]
                exact ⟨G.length, gset_self hc6, h82, by rw [gset (by omega)]; exact app_at, by omega⟩
              have hff : gfa [34, 36, 38, 40] G ((G ++ [cO 24 [.int (nI y)]]).set (34 + 2 * x) (cO 5 [.ref G.length])) := (gfa.refl.app).set (by rcases sh_cases hx with rfl | rfl | rfl | rfl <;> decide)
              refine xj_goto (tgt := 81) dX0_shelf_60 rfl ?_
              refine xj_putN dX0_shelf_81 K5 0 (by decide) q381 rfl rfl hc6 (Nat.le_of_ble_eq_true rfl) ?_
              refine xj_ic1 dX0_shelf_84 ?_
              exact xj_ireturn dX0_shelf_85 rfl rfl ⟨by unfold o_shelf; rw [if_pos hB], hfin, hff⟩
          · refine xj_aload_n dX0_shelf_32 rfl rfl ?_
            refine xj_iload_n dX0_shelf_33 rfl ?_
            refine xj_cV dX0_shelf_34 q901 kV_X0_isMaker (A_isMaker hv hmk.1 hl6) hO rfl rfl rfl rfl (Nat.le_of_ble_eq_true rfl) ⟨(Nat.le_of_ble_eq_true rfl), (Nat.le_of_ble_eq_true rfl)⟩ (Nat.le_of_ble_eq_true rfl) (Nat.le_of_ble_eq_true rfl) ?_
            refine xj_if_ne (tgt := 42) dX0_shelf_37 rfl (fun c37 => ?_) (fun c37 => ?_)
            · have hB : slB mk k w m = true := by
                unfold slB
                rw [b1_nz c4, b1_nz c13]
                first
                | (rw [decide_eq_false c29, decide_eq_false c18]; rfl)
                | (rw [decide_eq_false c29, b1_nz c25, Bool.or_true]; rfl)
                | (rw [b1_nz c37, decide_eq_false c18, Bool.or_true]; rfl)
                | (rw [b1_nz c37, b1_nz c25, Bool.or_true, Bool.or_true]; rfl)
              obtain ⟨x, hx, hx31, rfl⟩ := inI_t (b1_nz c4)
              have tx : tn (nI x) = x := nI_clamp hx31
              obtain ⟨v0, hc5⟩ := (hHl.2 x hx).at
              refine xj_aload_n dX0_shelf_42 rfl rfl ?_
              refine xj_get dX0_shelf_43 K0 33 (by decide) q505 hO rfl ?_
              refine xj_iload_n dX0_shelf_46 rfl ?_
              refine xj_aald dX0_shelf_47 hHl.1 rfl rfl rfl (by omega) (sl_ref hx) ?_
              refine xj_iload_n dX0_shelf_48 rfl ?_
              refine xj_if_ne (tgt := 63) dX0_shelf_49 rfl (fun c49 => ?_) (fun c49 => ?_)
              · have hw0 : w ≠ 0 := c49
                refine xj_iload_n dX0_shelf_63 rfl ?_
                refine xj_ic1 dX0_shelf_64 ?_
                refine xj_icmp_ne (tgt := 80) dX0_shelf_65 rfl (fun c65 => ?_) (fun c65 => ?_)
                · have hw1 : w ≠ 1 := c65
                  refine xj_null dX0_shelf_80 ?_
                  refine xj_putN dX0_shelf_81 K5 0 (by decide) q381 rfl rfl hc5 (Nat.le_of_ble_eq_true rfl) ?_
                  refine xj_ic1 dX0_shelf_84 ?_
                  exact xj_ireturn dX0_shelf_85 rfl rfl ⟨by unfold o_shelf; rw [if_pos hB], by unfold s_shelf; rw [if_pos hB, tx]; refine hHl.set hx gfa.refl ?_; unfold slO; rw [if_neg hw0, if_neg hw1]; exact gset_self hc5, gfa.refl.set (by rcases sh_cases hx with rfl | rfl | rfl | rfl <;> decide)⟩
                · have hw1 : w = 1 := c65
                  subst hw1
                  obtain ⟨y, hy, hy31, rfl⟩ := inI_t (show inI m 4 = true from slv_sh hB)
                  have ty : tn (nI y) = y := nI_clamp hy31
                  have hy1 := hSh.2.1 y hy
                  cases hq : sh y with
                  | none =>
                    rw [hq] at hy1
                    have hy1 : G[35 + 2 * y]? = some (cO 5 [.null]) := hy1
                    refine xj_aload_n dX0_shelf_68 rfl rfl ?_
                    refine xj_get dX0_shelf_69 K0 34 (by decide) q506 hO rfl ?_
                    refine xj_iload_n dX0_shelf_72 rfl ?_
                    refine xj_aald dX0_shelf_73 hSh.1 rfl rfl rfl (by omega) (sh_ref hy) ?_
                    refine xj_getN dX0_shelf_74 K5 0 (by decide) q381 hy1 rfl ?_
                    refine xj_goto (tgt := 81) dX0_shelf_77 rfl ?_
                    refine xj_putN dX0_shelf_81 K5 0 (by decide) q381 rfl rfl hc5 (Nat.le_of_ble_eq_true rfl) ?_
                    refine xj_ic1 dX0_shelf_84 ?_
                    exact xj_ireturn dX0_shelf_85 rfl rfl ⟨by unfold o_shelf; rw [if_pos hB], by unfold s_shelf; rw [if_pos hB, tx]; refine hHl.set hx gfa.refl ?_; unfold slO; rw [if_neg (by decide), if_pos rfl, ty, hq]; exact gset_self hc5, gfa.refl.set (by rcases sh_cases hx with rfl | rfl | rfl | rfl <;> decide)⟩
                  | some q =>
                    rw [hq] at hy1
                    obtain ⟨a1, a2, a3, a4⟩ := hy1
                    refine xj_aload_n dX0_shelf_68 rfl rfl ?_
                    refine xj_get dX0_shelf_69 K0 34 (by decide) q506 hO rfl ?_
                    refine xj_iload_n dX0_shelf_72 rfl ?_
                    refine xj_aald dX0_shelf_73 hSh.1 rfl rfl rfl (by omega) (sh_ref hy) ?_
                    refine xj_getN dX0_shelf_74 K5 0 (by decide) q381 a1 rfl ?_
                    refine xj_goto (tgt := 81) dX0_shelf_77 rfl ?_
                    refine xj_putN dX0_shelf_81 K5 0 (by decide) q381 rfl rfl hc5 (Nat.le_of_ble_eq_true rfl) ?_
                    refine xj_ic1 dX0_shelf_84 ?_
                    exact xj_ireturn dX0_shelf_85 rfl rfl ⟨by unfold o_shelf; rw [if_pos hB], by unfold s_shelf; rw [if_pos hB, tx]; refine hHl.set hx gfa.refl ?_; unfold slO; rw [if_neg (by decide), if_pos rfl, ty, hq]; exact ⟨sa y, q.2, gset_self hc5, a2, by rw [gset (by omega)]; exact a3, rfl, a4.1, a4.2.1⟩, gfa.refl.set (by rcases sh_cases hx with rfl | rfl | rfl | rfl <;> decide)⟩
              · have hw0 : w = 0 := c49
                subst hw0
                obtain ⟨y, hy, hy31, rfl⟩ := inI_t (show inI m mk.length = true from slv_mk hB)
                have ty : tn (nI y) = y := nI_clamp hy31
                refine xj_new (fs := [.int 0]) dX0_shelf_52 K24 q1628 q1629 q191 rfl (Nat.le_of_ble_eq_true rfl) (Nat.le_of_ble_eq_true rfl) ?_
                refine xj_dup dX0_shelf_55 rfl ?_
                refine xj_iload_n dX0_shelf_56 rfl ?_
                refine xj_cI dX0_shelf_57 q1630 kI_X24_init (A_ticket app_at) rfl rfl (Nat.le_of_ble_eq_true rfl) ⟨(Nat.le_of_ble_eq_true rfl), (Nat.le_of_ble_eq_true rfl)⟩ (Nat.le_of_ble_eq_true rfl) (Nat.le_of_ble_eq_true rfl) ?_
                rw [app_set]
                have hc6 : (G ++ [cO 24 [.int (nI y)]])[34 + 2 * x]? = some (cO 5 [v0]) := by rw [List.getElem?_append_left (List.getElem?_eq_some_iff.mp hc5).1]; exact hc5
                have hfin : cHl (s_shelf mk sh hl (nI x) 0 (nI y)) ((G ++ [cO 24 [.int (nI y)]]).set (34 + 2 * x) (cO 5 [.ref G.length])) := by
                  unfold s_shelf
                  rw [if_pos hB, tx]
                  refine hHl.set hx gfa.refl.app ?_
                  unfold slO
                  rw [if_pos rfl, ty]
                  exact ⟨G.length, gset_self hc6, h82, by rw [gset (by omega)]; exact app_at, by omega⟩
                have hff : gfa [34, 36, 38, 40] G ((G ++ [cO 24 [.int (nI y)]]).set (34 + 2 * x) (cO 5 [.ref G.length])) := (gfa.refl.app).set (by rcases sh_cases hx with rfl | rfl | rfl | rfl <;> decide)
                refine xj_goto (tgt := 81) dX0_shelf_60 rfl ?_
                refine xj_putN dX0_shelf_81 K5 0 (by decide) q381 rfl rfl hc6 (Nat.le_of_ble_eq_true rfl) ?_
                refine xj_ic1 dX0_shelf_84 ?_
                exact xj_ireturn dX0_shelf_85 rfl rfl ⟨by unfold o_shelf; rw [if_pos hB], hfin, hff⟩
            · have hB : slB mk k w m = false := by
                unfold slB
                first
                | (rw [b1_z c4]; rfl)
                | (rw [b1_z c13, Bool.false_and, Bool.and_false]; done)
                | (rw [b1_z c25, decide_eq_true c18]; simp)
                | (rw [b1_z c37, decide_eq_true c29]; simp)
              refine xj_icm1 dX0_shelf_40 ?_
              exact xj_ireturn dX0_shelf_41 rfl rfl ⟨by unfold o_shelf; rw [hB]; rfl, by unfold s_shelf; rw [hB]; exact hHl, gfa.refl⟩
theorem A_makerOf {y a : Nat} {PL : List Value}  (hv : cV d e n G) (h10 : G[10]? = some (cR 7 PL)) (hP : PL[y]? = some (.ref a)) (hy : y < 6) : xMet E yX0_makerOf cX0_makerOf 2 (some (FieldType.object "CoarserOrders$Plain")) 0 0 0 [.ref 0, .int (nI y)] G (xrv (some (.ref a)) G) := by
  obtain ⟨hO, hN, hn0, h1n, hn6⟩ := id hv
  refine xMet.of (lv := [some (.ref 0), some (.int (nI y))]) rfl rfl (Nat.le_of_ble_eq_true rfl) ?_
  refine xj_aload_n dX0_makerOf_0 rfl rfl ?_
  refine xj_get dX0_makerOf_1 K0 6 (by decide) q475 hO rfl ?_
  refine xj_iload_n dX0_makerOf_4 rfl ?_
  refine xj_aald dX0_makerOf_5 h10 rfl rfl rfl (by omega) hP ?_
  exact xj_areturn dX0_makerOf_6 rfl (Or.inl ⟨_, rfl⟩) rfl ⟨rfl, rfl⟩
theorem A_held {x : Nat} {hl : Nat → Option (Nat ⊕ (Nat × Nat))} {mk : List (Nat × Nat)}  (hv : cV d e n G) (hmk : cMk mk e G) (hHl : cHl hl G) (hx : x < 4) : xMet E yX0_held cX0_held 4 (some (FieldType.object "java/lang/Object")) 2 0 0 [.ref 0, .int (nI x)] G (xre (fun v_ G' => G' = G ∧ heldV mk (hl x) G v_)) := by
  obtain ⟨hO, hN, hn0, h1n, hn6⟩ := id hv
  have hl6 : mk.length ≤ 6 := by obtain ⟨-, ⟨K, M, -, -, q⟩, -⟩ := id hmk; exact q.2.2.1
  have hx1 := hHl.2 x hx
  cases hq : hl x with
  | none =>
    rw [hq] at hx1
    have hx1 : G[34 + 2 * x]? = some (cO 5 [.null]) := hx1
    refine xMet.of (lv := [some (.ref 0), some (.int (nI x)), none, none]) rfl rfl (Nat.le_of_ble_eq_true rfl) ?_
    refine xj_aload_n dX0_held_0 rfl rfl ?_
    refine xj_get dX0_held_1 K0 33 (by decide) q505 hO rfl ?_
    refine xj_iload_n dX0_held_4 rfl ?_
    refine xj_aald dX0_held_5 hHl.1 rfl rfl rfl (by omega) (sl_ref hx) ?_
    refine xj_getN dX0_held_6 K5 0 (by decide) q381 hx1 rfl ?_
    refine xj_astn2 dX0_held_9 rfl rfl ?_
    refine xj_aload_n dX0_held_10 rfl rfl ?_
    refine xj_instN dX0_held_11 ?_
    refine xj_if_ne (tgt := 19) dX0_held_14 rfl (fun c14 => absurd rfl c14) (fun c14 => ?_)
    refine xj_aload_n dX0_held_17 rfl rfl ?_
    exact xj_areturn dX0_held_18 rfl (Or.inl ⟨_, rfl⟩) rfl ⟨rfl, (rfl : (some Value.null : Option Value) = some .null)⟩
  | some o =>
    cases o with
    | inl y =>
      rw [hq] at hx1
      obtain ⟨a, a1, a2, a3, a4⟩ := hx1
      by_cases hm : y < mk.length
      · obtain ⟨-, -, PL, h10, -, hPL⟩ := id hmk
        obtain ⟨b, p1, p2, p3⟩ := hPL y _ (mkAt_some hm)
        refine xMet.of (lv := [some (.ref 0), some (.int (nI x)), none, none]) rfl rfl (Nat.le_of_ble_eq_true rfl) ?_
        refine xj_aload_n dX0_held_0 rfl rfl ?_
        refine xj_get dX0_held_1 K0 33 (by decide) q505 hO rfl ?_
        refine xj_iload_n dX0_held_4 rfl ?_
        refine xj_aald dX0_held_5 hHl.1 rfl rfl rfl (by omega) (sl_ref hx) ?_
        refine xj_getN dX0_held_6 K5 0 (by decide) q381 a1 rfl ?_
        refine xj_astn2 dX0_held_9 rfl rfl ?_
        refine xj_aload_n dX0_held_10 rfl rfl ?_
        refine xj_instE dX0_held_11 q1628 a3 (xnm_O rfl) ?_
        refine xj_if_ne (tgt := 19) dX0_held_14 rfl (fun c14 => ?_) (fun c14 => absurd c14 (by decide))
        refine xj_aload_n dX0_held_19 rfl rfl ?_
        refine xj_castE dX0_held_20 q1628 a3 (xnm_O rfl) ?_
        refine xj_astn3 dX0_held_23 rfl rfl ?_
        refine xj_aload_n dX0_held_24 rfl rfl ?_
        refine xj_aload_n dX0_held_25 rfl rfl ?_
        refine xj_getN dX0_held_26 K24 0 (by decide) q1635 a3 rfl ?_
        refine xj_cV dX0_held_29 q901 kV_X0_isMaker (A_isMaker hv hmk.1 hl6) hO rfl rfl rfl rfl (Nat.le_of_ble_eq_true rfl) ⟨(Nat.le_of_ble_eq_true rfl), (Nat.le_of_ble_eq_true rfl)⟩ (Nat.le_of_ble_eq_true rfl) (Nat.le_of_ble_eq_true rfl) ?_
        rw [inI_nI hm (by omega)]
        refine xj_if_eq (tgt := 46) dX0_held_32 rfl (fun c32 => absurd c32 (by decide)) (fun c32 => ?_)
        refine xj_aload_n dX0_held_35 rfl rfl ?_
        refine xj_aload_n dX0_held_36 rfl rfl ?_
        refine xj_getN dX0_held_37 K24 0 (by decide) q1635 a3 rfl ?_
        refine xj_cV dX0_held_40 q1647 kV_X0_makerOf (A_makerOf hv h10 p1 (by omega)) hO rfl rfl rfl rfl (Nat.le_of_ble_eq_true rfl) ⟨(Nat.le_of_ble_eq_true rfl), (Nat.le_of_ble_eq_true rfl)⟩ (Nat.le_of_ble_eq_true rfl) (Nat.le_of_ble_eq_true rfl) ?_
        refine xj_goto (tgt := 47) dX0_held_43 rfl ?_
        exact xj_areturn dX0_held_47 rfl (Or.inl ⟨_, rfl⟩) rfl ⟨rfl, by unfold heldV; rw [show hvl mk (some (.inl y)) = some (.inl y) from if_pos hm]; exact ⟨hm, b, rfl, p2, p3⟩⟩
      · refine xMet.of (lv := [some (.ref 0), some (.int (nI x)), none, none]) rfl rfl (Nat.le_of_ble_eq_true rfl) ?_
        refine xj_aload_n dX0_held_0 rfl rfl ?_
        refine xj_get dX0_held_1 K0 33 (by decide) q505 hO rfl ?_
        refine xj_iload_n dX0_held_4 rfl ?_
        refine xj_aald dX0_held_5 hHl.1 rfl rfl rfl (by omega) (sl_ref hx) ?_
        refine xj_getN dX0_held_6 K5 0 (by decide) q381 a1 rfl ?_
        refine xj_astn2 dX0_held_9 rfl rfl ?_
        refine xj_aload_n dX0_held_10 rfl rfl ?_
        refine xj_instE dX0_held_11 q1628 a3 (xnm_O rfl) ?_
        refine xj_if_ne (tgt := 19) dX0_held_14 rfl (fun c14 => ?_) (fun c14 => absurd c14 (by decide))
        refine xj_aload_n dX0_held_19 rfl rfl ?_
        refine xj_castE dX0_held_20 q1628 a3 (xnm_O rfl) ?_
        refine xj_astn3 dX0_held_23 rfl rfl ?_
        refine xj_aload_n dX0_held_24 rfl rfl ?_
        refine xj_aload_n dX0_held_25 rfl rfl ?_
        refine xj_getN dX0_held_26 K24 0 (by decide) q1635 a3 rfl ?_
        refine xj_cV dX0_held_29 q901 kV_X0_isMaker (A_isMaker hv hmk.1 hl6) hO rfl rfl rfl rfl (Nat.le_of_ble_eq_true rfl) ⟨(Nat.le_of_ble_eq_true rfl), (Nat.le_of_ble_eq_true rfl)⟩ (Nat.le_of_ble_eq_true rfl) (Nat.le_of_ble_eq_true rfl) ?_
        rw [show inI (nI y) mk.length = false from inI_f hm (by omega)]
        refine xj_if_eq (tgt := 46) dX0_held_32 rfl (fun c32 => ?_) (fun c32 => absurd rfl c32)
        refine xj_null dX0_held_46 ?_
        exact xj_areturn dX0_held_47 rfl (Or.inl ⟨_, rfl⟩) rfl ⟨rfl, by unfold heldV; rw [show hvl mk (some (.inl y)) = none from if_neg hm]⟩
    | inr q =>
      rw [hq] at hx1
      obtain ⟨a, xs, a1, a2, a3, a4, a5, a6⟩ := hx1
      refine xMet.of (lv := [some (.ref 0), some (.int (nI x)), none, none]) rfl rfl (Nat.le_of_ble_eq_true rfl) ?_
      refine xj_aload_n dX0_held_0 rfl rfl ?_
      refine xj_get dX0_held_1 K0 33 (by decide) q505 hO rfl ?_
      refine xj_iload_n dX0_held_4 rfl ?_
      refine xj_aald dX0_held_5 hHl.1 rfl rfl rfl (by omega) (sl_ref hx) ?_
      refine xj_getN dX0_held_6 K5 0 (by decide) q381 a1 rfl ?_
      refine xj_astn2 dX0_held_9 rfl rfl ?_
      refine xj_aload_n dX0_held_10 rfl rfl ?_
      refine xj_instNo dX0_held_11 q1628 a3 (xnm_sh a5) (nc_aT a5) ?_
      refine xj_if_ne (tgt := 19) dX0_held_14 rfl (fun c14 => absurd rfl c14) (fun c14 => ?_)
      refine xj_aload_n dX0_held_17 rfl rfl ?_
      exact xj_areturn dX0_held_18 rfl (Or.inl ⟨_, rfl⟩) rfl ⟨rfl, ⟨a, xs, rfl, a3, a4, a5, a6⟩⟩
theorem A_takenForN {k : Nat}  (hk : k < 6) : xMet E yX0_takenFor cX0_takenFor 2 (some (FieldType.object "CoarserOrders$Plain")) 0 3 898 [.null, .int (nI k)] G (xrv (some .null) G) := by
  refine xMet.of (lv := [some (.null), some (.int (nI k))]) rfl rfl (Nat.le_of_ble_eq_true rfl) ?_
  refine xj_iload_n dX0_takenFor_0 rfl ?_
  refine xj_tabs (tg := [36, 41, 46, 51, 56]) (tgt := 61) dX0_takenFor_1 rfl rfl rfl ⟨fun c1 => ?_, fun c1 => ?_, fun c1 => ?_, fun c1 => ?_, fun c1 => ?_, trivial⟩ (fun c1 => ?_)
  · obtain rfl : k = 0 := knd_k k hk 0 (by decide) c1
    refine xj_aload_n dX0_takenFor_36 rfl rfl ?_
    refine xj_castN dX0_takenFor_37 ?_
    exact xj_areturn dX0_takenFor_40 rfl (Or.inl ⟨_, rfl⟩) rfl ⟨rfl, rfl⟩
  · obtain rfl : k = 1 := knd_k k hk 1 (by decide) c1
    refine xj_aload_n dX0_takenFor_41 rfl rfl ?_
    refine xj_castN dX0_takenFor_42 ?_
    exact xj_areturn dX0_takenFor_45 rfl (Or.inl ⟨_, rfl⟩) rfl ⟨rfl, rfl⟩
  · obtain rfl : k = 2 := knd_k k hk 2 (by decide) c1
    refine xj_aload_n dX0_takenFor_46 rfl rfl ?_
    refine xj_castN dX0_takenFor_47 ?_
    exact xj_areturn dX0_takenFor_50 rfl (Or.inl ⟨_, rfl⟩) rfl ⟨rfl, rfl⟩
  · obtain rfl : k = 3 := knd_k k hk 3 (by decide) c1
    refine xj_aload_n dX0_takenFor_51 rfl rfl ?_
    refine xj_castN dX0_takenFor_52 ?_
    exact xj_areturn dX0_takenFor_55 rfl (Or.inl ⟨_, rfl⟩) rfl ⟨rfl, rfl⟩
  · obtain rfl : k = 4 := knd_k k hk 4 (by decide) c1
    refine xj_aload_n dX0_takenFor_56 rfl rfl ?_
    refine xj_castN dX0_takenFor_57 ?_
    exact xj_areturn dX0_takenFor_60 rfl (Or.inl ⟨_, rfl⟩) rfl ⟨rfl, rfl⟩
  · obtain rfl : k = 5 := knd_5 k hk c1
    refine xj_aload_n dX0_takenFor_61 rfl rfl ?_
    refine xj_castN dX0_takenFor_62 ?_
    exact xj_areturn dX0_takenFor_65 rfl (Or.inl ⟨_, rfl⟩) rfl ⟨rfl, rfl⟩
theorem A_takenForX {k a : Nat} {x : xC} {C : String}  (hmod : xMod E) (hk : k < 6) (hx : G[a]? = some x) (hn : xnm C x) (hc : xnc C (knm k)) (hp : xcp C (knm k) = true) : xMet E yX0_takenFor cX0_takenFor 2 (some (FieldType.object "CoarserOrders$Plain")) 0 3 898 [.ref a, .int (nI k)] G (xth "java/lang/ClassCastException" none (fun G' => ∃ j, G' = G ++ List.replicate j cX)) := by
  refine xMet.of (lv := [some (.ref a), some (.int (nI k))]) rfl rfl (Nat.le_of_ble_eq_true rfl) ?_
  refine xj_iload_n dX0_takenFor_0 rfl ?_
  refine xj_tabs (tg := [36, 41, 46, 51, 56]) (tgt := 61) dX0_takenFor_1 rfl rfl rfl ⟨fun c1 => ?_, fun c1 => ?_, fun c1 => ?_, fun c1 => ?_, fun c1 => ?_, trivial⟩ (fun c1 => ?_)
  · obtain rfl : k = 0 := knd_k k hk 0 (by decide) c1
    refine xj_aload_n dX0_takenFor_36 rfl rfl ?_
    exact xj_castNo hmod dX0_takenFor_37 q346 hx hn hc hp (xrm_R (Nat.le_of_ble_eq_true rfl) (Nat.le_of_ble_eq_true rfl) (Nat.le_of_ble_eq_true rfl)) (fun j => xjT_out (fun _ hx => by cases hx) ⟨rfl, j, rfl⟩)
  · obtain rfl : k = 1 := knd_k k hk 1 (by decide) c1
    refine xj_aload_n dX0_takenFor_41 rfl rfl ?_
    exact xj_castNo hmod dX0_takenFor_42 q840 hx hn hc hp (xrm_R (Nat.le_of_ble_eq_true rfl) (Nat.le_of_ble_eq_true rfl) (Nat.le_of_ble_eq_true rfl)) (fun j => xjT_out (fun _ hx => by cases hx) ⟨rfl, j, rfl⟩)
  · obtain rfl : k = 2 := knd_k k hk 2 (by decide) c1
    refine xj_aload_n dX0_takenFor_46 rfl rfl ?_
    exact xj_castNo hmod dX0_takenFor_47 q856 hx hn hc hp (xrm_R (Nat.le_of_ble_eq_true rfl) (Nat.le_of_ble_eq_true rfl) (Nat.le_of_ble_eq_true rfl)) (fun j => xjT_out (fun _ hx => by cases hx) ⟨rfl, j, rfl⟩)
  · obtain rfl : k = 3 := knd_k k hk 3 (by decide) c1
    refine xj_aload_n dX0_takenFor_51 rfl rfl ?_
    exact xj_castNo hmod dX0_takenFor_52 q865 hx hn hc hp (xrm_R (Nat.le_of_ble_eq_true rfl) (Nat.le_of_ble_eq_true rfl) (Nat.le_of_ble_eq_true rfl)) (fun j => xjT_out (fun _ hx => by cases hx) ⟨rfl, j, rfl⟩)
  · obtain rfl : k = 4 := knd_k k hk 4 (by decide) c1
    refine xj_aload_n dX0_takenFor_56 rfl rfl ?_
    exact xj_castNo hmod dX0_takenFor_57 q874 hx hn hc hp (xrm_R (Nat.le_of_ble_eq_true rfl) (Nat.le_of_ble_eq_true rfl) (Nat.le_of_ble_eq_true rfl)) (fun j => xjT_out (fun _ hx => by cases hx) ⟨rfl, j, rfl⟩)
  · obtain rfl : k = 5 := knd_5 k hk c1
    refine xj_aload_n dX0_takenFor_61 rfl rfl ?_
    exact xj_castNo hmod dX0_takenFor_62 q883 hx hn hc hp (xrm_R (Nat.le_of_ble_eq_true rfl) (Nat.le_of_ble_eq_true rfl) (Nat.le_of_ble_eq_true rfl)) (fun j => xjT_out (fun _ hx => by cases hx) ⟨rfl, j, rfl⟩)
theorem A_takenForY {k a : Nat} {x : xC} {C : String}  (hk : k < 6) (hx : G[a]? = some x) (hn : xnm C x) (hc : C = knm k ∨ Cond.castable C (knm k) ∈ lw_tbl) : xMet E yX0_takenFor cX0_takenFor 2 (some (FieldType.object "CoarserOrders$Plain")) 0 3 898 [.ref a, .int (nI k)] G (xrv (some (.ref a)) G) := by
  refine xMet.of (lv := [some (.ref a), some (.int (nI k))]) rfl rfl (Nat.le_of_ble_eq_true rfl) ?_
  refine xj_iload_n dX0_takenFor_0 rfl ?_
  refine xj_tabs (tg := [36, 41, 46, 51, 56]) (tgt := 61) dX0_takenFor_1 rfl rfl rfl ⟨fun c1 => ?_, fun c1 => ?_, fun c1 => ?_, fun c1 => ?_, fun c1 => ?_, trivial⟩ (fun c1 => ?_)
  · obtain rfl : k = 0 := knd_k k hk 0 (by decide) c1
    refine xj_aload_n dX0_takenFor_36 rfl rfl ?_
    rcases hc with hc | hc
    · rw [hc] at hn
      refine xj_castE dX0_takenFor_37 q346 hx hn ?_
      exact xj_areturn dX0_takenFor_40 rfl (Or.inl ⟨_, rfl⟩) rfl ⟨rfl, rfl⟩
    · refine xj_castY dX0_takenFor_37 q346 hx hn hc ?_
      exact xj_areturn dX0_takenFor_40 rfl (Or.inl ⟨_, rfl⟩) rfl ⟨rfl, rfl⟩
  · obtain rfl : k = 1 := knd_k k hk 1 (by decide) c1
    refine xj_aload_n dX0_takenFor_41 rfl rfl ?_
    rcases hc with hc | hc
    · rw [hc] at hn
      refine xj_castE dX0_takenFor_42 q840 hx hn ?_
      exact xj_areturn dX0_takenFor_45 rfl (Or.inl ⟨_, rfl⟩) rfl ⟨rfl, rfl⟩
    · refine xj_castY dX0_takenFor_42 q840 hx hn hc ?_
      exact xj_areturn dX0_takenFor_45 rfl (Or.inl ⟨_, rfl⟩) rfl ⟨rfl, rfl⟩
  · obtain rfl : k = 2 := knd_k k hk 2 (by decide) c1
    refine xj_aload_n dX0_takenFor_46 rfl rfl ?_
    rcases hc with hc | hc
    · rw [hc] at hn
      refine xj_castE dX0_takenFor_47 q856 hx hn ?_
      exact xj_areturn dX0_takenFor_50 rfl (Or.inl ⟨_, rfl⟩) rfl ⟨rfl, rfl⟩
    · refine xj_castY dX0_takenFor_47 q856 hx hn hc ?_
      exact xj_areturn dX0_takenFor_50 rfl (Or.inl ⟨_, rfl⟩) rfl ⟨rfl, rfl⟩
  · obtain rfl : k = 3 := knd_k k hk 3 (by decide) c1
    refine xj_aload_n dX0_takenFor_51 rfl rfl ?_
    rcases hc with hc | hc
    · rw [hc] at hn
      refine xj_castE dX0_takenFor_52 q865 hx hn ?_
      exact xj_areturn dX0_takenFor_55 rfl (Or.inl ⟨_, rfl⟩) rfl ⟨rfl, rfl⟩
    · refine xj_castY dX0_takenFor_52 q865 hx hn hc ?_
      exact xj_areturn dX0_takenFor_55 rfl (Or.inl ⟨_, rfl⟩) rfl ⟨rfl, rfl⟩
  · obtain rfl : k = 4 := knd_k k hk 4 (by decide) c1
    refine xj_aload_n dX0_takenFor_56 rfl rfl ?_
    rcases hc with hc | hc
    · rw [hc] at hn
      refine xj_castE dX0_takenFor_57 q874 hx hn ?_
      exact xj_areturn dX0_takenFor_60 rfl (Or.inl ⟨_, rfl⟩) rfl ⟨rfl, rfl⟩
    · refine xj_castY dX0_takenFor_57 q874 hx hn hc ?_
      exact xj_areturn dX0_takenFor_60 rfl (Or.inl ⟨_, rfl⟩) rfl ⟨rfl, rfl⟩
  · obtain rfl : k = 5 := knd_5 k hk c1
    refine xj_aload_n dX0_takenFor_61 rfl rfl ?_
    rcases hc with hc | hc
    · rw [hc] at hn
      refine xj_castE dX0_takenFor_62 q883 hx hn ?_
      exact xj_areturn dX0_takenFor_65 rfl (Or.inl ⟨_, rfl⟩) rfl ⟨rfl, rfl⟩
    · refine xj_castY dX0_takenFor_62 q883 hx hn hc ?_
      exact xj_areturn dX0_takenFor_65 rfl (Or.inl ⟨_, rfl⟩) rfl ⟨rfl, rfl⟩
theorem A_takenAsNs {s : Nat}  (hs : s < 4) : xMet E yX0_takenAs cX0_takenAs 2 (some FieldType.int) 1 6 906 [.null, .int (nI (10 + s))] G (xth "java/lang/NullPointerException" none (fun G' => ∃ j, G' = G ++ List.replicate j cX)) := by
  refine xMet.of (lv := [some (.null), some (.int (nI (10 + s)))]) rfl rfl (Nat.le_of_ble_eq_true rfl) ?_
  refine xj_iload_n dX0_takenAs_0 rfl ?_
  refine xj_bipush (v := 10) dX0_takenAs_1 rfl ?_
  refine xj_icmp_lt (tgt := 17) dX0_takenAs_3 rfl (fun c3 => absurd c3 (nI_nlt10 hs)) (fun c3 => ?_)
  refine xj_aload_n dX0_takenAs_6 rfl rfl ?_
  refine xj_iload_n dX0_takenAs_7 rfl ?_
  refine xj_bipush (v := 10) dX0_takenAs_8 rfl ?_
  refine xj_isub dX0_takenAs_10 ?_
  rw [sub10 s hs]
  refine xj_tS dX0_takenAs_11 q1594 kS_X0_manyOf (A_manyOfN hs) rfl rfl (Nat.le_of_ble_eq_true rfl) ⟨(Nat.le_of_ble_eq_true rfl), (Nat.le_of_ble_eq_true rfl)⟩ (Nat.le_of_ble_eq_true rfl) (Nat.le_of_ble_eq_true rfl) ?_
  rintro _ ⟨j, rfl⟩
  exact xjT_out (fun _ hx => by cases hx) ⟨rfl, j, rfl⟩
theorem A_takenAsNk {k : Nat}  (hk : k < 6) : xMet E yX0_takenAs cX0_takenAs 2 (some FieldType.int) 1 6 906 [.null, .int (nI k)] G (xth "java/lang/NullPointerException" none (fun G' => ∃ j, G' = G ++ List.replicate j cX)) := by
  refine xMet.of (lv := [some (.null), some (.int (nI k))]) rfl rfl (Nat.le_of_ble_eq_true rfl) ?_
  refine xj_iload_n dX0_takenAs_0 rfl ?_
  refine xj_bipush (v := 10) dX0_takenAs_1 rfl ?_
  refine xj_icmp_lt (tgt := 17) dX0_takenAs_3 rfl (fun c3 => ?_) (fun c3 => absurd (nI_lt10 hk) c3)
  refine xj_aload_n dX0_takenAs_17 rfl rfl ?_
  refine xj_iload_n dX0_takenAs_18 rfl ?_
  refine xj_cS dX0_takenAs_19 q1654 kS_X0_takenFor (A_takenForN hk) rfl rfl (Nat.le_of_ble_eq_true rfl) ⟨(Nat.le_of_ble_eq_true rfl), (Nat.le_of_ble_eq_true rfl)⟩ (Nat.le_of_ble_eq_true rfl) (Nat.le_of_ble_eq_true rfl) ?_
  exact xj_invN (As := []) (rest := []) dX0_takenAs_22 q1657 q1658 q1666 q1659 (by decide) (by decide +kernel) rfl rfl (xrm_R (Nat.le_of_ble_eq_true rfl) (Nat.le_of_ble_eq_true rfl) (Nat.le_of_ble_eq_true rfl)) (fun j => xjT_out (fun _ hx => by cases hx) ⟨rfl, j, rfl⟩)
theorem A_takenAsXs {s a : Nat} {x : xC} {C : String}  (hmod : xMod E) (hs : s < 4) (hx : G[a]? = some x) (hn : xnm C x) (hc : xnc C (snm s)) (hp : xcp C (snm s) = true) : xMet E yX0_takenAs cX0_takenAs 2 (some FieldType.int) 1 6 906 [.ref a, .int (nI (10 + s))] G (xth "java/lang/ClassCastException" none (fun G' => ∃ j, G' = G ++ List.replicate j cX)) := by
  refine xMet.of (lv := [some (.ref a), some (.int (nI (10 + s)))]) rfl rfl (Nat.le_of_ble_eq_true rfl) ?_
  refine xj_iload_n dX0_takenAs_0 rfl ?_
  refine xj_bipush (v := 10) dX0_takenAs_1 rfl ?_
  refine xj_icmp_lt (tgt := 17) dX0_takenAs_3 rfl (fun c3 => absurd c3 (nI_nlt10 hs)) (fun c3 => ?_)
  refine xj_aload_n dX0_takenAs_6 rfl rfl ?_
  refine xj_iload_n dX0_takenAs_7 rfl ?_
  refine xj_bipush (v := 10) dX0_takenAs_8 rfl ?_
  refine xj_isub dX0_takenAs_10 ?_
  rw [sub10 s hs]
  refine xj_tS dX0_takenAs_11 q1594 kS_X0_manyOf (A_manyOfX hmod hs hx hn hc hp) rfl rfl (Nat.le_of_ble_eq_true rfl) ⟨(Nat.le_of_ble_eq_true rfl), (Nat.le_of_ble_eq_true rfl)⟩ (Nat.le_of_ble_eq_true rfl) (Nat.le_of_ble_eq_true rfl) ?_
  rintro _ ⟨j, rfl⟩
  exact xjT_out (fun _ hx => by cases hx) ⟨rfl, j, rfl⟩
theorem A_takenAsXk {k a : Nat} {x : xC} {C : String}  (hmod : xMod E) (hk : k < 6) (hx : G[a]? = some x) (hn : xnm C x) (hc : xnc C (knm k)) (hp : xcp C (knm k) = true) : xMet E yX0_takenAs cX0_takenAs 2 (some FieldType.int) 1 6 906 [.ref a, .int (nI k)] G (xth "java/lang/ClassCastException" none (fun G' => ∃ j, G' = G ++ List.replicate j cX)) := by
  refine xMet.of (lv := [some (.ref a), some (.int (nI k))]) rfl rfl (Nat.le_of_ble_eq_true rfl) ?_
  refine xj_iload_n dX0_takenAs_0 rfl ?_
  refine xj_bipush (v := 10) dX0_takenAs_1 rfl ?_
  refine xj_icmp_lt (tgt := 17) dX0_takenAs_3 rfl (fun c3 => ?_) (fun c3 => absurd (nI_lt10 hk) c3)
  refine xj_aload_n dX0_takenAs_17 rfl rfl ?_
  refine xj_iload_n dX0_takenAs_18 rfl ?_
  refine xj_tS dX0_takenAs_19 q1654 kS_X0_takenFor (A_takenForX hmod hk hx hn hc hp) rfl rfl (Nat.le_of_ble_eq_true rfl) ⟨(Nat.le_of_ble_eq_true rfl), (Nat.le_of_ble_eq_true rfl)⟩ (Nat.le_of_ble_eq_true rfl) (Nat.le_of_ble_eq_true rfl) ?_
  rintro _ ⟨j, rfl⟩
  exact xjT_out (fun _ hx => by cases hx) ⟨rfl, j, rfl⟩
theorem A_takenAsYs {s a : Nat} {xs : List Int64}  (hs : s < 4) (hC : G[a]? = some (shC s xs)) : xMet E yX0_takenAs cX0_takenAs 2 (some FieldType.int) 1 6 906 [.ref a, .int (nI (10 + s))] G (xrv (some (.int (nI xs.length))) G) := by
  refine xMet.of (lv := [some (.ref a), some (.int (nI (10 + s)))]) rfl rfl (Nat.le_of_ble_eq_true rfl) ?_
  refine xj_iload_n dX0_takenAs_0 rfl ?_
  refine xj_bipush (v := 10) dX0_takenAs_1 rfl ?_
  refine xj_icmp_lt (tgt := 17) dX0_takenAs_3 rfl (fun c3 => absurd c3 (nI_nlt10 hs)) (fun c3 => ?_)
  refine xj_aload_n dX0_takenAs_6 rfl rfl ?_
  refine xj_iload_n dX0_takenAs_7 rfl ?_
  refine xj_bipush (v := 10) dX0_takenAs_8 rfl ?_
  refine xj_isub dX0_takenAs_10 ?_
  rw [sub10 s hs]
  refine xj_cS dX0_takenAs_11 q1594 kS_X0_manyOf (A_manyOfY hs hC) rfl rfl (Nat.le_of_ble_eq_true rfl) ⟨(Nat.le_of_ble_eq_true rfl), (Nat.le_of_ble_eq_true rfl)⟩ (Nat.le_of_ble_eq_true rfl) (Nat.le_of_ble_eq_true rfl) ?_
  refine xj_goto (tgt := 25) dX0_takenAs_14 rfl ?_
  exact xj_ireturn dX0_takenAs_25 rfl rfl ⟨rfl, rfl⟩
theorem A_takenAsYk {k a kd mk : Nat} {nu : Int32}  (hk : k < 6) (hkd : kd < 6) (hP : G[a]? = some (cO (8 + kd) [.int nu, .int (nI mk)])) (hu : undB (nI kd) (nI k) = true) : xMet E yX0_takenAs cX0_takenAs 2 (some FieldType.int) 1 6 906 [.ref a, .int (nI k)] G (xrv (some (.int (nu))) G) := by
  refine xMet.of (lv := [some (.ref a), some (.int (nI k))]) rfl rfl (Nat.le_of_ble_eq_true rfl) ?_
  refine xj_iload_n dX0_takenAs_0 rfl ?_
  refine xj_bipush (v := 10) dX0_takenAs_1 rfl ?_
  refine xj_icmp_lt (tgt := 17) dX0_takenAs_3 rfl (fun c3 => ?_) (fun c3 => absurd (nI_lt10 hk) c3)
  refine xj_aload_n dX0_takenAs_17 rfl rfl ?_
  refine xj_iload_n dX0_takenAs_18 rfl ?_
  refine xj_cS dX0_takenAs_19 q1654 kS_X0_takenFor (A_takenForY hk hP (xnm_k hkd) (cy_kk hkd hk hu)) rfl rfl (Nat.le_of_ble_eq_true rfl) ⟨(Nat.le_of_ble_eq_true rfl), (Nat.le_of_ble_eq_true rfl)⟩ (Nat.le_of_ble_eq_true rfl) (Nat.le_of_ble_eq_true rfl) ?_
  refine xj_numberV dX0_takenAs_22 q1657 hP hkd (Nat.le_of_ble_eq_true rfl) ⟨(Nat.le_of_ble_eq_true rfl), (Nat.le_of_ble_eq_true rfl)⟩ ?_
  exact xj_ireturn dX0_takenAs_25 rfl rfl ⟨rfl, rfl⟩
theorem A_taken {k w : Int32} {hl : Nat → Option (Nat ⊕ (Nat × Nat))} {mk : List (Nat × Nat)}  (hmod : xMod E) (hv : cV d e n G) (hmk : cMk mk e G) (hHl : cHl hl G) : xMetW E yX0_taken cX0_taken 4 (some FieldType.int) [(29, 38, 39, 645), (29, 38, 43, 689)] 3 6 906 [.ref 0, .int k, .int w] G (xre (fun v_ G' => v_ = some (.int (o_taken mk hl k w)) ∧ gfa [] G G')) := by
  obtain ⟨hO, hN, hn0, h1n, hn6⟩ := id hv
  refine xMetW.of (lv := [some (.ref 0), some (.int k), some (.int w), none]) rfl rfl (Nat.le_of_ble_eq_true rfl) ?_
  refine xj_iload_n dX0_taken_0 rfl ?_
  refine xj_cS dX0_taken_1 q1468 kS_X0_isShelf A_isShelf rfl rfl (Nat.le_of_ble_eq_true rfl) ⟨(Nat.le_of_ble_eq_true rfl), (Nat.le_of_ble_eq_true rfl)⟩ (Nat.le_of_ble_eq_true rfl) (Nat.le_of_ble_eq_true rfl) ?_
  refine xj_if_eq (tgt := 27) dX0_taken_4 rfl (fun c4 => ?_) (fun c4 => ?_)
  · refine xj_icm1 dX0_taken_27 ?_
    exact xj_ireturn dX0_taken_28 rfl rfl ⟨by unfold o_taken tkI; first | (rw [b1_z c4]; rfl) | (rw [b1_z c13, tki_no (b1_z c24), Bool.or_false, Bool.and_false]; rfl), gfa.refl⟩
  · refine xj_iload_n dX0_taken_7 rfl ?_
    refine xj_ic0 dX0_taken_8 ?_
    refine xj_ic5 dX0_taken_9 ?_
    refine xj_cS dX0_taken_10 q585 kS_X0_isIn A_isIn rfl rfl (Nat.le_of_ble_eq_true rfl) ⟨(Nat.le_of_ble_eq_true rfl), (Nat.le_of_ble_eq_true rfl)⟩ (Nat.le_of_ble_eq_true rfl) (Nat.le_of_ble_eq_true rfl) ?_
    rw [show inC w 0 5 = inI w 6 from inC_inI (m := 6) (by decide)]
    refine xj_if_ne (tgt := 29) dX0_taken_13 rfl (fun c13 => ?_) (fun c13 => ?_)
    · have hb := b1_nz c4
      obtain ⟨x, hx, hx31, rfl⟩ := inI_t hb
      have tx : tn (nI x) = x := nI_clamp hx31
      have hw := tki_k (b1_nz c13)
      obtain ⟨k, hk, hk31, rfl⟩ := inI_t (b1_nz c13)
      refine xj_aload_n dX0_taken_29 rfl rfl ?_
      refine xj_iload_n dX0_taken_30 rfl ?_
      refine xj_dV dX0_taken_31 q1643 kV_X0_held (A_held hv hmk hHl hx) hO rfl rfl rfl rfl (Nat.le_of_ble_eq_true rfl) ⟨(Nat.le_of_ble_eq_true rfl), (Nat.le_of_ble_eq_true rfl)⟩ (Nat.le_of_ble_eq_true rfl) (Nat.le_of_ble_eq_true rfl) ?_
      rintro v0 G' ⟨hG, hh⟩
      rw [hG]
      unfold heldV at hh
      cases ho : hvl mk (hl x) with
      | none =>
        rw [ho] at hh
        subst hh
        refine xj_iload_n dX0_taken_34 rfl ?_
        refine xj_tS dX0_taken_35 q1651 kS_X0_takenAs (A_takenAsNk hk) rfl rfl (Nat.le_of_ble_eq_true rfl) ⟨(Nat.le_of_ble_eq_true rfl), (Nat.le_of_ble_eq_true rfl)⟩ (Nat.le_of_ble_eq_true rfl) (Nat.le_of_ble_eq_true rfl) ?_
        rintro _ ⟨j, rfl⟩
        refine xjT_catchU [(29, 38, 39, 645)] (29, 38, 43, 689) [] rfl (fun z hz => by
          rcases List.mem_cons.mp hz with rfl | hz
          · exact Or.inr ⟨by decide, _, q1454, nc_NP_CC⟩
          cases hz) rfl (by decide) q1565 (Or.inl rfl) dX0_taken_43 (Nat.le_of_ble_eq_true rfl) rfl ?_
        refine xj_bipush (v := -11) dX0_taken_44 rfl ?_
        exact xj_ireturn dX0_taken_46 rfl rfl ⟨by rw [otk hb hw tx]; exact som_i (otk_n ho), gfa.refl.apps⟩
      | some p =>
        cases p with
        | inl y =>
          rw [ho] at hh
          obtain ⟨hy, a, rfl, a1, a2⟩ := hh
          obtain ⟨hkd, hm16⟩ := mk_bd hmk hy
          have a2 : G[a]? = some (cO (8 + (mkAt mk y).1) [.int (nI y), .int (nI (mkAt mk y).2)]) := a2
          cases hu : undB (nI (mkAt mk y).1) (nI k) with
          | true =>
            refine xj_iload_n dX0_taken_34 rfl ?_
            refine xj_cS dX0_taken_35 q1651 kS_X0_takenAs (A_takenAsYk hk hkd a2 hu) rfl rfl (Nat.le_of_ble_eq_true rfl) ⟨(Nat.le_of_ble_eq_true rfl), (Nat.le_of_ble_eq_true rfl)⟩ (Nat.le_of_ble_eq_true rfl) (Nat.le_of_ble_eq_true rfl) ?_
            exact xj_ireturn dX0_taken_38 rfl rfl ⟨by rw [otk hb hw tx]; exact som_i (otk_mu hk ho hu), gfa.refl⟩
          | false =>
            refine xj_iload_n dX0_taken_34 rfl ?_
            refine xj_tS dX0_taken_35 q1651 kS_X0_takenAs (A_takenAsXk hmod hk a2 (xnm_k hkd) (nc_kk hkd hk hu).1 (nc_kk hkd hk hu).2) rfl rfl (Nat.le_of_ble_eq_true rfl) ⟨(Nat.le_of_ble_eq_true rfl), (Nat.le_of_ble_eq_true rfl)⟩ (Nat.le_of_ble_eq_true rfl) (Nat.le_of_ble_eq_true rfl) ?_
            rintro _ ⟨j, rfl⟩
            refine xjT_catchU [] (29, 38, 39, 645) [(29, 38, 43, 689)] rfl (fun z hz => by cases hz) rfl (by decide) q1454 (Or.inl rfl) dX0_taken_39 (Nat.le_of_ble_eq_true rfl) rfl ?_
            refine xj_bipush (v := -13) dX0_taken_40 rfl ?_
            exact xj_ireturn dX0_taken_42 rfl rfl ⟨by rw [otk hb hw tx]; exact som_i (otk_mx ho hu), gfa.refl.apps⟩
        | inr q =>
          rw [ho] at hh
          obtain ⟨a, xs, rfl, a3, a4, a5, a6⟩ := hh
          refine xj_iload_n dX0_taken_34 rfl ?_
          refine xj_tS dX0_taken_35 q1651 kS_X0_takenAs (A_takenAsXk hmod hk a3 (xnm_sh a5) (nc_ak a5 hk).1 (nc_ak a5 hk).2) rfl rfl (Nat.le_of_ble_eq_true rfl) ⟨(Nat.le_of_ble_eq_true rfl), (Nat.le_of_ble_eq_true rfl)⟩ (Nat.le_of_ble_eq_true rfl) (Nat.le_of_ble_eq_true rfl) ?_
          rintro _ ⟨j, rfl⟩
          refine xjT_catchU [] (29, 38, 39, 645) [(29, 38, 43, 689)] rfl (fun z hz => by cases hz) rfl (by decide) q1454 (Or.inl rfl) dX0_taken_39 (Nat.le_of_ble_eq_true rfl) rfl ?_
          refine xj_bipush (v := -13) dX0_taken_40 rfl ?_
          exact xj_ireturn dX0_taken_42 rfl rfl ⟨by rw [otk hb hw tx]; exact som_i (otk_rk hk a5 ho), gfa.refl.apps⟩
    · refine xj_iload_n dX0_taken_16 rfl ?_
      refine xj_bipush (v := 10) dX0_taken_17 rfl ?_
      refine xj_bipush (v := 13) dX0_taken_19 rfl ?_
      refine xj_cS dX0_taken_21 q585 kS_X0_isIn A_isIn rfl rfl (Nat.le_of_ble_eq_true rfl) ⟨(Nat.le_of_ble_eq_true rfl), (Nat.le_of_ble_eq_true rfl)⟩ (Nat.le_of_ble_eq_true rfl) (Nat.le_of_ble_eq_true rfl) ?_
      refine xj_if_ne (tgt := 29) dX0_taken_24 rfl (fun c24 => ?_) (fun c24 => ?_)
      · have hb := b1_nz c4
        obtain ⟨x, hx, hx31, rfl⟩ := inI_t hb
        have tx : tn (nI x) = x := nI_clamp hx31
        have hw := tki_s (b1_nz c24)
        obtain ⟨s, hs, rfl⟩ := tki_ex (b1_nz c24)
        refine xj_aload_n dX0_taken_29 rfl rfl ?_
        refine xj_iload_n dX0_taken_30 rfl ?_
        refine xj_dV dX0_taken_31 q1643 kV_X0_held (A_held hv hmk hHl hx) hO rfl rfl rfl rfl (Nat.le_of_ble_eq_true rfl) ⟨(Nat.le_of_ble_eq_true rfl), (Nat.le_of_ble_eq_true rfl)⟩ (Nat.le_of_ble_eq_true rfl) (Nat.le_of_ble_eq_true rfl) ?_
        rintro v0 G' ⟨hG, hh⟩
        rw [hG]
        unfold heldV at hh
        cases ho : hvl mk (hl x) with
        | none =>
          rw [ho] at hh
          subst hh
          refine xj_iload_n dX0_taken_34 rfl ?_
          refine xj_tS dX0_taken_35 q1651 kS_X0_takenAs (A_takenAsNs hs) rfl rfl (Nat.le_of_ble_eq_true rfl) ⟨(Nat.le_of_ble_eq_true rfl), (Nat.le_of_ble_eq_true rfl)⟩ (Nat.le_of_ble_eq_true rfl) (Nat.le_of_ble_eq_true rfl) ?_
          rintro _ ⟨j, rfl⟩
          refine xjT_catchU [(29, 38, 39, 645)] (29, 38, 43, 689) [] rfl (fun z hz => by
            rcases List.mem_cons.mp hz with rfl | hz
            · exact Or.inr ⟨by decide, _, q1454, nc_NP_CC⟩
            cases hz) rfl (by decide) q1565 (Or.inl rfl) dX0_taken_43 (Nat.le_of_ble_eq_true rfl) rfl ?_
          refine xj_bipush (v := -11) dX0_taken_44 rfl ?_
          exact xj_ireturn dX0_taken_46 rfl rfl ⟨by rw [otk hb hw tx]; exact som_i (otk_n ho), gfa.refl.apps⟩
        | some p =>
          cases p with
          | inl y =>
            rw [ho] at hh
            obtain ⟨hy, a, rfl, a1, a2⟩ := hh
            obtain ⟨hkd, hm16⟩ := mk_bd hmk hy
            have a2 : G[a]? = some (cO (8 + (mkAt mk y).1) [.int (nI y), .int (nI (mkAt mk y).2)]) := a2
            refine xj_iload_n dX0_taken_34 rfl ?_
            refine xj_tS dX0_taken_35 q1651 kS_X0_takenAs (A_takenAsXs hmod hs a2 (xnm_k hkd) (nc_ka hs hkd).1 (nc_ka hs hkd).2) rfl rfl (Nat.le_of_ble_eq_true rfl) ⟨(Nat.le_of_ble_eq_true rfl), (Nat.le_of_ble_eq_true rfl)⟩ (Nat.le_of_ble_eq_true rfl) (Nat.le_of_ble_eq_true rfl) ?_
            rintro _ ⟨j, rfl⟩
            refine xjT_catchU [] (29, 38, 39, 645) [(29, 38, 43, 689)] rfl (fun z hz => by cases hz) rfl (by decide) q1454 (Or.inl rfl) dX0_taken_39 (Nat.le_of_ble_eq_true rfl) rfl ?_
            refine xj_bipush (v := -13) dX0_taken_40 rfl ?_
            exact xj_ireturn dX0_taken_42 rfl rfl ⟨by rw [otk hb hw tx]; exact som_i (otk_ms hs ho), gfa.refl.apps⟩
          | inr q =>
            rw [ho] at hh
            obtain ⟨a, xs, rfl, a3, a4, a5, a6⟩ := hh
            by_cases hts : q.1 = s
            · subst hts
              refine xj_iload_n dX0_taken_34 rfl ?_
              refine xj_cS dX0_taken_35 q1651 kS_X0_takenAs (A_takenAsYs hs a3) rfl rfl (Nat.le_of_ble_eq_true rfl) ⟨(Nat.le_of_ble_eq_true rfl), (Nat.le_of_ble_eq_true rfl)⟩ (Nat.le_of_ble_eq_true rfl) (Nat.le_of_ble_eq_true rfl) ?_
              exact xj_ireturn dX0_taken_38 rfl rfl ⟨by rw [otk hb hw tx, a4]; exact som_i (otk_ry ho), gfa.refl⟩
            · refine xj_iload_n dX0_taken_34 rfl ?_
              refine xj_tS dX0_taken_35 q1651 kS_X0_takenAs (A_takenAsXs hmod hs a3 (xnm_sh a5) (nc_sh a5 hs hts).1 (nc_sh a5 hs hts).2) rfl rfl (Nat.le_of_ble_eq_true rfl) ⟨(Nat.le_of_ble_eq_true rfl), (Nat.le_of_ble_eq_true rfl)⟩ (Nat.le_of_ble_eq_true rfl) (Nat.le_of_ble_eq_true rfl) ?_
              rintro _ ⟨j, rfl⟩
              refine xjT_catchU [] (29, 38, 39, 645) [(29, 38, 43, 689)] rfl (fun z hz => by cases hz) rfl (by decide) q1454 (Or.inl rfl) dX0_taken_39 (Nat.le_of_ble_eq_true rfl) rfl ?_
              refine xj_bipush (v := -13) dX0_taken_40 rfl ?_
              exact xj_ireturn dX0_taken_42 rfl rfl ⟨by rw [otk hb hw tx]; exact som_i (otk_rx a5 hs hts ho), gfa.refl.apps⟩
      · refine xj_icm1 dX0_taken_27 ?_
        exact xj_ireturn dX0_taken_28 rfl rfl ⟨by unfold o_taken tkI; first | (rw [b1_z c4]; rfl) | (rw [b1_z c13, tki_no (b1_z c24), Bool.or_false, Bool.and_false]; rfl), gfa.refl⟩
end A38
