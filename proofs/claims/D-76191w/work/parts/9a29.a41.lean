/-! ===== the class: how far classes are ===== -/
set_option maxRecDepth 100000

/-- a queue of ranks -/
def lnw (n : Nat) (W : List Int32) (l : List Nat) : Prop := W.length = 120 ∧ l.length ≤ 120 ∧ ∀ (i q : Nat), l[i]? = some q → W[i]? = some (nI (rk n q)) ∧ q ∈ rws n
theorem lnw_1 {n a : Nat} {W : List Int32} (hW : W.length = 120) (ha : a ∈ rws n) : lnw n (W.set 0 (nI (rk n a))) [a] := by
  refine ⟨by rw [List.length_set]; exact hW, by show 1 ≤ 120; decide, fun i q h => ?_⟩
  cases i with
  | zero => cases h; exact ⟨List.getElem?_set_self (by omega), ha⟩
  | succ i => cases h
theorem lnw.push {n u : Nat} {W : List Int32} {l : List Nat} (h : lnw n W l) (hu : u ∈ rws n) (hl : l.length < 120) : lnw n (W.set l.length (nI (rk n u))) (l ++ [u]) := by
  obtain ⟨h1, h2, h3⟩ := h
  refine ⟨by rw [List.length_set]; exact h1, by rw [List.length_append, List.length_singleton]; omega, fun i q hq => ?_⟩
  by_cases e : i = l.length
  · subst e
    rw [List.getElem?_append_right (Nat.le_refl _), Nat.sub_self] at hq
    cases hq
    exact ⟨List.getElem?_set_self (by omega), hu⟩
  · have hi : i < l.length := by
      have := (List.getElem?_eq_some_iff.mp hq).1
      rw [List.length_append, List.length_singleton] at this
      omega
    rw [List.getElem?_append_left hi] at hq
    rw [List.getElem?_set_ne (fun q => e q.symm)]
    exact h3 i q hq
theorem apV_lt {n q u : Nat} {l : List Nat} {s s1 : List Int32 × List Nat} (c : s.1.getD (rk n u) 0 < 0) (h : apV n q (u :: l) s = some s1) : s.2.length < 120 ∧ apV n q l (s.1.set (rk n u) (s.1.getD (rk n q) 0 + 1), s.2 ++ [u]) = some s1 := by
  have h : (match apS n q u s with | none => none | some s' => apV n q l s') = some s1 := h
  unfold apS at h
  rw [if_pos c] at h
  by_cases hl : s.2.length < 120
  · rw [if_pos hl] at h; exact ⟨hl, h⟩
  · rw [if_neg hl] at h; cases h
theorem apV_ge {n q u : Nat} {l : List Nat} {s s1 : List Int32 × List Nat} (c : ¬ s.1.getD (rk n u) 0 < 0) (h : apV n q (u :: l) s = some s1) : apV n q l s = some s1 := by
  have h : (match apS n q u s with | none => none | some s' => apV n q l s') = some s1 := h
  unfold apS at h
  rw [if_neg c] at h
  exact h
theorem apF_yes {n g b f k : Nat} {s : List Int32 × List Nat} {v : Int32} (c : 0 ≤ s.1.getD (rk n b) 0) (h : apF n g b (f + 1) k s = some v) : s.1.getD (rk n b) 0 = v := by
  have h : (if 0 ≤ s.1.getD (rk n b) 0 then some (s.1.getD (rk n b) 0) else match apW n g k s with | none => none | some s2 => apF n g b f (k + 1) s2) = some v := h
  rw [if_pos c] at h
  exact Option.some.inj h
theorem apF_no {n g b f k : Nat} {s : List Int32 × List Nat} {v : Int32} (c : ¬ 0 ≤ s.1.getD (rk n b) 0) (h : apF n g b (f + 1) k s = some v) : ∃ q s1 s2, s.2[k]? = some q ∧ apV n q (rot n g q true) s = some s1 ∧ apV n q (rot n g q false) s1 = some s2 ∧ apF n g b f (k + 1) s2 = some v := by
  have h : (if 0 ≤ s.1.getD (rk n b) 0 then some (s.1.getD (rk n b) 0) else match apW n g k s with | none => none | some s2 => apF n g b f (k + 1) s2) = some v := h
  rw [if_neg c] at h
  unfold apW at h
  cases hq : s.2[k]? with
  | none => rw [hq] at h; cases h
  | some q =>
    rw [hq] at h
    cases h1 : apV n q (rot n g q true) s with
    | none => simp only [h1] at h; cases h
    | some s1 =>
      cases h2 : apV n q (rot n g q false) s1 with
      | none => simp only [h1, h2] at h; cases h
      | some s2 => simp only [h1, h2] at h; exact ⟨q, s1, s2, rfl, h1, h2, h⟩
theorem scr.ap {G H : xH} {F W : List Int32} (h : scr G) (hdk : dsk H) (hfr : gfr [0, 11, 12, 13, 14, 15, 16, 21, 22, 23, 24] G H) (h22 : H[22]? = some (cI 0 F)) (h24 : H[24]? = some (cI 0 W)) (hF : F.length = 120) (hW : W.length = 120) (h23 : ∃ A : List Int32, A.length = 120 ∧ H[23]? = some (cI 0 A)) : scr H := by
  obtain ⟨q1, q2, q3, q4⟩ := h
  refine ⟨hdk, fun i i1 i2 => ?_, by rw [hfr.2 26 (by decide)]; exact q3, by rw [hfr.2 20 (by decide)]; exact q4⟩
  rcases (show i = 22 ∨ i = 23 ∨ i = 24 ∨ i = 25 by omega) with rfl | rfl | rfl | rfl
  · exact ⟨F, hF, h22⟩
  · exact h23
  · exact ⟨W, hW, h24⟩
  · rw [hfr.2 25 (by decide)]; exact q2 25 (by decide) (by decide)
section A41
variable {E : xE} {G : xH} {d e : Nat → Value} {n : Nat}
theorem A_apart {x y v : Int32} {g : Nat}  (hv : cV d e n G) (hn3 : e 3 = .long (lN g)) (hg : g < 2 ^ 64) (hs : sIn d) (hc : scr G) (h : o_apart n g x y = some v) : xMet E yX0_apart cX0_apart 9 (some FieldType.int) 5 0 0 [.ref 0, .int x, .int y] G (xre (fun v_ G' => v_ = some (.int v) ∧ cPo d G G')) := by
  obtain ⟨hO, hN, hn0, h1n, hn6⟩ := id hv
  have hP := cPo.refl hv hs hc
  obtain ⟨L1, hl1, h11⟩ := hc.at (r := 11) (by decide) (by decide)
  obtain ⟨L2, hl2, h12⟩ := hc.at (r := 12) (by decide) (by decide)
  obtain ⟨L3, hl3, h13⟩ := hc.at (r := 13) (by decide) (by decide)
  have hsI := hs
  refine xMet.of (lv := [some (.ref 0), some (.int x), some (.int y), none, none, none, none, none, none]) rfl rfl (Nat.le_of_ble_eq_true rfl) ?_
  refine xj_aload_n dX0_apart_0 rfl rfl ?_
  refine xj_iload_n dX0_apart_1 rfl ?_
  refine xj_iload_n dX0_apart_2 rfl ?_
  refine xj_dV dX0_apart_3 q592 kV_X0_areRows (A_areRows hv h11 h12 (by omega) (by omega) (by omega) (by omega)) hO rfl rfl rfl rfl (Nat.le_of_ble_eq_true rfl) ⟨(Nat.le_of_ble_eq_true rfl), (Nat.le_of_ble_eq_true rfl)⟩ (Nat.le_of_ble_eq_true rfl) (Nat.le_of_ble_eq_true rfl) ?_
  rintro _ _ ⟨rfl, M, M2, hM, hM2, hRx, hRy, rfl⟩
  have hv2 : cV d e n ((G.set 11 (cI 1 M)).set 12 (cI 1 M2)) := (hv.set (by decide) (by decide)).set (by decide) (by decide)
  obtain ⟨hO2, hN2, -⟩ := id hv2
  have hP2 : cPo d G ((G.set 11 (cI 1 M)).set 12 (cI 1 M2)) := (hP.row (by decide) (by decide) (by omega)).row (by decide) (by decide) (by omega)
  have g11 : ((G.set 11 (cI 1 M)).set 12 (cI 1 M2))[11]? = some (cI 1 M) := by rw [gset (by decide)]; exact gset_self h11
  have g12 : ((G.set 11 (cI 1 M)).set 12 (cI 1 M2))[12]? = some (cI 1 M2) := gset_self (by rw [gset (by decide)]; exact h12)
  have g13 : ((G.set 11 (cI 1 M)).set 12 (cI 1 M2))[13]? = some (cI 1 L3) := by rw [gset (by decide), gset (by decide)]; exact h13
  refine xj_if_ne (tgt := 11) dX0_apart_6 rfl (fun c6 => ?_) (fun c6 => ?_)
  · have hbb := b1_nz c6
    have hb2 := hbb
    rw [Bool.and_eq_true] at hb2
    obtain ⟨R, hR, rfl⟩ := rowB_t (by omega) h1n hb2.1
    obtain ⟨S, hS, rfl⟩ := rowB_t (by omega) h1n hb2.2
    have hRM := hRx R hR rfl
    have hSM := hRy hb2.1 S hS rfl
    have tR := tn_nI (by omega) hR
    have tS := tn_nI (by omega) hS
    refine xj_aload_n dX0_apart_11 rfl rfl ?_
    refine xj_get dX0_apart_12 K0 4 (by decide) q473 hO2 rfl ?_
    refine xj_getN dX0_apart_15 K3 0 (by decide) q321 hN2 (congrArg some hn0) ?_
    refine xj_ic5 dX0_apart_18 ?_
    refine xj_icmp_le (tgt := 25) dX0_apart_19 rfl (fun c19 => ?_) (fun c19 => ?_)
    · have hn5 : n < 6 := by have : n ≤ 5 := (nI_leI (b := 5) (by omega) (by decide)).mp c19; omega
      have hap : apF n g (gos n true g S) 121 0 ((List.replicate 120 (-1)).set (rk n (gos n true g R)) 0, [(gos n true g R)]) = some v := by unfold o_apart at h; rw [if_pos hbb, if_neg (show ¬ n = 6 by omega), tR, tS] at h; exact h
      have hAm : (gos n true g R) ∈ rws n := gos_mem' (by omega) hR
      have hBm : (gos n true g S) ∈ rws n := gos_mem' (by omega) hS
      have hkA := f_rk5 n hn5 _ hAm
      have hkB := f_rk5 n hn5 _ hBm
      obtain ⟨F0, hlF, h22⟩ := hc.2.1 22 (by decide) (by decide)
      obtain ⟨F1, hlF1, h23⟩ := hc.2.1 23 (by decide) (by decide)
      obtain ⟨W0, hlW, h24⟩ := hc.2.1 24 (by decide) (by decide)
      obtain ⟨fm0, hfm0⟩ := hsI 22 (by decide)
      refine xj_aload_n dX0_apart_25 rfl rfl ?_
      refine xj_aload_n dX0_apart_26 rfl rfl ?_
      refine xj_get dX0_apart_27 K0 8 (by decide) q477 hO2 rfl ?_
      refine xj_ic1 dX0_apart_30 ?_
      refine xj_dV dX0_apart_31 q1231 kV_X0_goes (A_goes (t := true) hv2 hn3 hg g11 (by decide) (by decide) hRM hR (by omega)) hO2 rfl rfl rfl rfl (Nat.le_of_ble_eq_true rfl) ⟨(Nat.le_of_ble_eq_true rfl), (Nat.le_of_ble_eq_true rfl)⟩ (Nat.le_of_ble_eq_true rfl) (Nat.le_of_ble_eq_true rfl) ?_
      rintro _ _ ⟨rfl, N1, hN1_, hN1R, rfl⟩
      have hv3 : cV d e n (((G.set 11 (cI 1 M)).set 12 (cI 1 M2)).set 11 (cI 1 N1)) := hv2.set (by decide) (by decide)
      obtain ⟨hO3, hN3, -⟩ := id hv3
      refine xj_aload_n dX0_apart_34 rfl rfl ?_
      refine xj_aload_n dX0_apart_35 rfl rfl ?_
      refine xj_get dX0_apart_36 K0 9 (by decide) q478 hO3 rfl ?_
      refine xj_ic1 dX0_apart_39 ?_
      refine xj_dV dX0_apart_40 q1231 kV_X0_goes (A_goes (t := true) hv3 hn3 hg (by rw [gset (by decide)]; exact g12) (by decide) (by decide) hSM hS (by omega)) hO3 rfl rfl rfl rfl (Nat.le_of_ble_eq_true rfl) ⟨(Nat.le_of_ble_eq_true rfl), (Nat.le_of_ble_eq_true rfl)⟩ (Nat.le_of_ble_eq_true rfl) (Nat.le_of_ble_eq_true rfl) ?_
      rintro _ _ ⟨rfl, N2, hN2_, hN2R, rfl⟩
      have hv4 : cV d e n ((((G.set 11 (cI 1 M)).set 12 (cI 1 M2)).set 11 (cI 1 N1)).set 12 (cI 1 N2)) := hv3.set (by decide) (by decide)
      obtain ⟨hO4, hN4, -⟩ := id hv4
      have g12b : ((((G.set 11 (cI 1 M)).set 12 (cI 1 M2)).set 11 (cI 1 N1)).set 12 (cI 1 N2))[12]? = some (cI 1 N2) := gset_self (by rw [gset (by decide)]; exact g12)
      have g11b : ((((G.set 11 (cI 1 M)).set 12 (cI 1 M2)).set 11 (cI 1 N1)).set 12 (cI 1 N2))[11]? = some (cI 1 N1) := by rw [gset (by decide)]; exact gset_self g11
      refine xj_aload_n dX0_apart_43 rfl rfl ?_
      refine xj_aload_n dX0_apart_44 rfl rfl ?_
      refine xj_get dX0_apart_45 K0 9 (by decide) q478 hO4 rfl ?_
      refine xj_cV dX0_apart_48 q658 kV_X0_rankOf (A_rankOf hv4 g12b hN2R hBm) hO4 rfl rfl rfl rfl (Nat.le_of_ble_eq_true rfl) ⟨(Nat.le_of_ble_eq_true rfl), (Nat.le_of_ble_eq_true rfl)⟩ (Nat.le_of_ble_eq_true rfl) (Nat.le_of_ble_eq_true rfl) ?_
      refine xj_istn3 dX0_apart_51 rfl ?_
      refine xj_aload_n dX0_apart_52 rfl rfl ?_
      refine xj_dV dX0_apart_53 q1377 kV_X0_clearFar (A_clearFar hO4 (by rw [gset (by decide), gset (by decide), gset (by decide), gset (by decide)]; exact h22) (by rw [gset (by decide), gset (by decide), gset (by decide), gset (by decide)]; exact h23) hlF hlF1) hO4 rfl rfl rfl rfl (Nat.le_of_ble_eq_true rfl) ⟨(Nat.le_of_ble_eq_true rfl), (Nat.le_of_ble_eq_true rfl)⟩ (Nat.le_of_ble_eq_true rfl) (Nat.le_of_ble_eq_true rfl) ?_
      rintro _ _ ⟨rfl, rfl⟩
      have hv5 : cV d e n (((((G.set 11 (cI 1 M)).set 12 (cI 1 M2)).set 11 (cI 1 N1)).set 12 (cI 1 N2)).set 22 (cI 0 (List.replicate 120 (-1)))) := hv4.set (by decide) (by decide)
      obtain ⟨hO5, hN5, -⟩ := id hv5
      have hv6 : cV d e n ((((((G.set 11 (cI 1 M)).set 12 (cI 1 M2)).set 11 (cI 1 N1)).set 12 (cI 1 N2)).set 22 (cI 0 (List.replicate 120 (-1)))).set 23 (cI 0 (List.replicate 120 (-1)))) := hv5.set (by decide) (by decide)
      obtain ⟨hO6, hN6, -⟩ := id hv6
      refine xj_aload_n dX0_apart_56 rfl rfl ?_
      refine xj_get dX0_apart_57 K0 25 (by decide) q494 hO6 rfl ?_
      refine xj_ic0 dX0_apart_60 ?_
      refine xj_aload_n dX0_apart_61 rfl rfl ?_
      refine xj_aload_n dX0_apart_62 rfl rfl ?_
      refine xj_get dX0_apart_63 K0 8 (by decide) q477 hO6 rfl ?_
      refine xj_cV dX0_apart_66 q658 kV_X0_rankOf (A_rankOf hv6 (by rw [gset (by decide), gset (by decide)]; exact g11b) hN1R hAm) hO6 rfl rfl rfl rfl (Nat.le_of_ble_eq_true rfl) ⟨(Nat.le_of_ble_eq_true rfl), (Nat.le_of_ble_eq_true rfl)⟩ (Nat.le_of_ble_eq_true rfl) (Nat.le_of_ble_eq_true rfl) ?_
      refine xj_iast (k := 0) dX0_apart_69 (show ((((((G.set 11 (cI 1 M)).set 12 (cI 1 M2)).set 11 (cI 1 N1)).set 12 (cI 1 N2)).set 22 (cI 0 (List.replicate 120 (-1)))).set 23 (cI 0 (List.replicate 120 (-1))))[24]? = some (cI 0 W0) by rw [gset (by decide), gset (by decide), gset (by decide), gset (by decide), gset (by decide), gset (by decide)]; exact h24) rfl (by decide) (by omega) ?_
      have hv7 : cV d e n (((((((G.set 11 (cI 1 M)).set 12 (cI 1 M2)).set 11 (cI 1 N1)).set 12 (cI 1 N2)).set 22 (cI 0 (List.replicate 120 (-1)))).set 23 (cI 0 (List.replicate 120 (-1)))).set 24 (cI 0 (W0.set 0 (nI (rk n (gos n true g R)))))) := hv6.set (by decide) (by decide)
      obtain ⟨hO7, hN7, -⟩ := id hv7
      have h24z : (((((((G.set 11 (cI 1 M)).set 12 (cI 1 M2)).set 11 (cI 1 N1)).set 12 (cI 1 N2)).set 22 (cI 0 (List.replicate 120 (-1)))).set 23 (cI 0 (List.replicate 120 (-1)))).set 24 (cI 0 (W0.set 0 (nI (rk n (gos n true g R))))))[24]? = some (cI 0 (W0.set 0 (nI (rk n (gos n true g R))))) := gset_self (show ((((((G.set 11 (cI 1 M)).set 12 (cI 1 M2)).set 11 (cI 1 N1)).set 12 (cI 1 N2)).set 22 (cI 0 (List.replicate 120 (-1)))).set 23 (cI 0 (List.replicate 120 (-1))))[24]? = some (cI 0 W0) by rw [gset (by decide), gset (by decide), gset (by decide), gset (by decide), gset (by decide), gset (by decide)]; exact h24)
      have h22z : (((((((G.set 11 (cI 1 M)).set 12 (cI 1 M2)).set 11 (cI 1 N1)).set 12 (cI 1 N2)).set 22 (cI 0 (List.replicate 120 (-1)))).set 23 (cI 0 (List.replicate 120 (-1)))).set 24 (cI 0 (W0.set 0 (nI (rk n (gos n true g R))))))[22]? = some (cI 0 (List.replicate 120 (-1))) := by rw [gset (by decide), gset (by decide)]; exact gset_self (show ((((G.set 11 (cI 1 M)).set 12 (cI 1 M2)).set 11 (cI 1 N1)).set 12 (cI 1 N2))[22]? = some (cI 0 F0) by rw [gset (by decide), gset (by decide), gset (by decide), gset (by decide)]; exact h22)
      refine xj_aload_n dX0_apart_70 rfl rfl ?_
      refine xj_get dX0_apart_71 K0 23 (by decide) q492 hO7 rfl ?_
      refine xj_aload_n dX0_apart_74 rfl rfl ?_
      refine xj_get dX0_apart_75 K0 25 (by decide) q494 hO7 rfl ?_
      refine xj_ic0 dX0_apart_78 ?_
      refine xj_iald (k := 0) dX0_apart_79 h24z rfl (by decide) (List.getElem?_set_self (by omega)) ?_
      refine xj_ic0 dX0_apart_80 ?_
      refine xj_iast dX0_apart_81 h22z rfl (by omega) (by rw [List.length_replicate]; exact hkA) ?_
      have hv8 : cV d e n ((((((((G.set 11 (cI 1 M)).set 12 (cI 1 M2)).set 11 (cI 1 N1)).set 12 (cI 1 N2)).set 22 (cI 0 (List.replicate 120 (-1)))).set 23 (cI 0 (List.replicate 120 (-1)))).set 24 (cI 0 (W0.set 0 (nI (rk n (gos n true g R)))))).set 22 (cI 0 ((List.replicate 120 (-1)).set (rk n (gos n true g R)) 0))) := hv7.set (by decide) (by decide)
      obtain ⟨hO8, hN8, -⟩ := id hv8
      have hi1 : ((List.replicate 120 (-1 : Int32)).set (rk n (gos n true g R)) 0).length = 120 := by rw [List.length_set, List.length_replicate]
      have hi2 : lnw n (W0.set 0 (nI (rk n (gos n true g R)))) [(gos n true g R)] := lnw_1 hlW hAm
      have hi3 : dsk ((((((((G.set 11 (cI 1 M)).set 12 (cI 1 M2)).set 11 (cI 1 N1)).set 12 (cI 1 N2)).set 22 (cI 0 (List.replicate 120 (-1)))).set 23 (cI 0 (List.replicate 120 (-1)))).set 24 (cI 0 (W0.set 0 (nI (rk n (gos n true g R)))))).set 22 (cI 0 ((List.replicate 120 (-1)).set (rk n (gos n true g R)) 0))) := (((((((hc.1.row (by decide) (by decide) (by omega)).row (by decide) (by decide) (by omega)).row (by decide) (by decide) (by omega)).row (by decide) (by decide) (by omega)).oth (by decide) (by decide)).oth (by decide) (by decide)).oth (by decide) (by decide)).oth (by decide) (by decide)
      have hi4 : gfr [0, 11, 12, 13, 14, 15, 16, 21, 22, 23, 24] G ((((((((G.set 11 (cI 1 M)).set 12 (cI 1 M2)).set 11 (cI 1 N1)).set 12 (cI 1 N2)).set 22 (cI 0 (List.replicate 120 (-1)))).set 23 (cI 0 (List.replicate 120 (-1)))).set 24 (cI 0 (W0.set 0 (nI (rk n (gos n true g R)))))).set 22 (cI 0 ((List.replicate 120 (-1)).set (rk n (gos n true g R)) 0))) := (((((((gfr.refl.set (by decide)).set (by decide)).set (by decide)).set (by decide)).set (by decide)).set (by decide)).set (by decide)).set (by decide)
      have hi5 : ((((((((G.set 11 (cI 1 M)).set 12 (cI 1 M2)).set 11 (cI 1 N1)).set 12 (cI 1 N2)).set 22 (cI 0 (List.replicate 120 (-1)))).set 23 (cI 0 (List.replicate 120 (-1)))).set 24 (cI 0 (W0.set 0 (nI (rk n (gos n true g R)))))).set 22 (cI 0 ((List.replicate 120 (-1)).set (rk n (gos n true g R)) 0)))[22]? = some (cI 0 ((List.replicate 120 (-1)).set (rk n (gos n true g R)) 0)) := gset_self h22z
      have hi6 : ((((((((G.set 11 (cI 1 M)).set 12 (cI 1 M2)).set 11 (cI 1 N1)).set 12 (cI 1 N2)).set 22 (cI 0 (List.replicate 120 (-1)))).set 23 (cI 0 (List.replicate 120 (-1)))).set 24 (cI 0 (W0.set 0 (nI (rk n (gos n true g R)))))).set 22 (cI 0 ((List.replicate 120 (-1)).set (rk n (gos n true g R)) 0)))[24]? = some (cI 0 (W0.set 0 (nI (rk n (gos n true g R))))) := by rw [gset (by decide)]; exact h24z
      have hi7 : ((((((((G.set 11 (cI 1 M)).set 12 (cI 1 M2)).set 11 (cI 1 N1)).set 12 (cI 1 N2)).set 22 (cI 0 (List.replicate 120 (-1)))).set 23 (cI 0 (List.replicate 120 (-1)))).set 24 (cI 0 (W0.set 0 (nI (rk n (gos n true g R)))))).set 22 (cI 0 ((List.replicate 120 (-1)).set (rk n (gos n true g R)) 0)))[0]? = some (cO 0 (cFs (cu d 22 (.int fm0)))) := by rw [cu_id hfm0]; exact hO8
      have hi8 : ∃ A : List Int32, A.length = 120 ∧ ((((((((G.set 11 (cI 1 M)).set 12 (cI 1 M2)).set 11 (cI 1 N1)).set 12 (cI 1 N2)).set 22 (cI 0 (List.replicate 120 (-1)))).set 23 (cI 0 (List.replicate 120 (-1)))).set 24 (cI 0 (W0.set 0 (nI (rk n (gos n true g R)))))).set 22 (cI 0 ((List.replicate 120 (-1)).set (rk n (gos n true g R)) 0)))[23]? = some (cI 0 A) := ⟨_, List.length_replicate .., by rw [gset (by decide), gset (by decide)]; exact gset_self (show (((((G.set 11 (cI 1 M)).set 12 (cI 1 M2)).set 11 (cI 1 N1)).set 12 (cI 1 N2)).set 22 (cI 0 (List.replicate 120 (-1))))[23]? = some (cI 0 F1) by rw [gset (by decide), gset (by decide), gset (by decide), gset (by decide), gset (by decide)]; exact h23)⟩
      refine xj_ic1 dX0_apart_82 ?_
      refine xj_ist4 dX0_apart_83 rfl ?_
      refine xj_ic0 dX0_apart_85 ?_
      refine xj_ist5 dX0_apart_86 rfl ?_
      have bd : ∀ (t : Bool) (s s1 : List Int32 × List Nat) (Wl : List Int32) (H : xH) (fm0 : Int32) (q k : Nat) (i0 r0 : Option Value), apV n q (rot n g q t) s = some s1 → (s.1.length = 120 ∧ lnw n Wl s.2 ∧ s.2[k]? = some q ∧ dsk H ∧ gfr [0, 11, 12, 13, 14, 15, 16, 21, 22, 23, 24] G H ∧ H[22]? = some (cI 0 s.1) ∧ H[24]? = some (cI 0 Wl) ∧ H[0]? = some (cO 0 (cFs (cu d 22 (.int fm0)))) ∧ ∃ A : List Int32, A.length = 120 ∧ H[23]? = some (cI 0 A)) → (∀ (s' : List Int32 × List Nat) (Wl' : List Int32) (H' : xH) (fm' : Int32), (s' = s1 ∧ (s'.1.length = 120 ∧ lnw n Wl' s'.2 ∧ s'.2[k]? = some q ∧ dsk H' ∧ gfr [0, 11, 12, 13, 14, 15, 16, 21, 22, 23, 24] G H' ∧ H'[22]? = some (cI 0 s'.1) ∧ H'[24]? = some (cI 0 Wl') ∧ H'[0]? = some (cO 0 (cFs (cu d 22 (.int fm')))) ∧ ∃ A : List Int32, A.length = 120 ∧ H'[23]? = some (cI 0 A))) → ∀ i1 r1, xJ E (yX0_apart, cX0_apart, 9, (some FieldType.int), []) (xR 5 0 0) (xre (fun v_ G' => v_ = some (.int v) ∧ cPo d G G')) 0 0 208 [some (.ref 0), some (.int (nI R)), some (.int (nI S)), some (.int (nI (rk n (gos n true g S)))), some (.int (nI s'.2.length)), some (.int (nI k)), some (.int (b1 (!t))), i1, r1] [] H') → xJ E (yX0_apart, cX0_apart, 9, (some FieldType.int), []) (xR 5 0 0) (xre (fun v_ G' => v_ = some (.int v) ∧ cPo d G G')) 0 0 106 [some (.ref 0), some (.int (nI R)), some (.int (nI S)), some (.int (nI (rk n (gos n true g S)))), some (.int (nI s.2.length)), some (.int (nI k)), some (.int (b1 (!t))), i0, r0] [] H := by
        intro t s s1 Wl H fm0 q k i0 r0 hs0 hvw kk
        obtain ⟨hs1, hwq, hqk, hdk, hfr, h22, h24, h0, h23⟩ := hvw
        have hv1 : cV (cu d 22 (.int fm0)) e n H := hv.mv h0 (hfr.2 4 (by decide))
        obtain ⟨hO1, hN1, -⟩ := id hv1
        have hqr := (hwq.2.2 k q hqk).2
        have hwk := (hwq.2.2 k q hqk).1
        obtain ⟨hrbk, hrkw⟩ := rb_rk (by omega) h1n hqr
        obtain ⟨M50, hM50, h15⟩ := hdk.1 15 (by decide) (by decide)
        have hrl := rot_le (n := n) (g := g) (r := q) (t := t)
        have hwl := hwq.2.1
        have hkl := (List.getElem?_eq_some_iff.mp hqk).1
        refine xj_aload_n dX0_apart_106 rfl rfl ?_
        refine xj_aload_n dX0_apart_107 rfl rfl ?_
        refine xj_get dX0_apart_108 K0 25 (by decide) q494 hO1 rfl ?_
        refine xj_iload dX0_apart_111 rfl ?_
        refine xj_iald dX0_apart_113 h24 rfl (by omega) hwk ?_
        refine xj_aload_n dX0_apart_114 rfl rfl ?_
        refine xj_get dX0_apart_115 K0 12 (by decide) q481 hO1 rfl ?_
        refine xj_dV dX0_apart_118 q681 kV_X0_byRank (A_byRank hv1 h15 (by decide) (by decide) hrkw (by omega) (by omega)) hO1 rfl rfl rfl rfl (Nat.le_of_ble_eq_true rfl) ⟨(Nat.le_of_ble_eq_true rfl), (Nat.le_of_ble_eq_true rfl)⟩ (Nat.le_of_ble_eq_true rfl) (Nat.le_of_ble_eq_true rfl) ?_
        rintro _ _ ⟨rfl, M5, hM5, hM5R, rfl⟩
        rw [hrbk] at hM5R
        have hv2 : cV (cu d 22 (.int fm0)) e n (H.set 15 (cI 1 M5)) := hv1.set (by decide) (by decide)
        obtain ⟨hO2, hN2, -⟩ := id hv2
        have hdk2 := hdk.row (r := 15) (M := M5) (by decide) (by decide) (by omega)
        obtain ⟨M30, hM30, h13⟩ := hdk2.1 13 (by decide) (by decide)
        obtain ⟨M40, hM40, h14⟩ := hdk2.1 14 (by decide) (by decide)
        obtain ⟨F0, hF0, h210⟩ := hdk2.2
        refine xj_aload_n dX0_apart_121 rfl rfl ?_
        refine xj_aload_n dX0_apart_122 rfl rfl ?_
        refine xj_get dX0_apart_123 K0 12 (by decide) q481 hO2 rfl ?_
        refine xj_iload dX0_apart_126 rfl ?_
        refine xj_dV dX0_apart_128 q1361 kV_X0_findRotations (A_findRotations (t := t) hv2 hn3 hg (gset_self h15) hM5R hqr h13 h14 h210 hM30 hM40 hF0) hO2 rfl rfl rfl rfl (Nat.le_of_ble_eq_true rfl) ⟨(Nat.le_of_ble_eq_true rfl), (Nat.le_of_ble_eq_true rfl)⟩ (Nat.le_of_ble_eq_true rfl) (Nat.le_of_ble_eq_true rfl) ?_
        rintro _ H' ⟨rfl, M3, M4, F, hM3, hM4, hF, hlk, hfrr, h13, h14, h21b, h0b⟩
        have hdk3 := hdk2.rot hfrr hM3 hM4 hF h13 h14 h21b
        have hfr3 : gfr [0, 11, 12, 13, 14, 15, 16, 21, 22, 23, 24] G H' := (hfr.set (r := 15) (by decide)).trans (hfrr.mono (by decide))
        have h22c : H'[22]? = some (cI 0 s.1) := by rw [hfrr.2 22 (by decide), gset (by decide)]; exact h22
        have h24c0 : H'[24]? = some (cI 0 Wl) := by rw [hfrr.2 24 (by decide), gset (by decide)]; exact h24
        have h0b : H'[0]? = some (cO 0 (cFs (cu d 22 (.int (nI (rot n g q t).length))))) := by rw [h0b, cu_cu]
        have h23b : ∃ A : List Int32, A.length = 120 ∧ H'[23]? = some (cI 0 A) := by obtain ⟨A, z1, z2⟩ := h23; exact ⟨A, z1, by rw [hfrr.2 23 (by decide), gset (by decide)]; exact z2⟩
        obtain ⟨fm, hfm⟩ : ∃ fm : Int32, fm = nI (rot n g q t).length := ⟨_, rfl⟩
        rw [← hfm] at h0b
        refine xj_ic0 dX0_apart_131 ?_
        refine xj_ist7 dX0_apart_132 rfl ?_
        have li : ∀ (K : Nat) (i : Nat) (s : List Int32 × List Nat) (Wl : List Int32) (H : xH), (rot n g q t).length - i < K → (i ≤ (rot n g q t).length) → (apV n q ((rot n g q t).drop i) s = some s1) → (s.1.length = 120) → (lnw n Wl s.2) → (s.2[k]? = some q) → (dsk H) → (gfr [0, 11, 12, 13, 14, 15, 16, 21, 22, 23, 24] G H) → (H[22]? = some (cI 0 s.1)) → (H[24]? = some (cI 0 Wl)) → (H[0]? = some (cO 0 (cFs (cu d 22 (.int fm))))) → (∃ A : List Int32, A.length = 120 ∧ H[23]? = some (cI 0 A)) → (H[21]? = some (cI 0 F)) → xJ E (yX0_apart, cX0_apart, 9, (some FieldType.int), []) (xR 5 0 0) (xre (fun v_ G' => v_ = some (.int v) ∧ cPo d G G')) 0 0 134 [some (.ref 0), some (.int (nI R)), some (.int (nI S)), some (.int (nI (rk n (gos n true g S)))), some (.int (nI s.2.length)), some (.int (nI k)), some (.int (b1 (!t))), some (.int (nI i)), none] [] H := by
          intro K
          induction K with
          | zero => intro i s Wl H h; exact absurd h (Nat.not_lt_zero _)
          | succ K ih_li =>
            intro i s Wl H hK hi hs hs1 hwq hqk hdk hfr h22 h24 h0 h23 h21
            have hv2 : cV (cu d 22 (.int fm)) e n H := hv.mv h0 (hfr.2 4 (by decide))
            obtain ⟨hO2, hN2, -⟩ := id hv2
            have hqr := (hwq.2.2 k q hqk).2
            have hwk := (hwq.2.2 k q hqk).1
            have hrkq := f_rk5 n hn5 q hqr
            have hkl := (List.getElem?_eq_some_iff.mp hqk).1
            have hwl := hwq.2.1
            refine xj_iload dX0_apart_134 rfl ?_
            refine xj_aload_n dX0_apart_136 rfl rfl ?_
            refine xj_get dX0_apart_137 K0 22 (by decide) q491 hO2 rfl ?_
            rw [hfm]
            refine xj_icmp_ge (tgt := 208) dX0_apart_140 rfl (fun c140 => ?_) (fun c140 => ?_)
            · have hil : (rot n g q t).length ≤ i := Nat.le_of_not_lt fun h => absurd c140 (nI_ge h (by omega))
              rw [List.drop_eq_nil_of_le hil] at hs
              have hs : some s = some s1 := hs
              cases hs
              exact kk _ Wl H fm ⟨rfl, hs1, hwq, hqk, hdk, hfr, h22, h24, h0, h23⟩ (some (.int (nI i))) none
            · have hil : i < (rot n g q t).length := Nat.lt_of_not_le fun h => c140 (nI_le h (by omega))
              obtain ⟨u, hvi⟩ : ∃ u, (rot n g q t)[i]? = some u := ⟨_, List.getElem?_eq_getElem hil⟩
              have hvm : u ∈ rws n := rot_mem (by omega) hqr u (List.mem_of_getElem? hvi)
              have hXi := hlk i u hvi
              have hdr : (rot n g q t).drop i = u :: (rot n g q t).drop (i + 1) := by rw [List.drop_eq_getElem_cons hil]; congr 1; exact Option.some.inj ((List.getElem?_eq_getElem hil).symm.trans hvi)
              rw [hdr] at hs
              have hrk := f_rk5 n hn5 u hvm
              obtain ⟨M6, hM6, h16⟩ := hdk.1 16 (by decide) (by decide)
              refine xj_aload_n dX0_apart_143 rfl rfl ?_
              refine xj_aload_n dX0_apart_144 rfl rfl ?_
              refine xj_get dX0_apart_145 K0 21 (by decide) q490 hO2 rfl ?_
              refine xj_iload dX0_apart_148 rfl ?_
              refine xj_iald dX0_apart_150 h21 rfl (by omega) hXi ?_
              refine xj_dV dX0_apart_151 q1381 kV_X0_rankOfTold (A_rankOfTold hv2 h16 (by omega) hvm (by omega)) hO2 rfl rfl rfl rfl (Nat.le_of_ble_eq_true rfl) ⟨(Nat.le_of_ble_eq_true rfl), (Nat.le_of_ble_eq_true rfl)⟩ (Nat.le_of_ble_eq_true rfl) (Nat.le_of_ble_eq_true rfl) ?_
              rintro _ _ ⟨rfl, M7, hM7, hM7R, rfl⟩
              have hv3 : cV (cu d 22 (.int fm)) e n (H.set 16 (cI 1 M7)) := hv2.set (by decide) (by decide)
              obtain ⟨hO3, hN3, -⟩ := id hv3
              have h22b : (H.set 16 (cI 1 M7))[22]? = some (cI 0 s.1) := by rw [gset (by decide)]; exact h22
              have h24b : (H.set 16 (cI 1 M7))[24]? = some (cI 0 Wl) := by rw [gset (by decide)]; exact h24
              refine xj_ist8 dX0_apart_154 rfl ?_
              refine xj_aload_n dX0_apart_156 rfl rfl ?_
              refine xj_get dX0_apart_157 K0 23 (by decide) q492 hO3 rfl ?_
              refine xj_iload dX0_apart_160 rfl ?_
              refine xj_iald dX0_apart_162 h22b rfl (by omega) (gD_at (by omega)) ?_
              refine xj_if_lt (tgt := 169) dX0_apart_163 rfl (fun c163 => ?_) (fun c163 => ?_)
              · obtain ⟨hlt, hs2⟩ := apV_lt c163 hs
                refine xj_aload_n dX0_apart_169 rfl rfl ?_
                refine xj_get dX0_apart_170 K0 23 (by decide) q492 hO3 rfl ?_
                refine xj_iload dX0_apart_173 rfl ?_
                refine xj_aload_n dX0_apart_175 rfl rfl ?_
                refine xj_get dX0_apart_176 K0 23 (by decide) q492 hO3 rfl ?_
                refine xj_aload_n dX0_apart_179 rfl rfl ?_
                refine xj_get dX0_apart_180 K0 25 (by decide) q494 hO3 rfl ?_
                refine xj_iload dX0_apart_183 rfl ?_
                refine xj_iald dX0_apart_185 h24b rfl (by omega) hwk ?_
                refine xj_iald dX0_apart_186 h22b rfl (by omega) (gD_at (by omega)) ?_
                refine xj_ic1 dX0_apart_187 ?_
                refine xj_iadd dX0_apart_188 ?_
                refine xj_iast dX0_apart_189 h22b rfl (by omega) (by omega) ?_
                have hv4 : cV (cu d 22 (.int fm)) e n ((H.set 16 (cI 1 M7)).set 22 (cI 0 (s.1.set (rk n u) (s.1.getD (rk n q) 0 + 1)))) := hv3.set (by decide) (by decide)
                obtain ⟨hO4, hN4, -⟩ := id hv4
                have h24c : ((H.set 16 (cI 1 M7)).set 22 (cI 0 (s.1.set (rk n u) (s.1.getD (rk n q) 0 + 1))))[24]? = some (cI 0 Wl) := by rw [gset (by decide)]; exact h24b
                refine xj_aload_n dX0_apart_190 rfl rfl ?_
                refine xj_get dX0_apart_191 K0 25 (by decide) q494 hO4 rfl ?_
                refine xj_iload dX0_apart_194 rfl ?_
                refine xj_iload dX0_apart_196 rfl ?_
                refine xj_iast dX0_apart_198 h24c rfl (by omega) (by rw [hwq.1]; exact hlt) ?_
                refine xj_iinc4 (cst := 1) dX0_apart_199 rfl rfl ?_
                try rw [nI_1, show s.2.length + 1 = (s.2 ++ [u]).length by rw [List.length_append, List.length_singleton]]
                refine xj_iinc7 (cst := 1) dX0_apart_202 rfl rfl ?_
                rw [nI_1]
                refine xj_goto (tgt := 134) dX0_apart_205 rfl ?_
                first
                | exact xj_fg8 (ih_li (i + 1) (s.1.set (rk n u) (s.1.getD (rk n q) 0 + 1), s.2 ++ [u]) (Wl.set s.2.length (nI (rk n u))) _ (by omega) (by omega) hs2 (by rw [List.length_set]; exact hs1) (hwq.push hvm hlt) (by rw [List.getElem?_append_left hkl]; exact hqk) (((hdk.row (by decide) (by decide) (by omega)).oth (by decide) (by decide)).oth (by decide) (by decide)) (((hfr.set (by decide)).set (by decide)).set (by decide)) (by rw [gset (by decide)]; exact gset_self h22b) (gset_self h24c) (by rw [gset (by decide)]; exact hO4) (by obtain ⟨A, z1, z2⟩ := h23; exact ⟨A, z1, by rw [gset (by decide), gset (by decide), gset (by decide)]; exact z2⟩) (by rw [gset (by decide), gset (by decide), gset (by decide)]; exact h21))
                | exact xj_fg8 (ih_li (i + 1) s Wl _ (by omega) (by omega) hs2 hs1 hwq hqk (hdk.row (by decide) (by decide) (by omega)) (hfr.set (by decide)) h22b h24b hO3 (by obtain ⟨A, z1, z2⟩ := h23; exact ⟨A, z1, by rw [gset (by decide)]; exact z2⟩) (by rw [gset (by decide)]; exact h21))
              · have hs2 := apV_ge c163 hs
                refine xj_goto (tgt := 202) dX0_apart_166 rfl ?_
                try rw [nI_1, show s.2.length + 1 = (s.2 ++ [u]).length by rw [List.length_append, List.length_singleton]]
                refine xj_iinc7 (cst := 1) dX0_apart_202 rfl rfl ?_
                rw [nI_1]
                refine xj_goto (tgt := 134) dX0_apart_205 rfl ?_
                first
                | exact xj_fg8 (ih_li (i + 1) (s.1.set (rk n u) (s.1.getD (rk n q) 0 + 1), s.2 ++ [u]) (Wl.set s.2.length (nI (rk n u))) _ (by omega) (by omega) hs2 (by rw [List.length_set]; exact hs1) (hwq.push hvm hlt) (by rw [List.getElem?_append_left hkl]; exact hqk) (((hdk.row (by decide) (by decide) (by omega)).oth (by decide) (by decide)).oth (by decide) (by decide)) (((hfr.set (by decide)).set (by decide)).set (by decide)) (by rw [gset (by decide)]; exact gset_self h22b) (gset_self h24c) (by rw [gset (by decide)]; exact hO4) (by obtain ⟨A, z1, z2⟩ := h23; exact ⟨A, z1, by rw [gset (by decide), gset (by decide), gset (by decide)]; exact z2⟩) (by rw [gset (by decide), gset (by decide), gset (by decide)]; exact h21))
                | exact xj_fg8 (ih_li (i + 1) s Wl _ (by omega) (by omega) hs2 hs1 hwq hqk (hdk.row (by decide) (by decide) (by omega)) (hfr.set (by decide)) h22b h24b hO3 (by obtain ⟨A, z1, z2⟩ := h23; exact ⟨A, z1, by rw [gset (by decide)]; exact z2⟩) (by rw [gset (by decide)]; exact h21))
        exact xj_fg8 (li 7 0 s Wl H' (by omega) (Nat.zero_le _) hs0 hs1 hwq hqk hdk3 hfr3 h22c h24c0 h0b h23b h21b)
      have lo : ∀ (K : Nat) (f : Nat) (k : Nat) (s : List Int32 × List Nat) (Wl : List Int32) (H : xH) (fm : Int32), f < K → (apF n g (gos n true g S) f k s = some v) → (s.1.length = 120) → (lnw n Wl s.2) → (dsk H) → (gfr [0, 11, 12, 13, 14, 15, 16, 21, 22, 23, 24] G H) → (H[22]? = some (cI 0 s.1)) → (H[24]? = some (cI 0 Wl)) → (H[0]? = some (cO 0 (cFs (cu d 22 (.int fm))))) → (∃ A : List Int32, A.length = 120 ∧ H[23]? = some (cI 0 A)) → xJ E (yX0_apart, cX0_apart, 9, (some FieldType.int), []) (xR 5 0 0) (xre (fun v_ G' => v_ = some (.int v) ∧ cPo d G G')) 0 0 88 [some (.ref 0), some (.int (nI R)), some (.int (nI S)), some (.int (nI (rk n (gos n true g S)))), some (.int (nI s.2.length)), some (.int (nI k)), none, none, none] [] H := by
        intro K
        induction K with
        | zero => intro f k s Wl H fm h; exact absurd h (Nat.not_lt_zero _)
        | succ K ih_lo =>
          intro f k s Wl H fm hK hs hs1 hwq hdk hfr h22 h24 h0 h23
          have hv2 : cV (cu d 22 (.int fm)) e n H := hv.mv h0 (hfr.2 4 (by decide))
          obtain ⟨hO2, hN2, -⟩ := id hv2
          obtain ⟨f, rfl⟩ : ∃ f0, f = f0 + 1 := ⟨f - 1, by cases f with
            | zero => cases hs
            | succ f => rfl⟩
          refine xj_aload_n dX0_apart_88 rfl rfl ?_
          refine xj_get dX0_apart_89 K0 23 (by decide) q492 hO2 rfl ?_
          refine xj_iload_n dX0_apart_92 rfl ?_
          refine xj_iald dX0_apart_93 h22 rfl (by omega) (gD_at (by omega)) ?_
          refine xj_if_ge (tgt := 220) dX0_apart_94 rfl (fun c94 => ?_) (fun c94 => ?_)
          · refine xj_aload_n dX0_apart_220 rfl rfl ?_
            refine xj_get dX0_apart_221 K0 23 (by decide) q492 hO2 rfl ?_
            refine xj_iload_n dX0_apart_224 rfl ?_
            refine xj_iald dX0_apart_225 h22 rfl (by omega) (gD_at (by omega)) ?_
            exact xj_ireturn dX0_apart_226 rfl rfl ⟨by rw [apF_yes c94 hs], (cu d 22 (.int fm)), (fun i hi => by unfold cu; rw [if_neg (fun q => hi (by rw [q]; decide))]), (fun i hi => by unfold cu; by_cases q : i = 22; (rw [if_pos q]; exact ⟨_, rfl⟩); (rw [if_neg q]; exact hsI i hi)), h0, scr.ap hc hdk hfr h22 h24 hs1 hwq.1 h23, (hfr.gfa).mono (by decide)⟩
          · obtain ⟨q, s1, s2, hqk, ha1, ha2, hs2⟩ := apF_no c94 hs
            refine xj_ic0 dX0_apart_97 ?_
            refine xj_ist6 dX0_apart_98 rfl ?_
            refine xj_iload dX0_apart_100 rfl ?_
            refine xj_ic2 dX0_apart_102 ?_
            refine xj_icmp_ge (tgt := 214) dX0_apart_103 rfl (fun c103 => absurd c103 (by decide)) (fun c103 => ?_)
            refine bd true s s1 Wl H fm q k _ _ ha1 ⟨hs1, hwq, hqk, hdk, hfr, h22, h24, h0, h23⟩ ?_
            rintro _ Wl1 H1 fm1 ⟨rfl, a1_, a2_, a3_, a4_, a5_, a6_, a7_, a8_, a9_⟩ i1 r1
            refine xj_iinc6 (cst := 1) dX0_apart_208 rfl rfl ?_
            refine xj_goto (tgt := 100) dX0_apart_211 rfl ?_
            refine xj_iload dX0_apart_100 rfl ?_
            refine xj_ic2 dX0_apart_102 ?_
            refine xj_icmp_ge (tgt := 214) dX0_apart_103 rfl (fun c103 => absurd c103 (by decide)) (fun c103 => ?_)
            refine bd false _ s2 Wl1 H1 fm1 q k _ _ ha2 ⟨a1_, a2_, a3_, a4_, a5_, a6_, a7_, a8_, a9_⟩ ?_
            rintro _ Wl2 H2 fm2 ⟨rfl, b1_, b2_, b3_, b4_, b5_, b6_, b7_, b8_, b9_⟩ i2 r2
            refine xj_iinc6 (cst := 1) dX0_apart_208 rfl rfl ?_
            refine xj_goto (tgt := 100) dX0_apart_211 rfl ?_
            refine xj_iload dX0_apart_100 rfl ?_
            refine xj_ic2 dX0_apart_102 ?_
            refine xj_icmp_ge (tgt := 214) dX0_apart_103 rfl (fun c103 => ?_) (fun c103 => absurd (by decide) c103)
            refine xj_iinc5 (cst := 1) dX0_apart_214 rfl rfl ?_
            rw [nI_1]
            refine xj_goto (tgt := 88) dX0_apart_217 rfl ?_
            exact xj_fg6 (xj_fg7 (xj_fg8 (ih_lo f (k + 1) _ Wl2 H2 fm2 (by omega) hs2 b1_ b2_ b4_ b5_ b6_ b7_ b8_ b9_)))
      exact lo 122 121 0 ((List.replicate 120 (-1)).set (rk n (gos n true g R)) 0, [(gos n true g R)]) _ _ fm0 (by omega) hap hi1 hi2 hi3 hi4 hi5 hi6 hi7 hi8
    · refine xj_bipush (v := -4) dX0_apart_22 rfl ?_
      exact xj_ireturn dX0_apart_24 rfl rfl ⟨by have h6 : n = 6 := (by have : 5 < n := Nat.lt_of_not_le fun q => c19 (nI_le (b := 5) q (by decide)); omega); unfold o_apart at h; rw [if_pos hbb, if_pos h6] at h; cases h; rfl, hP2⟩
  · refine xj_icm1 dX0_apart_9 ?_
    exact xj_ireturn dX0_apart_10 rfl rfl ⟨by unfold o_apart at h; rw [if_neg (by rw [b1_z c6]; decide)] at h; cases h; rfl, hP2⟩
end A41
