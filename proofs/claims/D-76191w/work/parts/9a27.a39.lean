/-! ===== the class: a row out of a sheet ===== -/
set_option maxRecDepth 100000
theorem kV_X0_rowTold : xsV yX0_rowTold cX0_rowTold 4 (some FieldType.int) 1 := ⟨q1621, qs74, q151, q1622, by decide, by decide, by decide +kernel⟩
theorem scr.apps {G K : xH} (h : scr G) : scr (G ++ K) := by
  have ap : ∀ {i : Nat} {x : xC}, G[i]? = some x → (G ++ K)[i]? = some x := fun hx => by rw [List.getElem?_append_left (List.getElem?_eq_some_iff.mp hx).1]; exact hx
  obtain ⟨⟨q1, F, f1, f2⟩, q2, ⟨A, a1, a2⟩, ⟨B, b1, b2⟩⟩ := h
  refine ⟨⟨fun i i1 i2 => ?_, F, f1, ap f2⟩, fun i i1 i2 => ?_, ⟨A, a1, ap a2⟩, ⟨B, b1, ap b2⟩⟩
  · obtain ⟨M, m1, m2⟩ := q1 i i1 i2; exact ⟨M, m1, ap m2⟩
  · obtain ⟨M, m1, m2⟩ := q2 i i1 i2; exact ⟨M, m1, ap m2⟩
theorem cPo.junk {d : Nat → Value} {G H K : xH} (h : cPo d G H) : cPo d G (H ++ K) := by
  obtain ⟨d', p1, p2, p3, p4, p5⟩ := h
  exact ⟨d', p1, p2, by rw [List.getElem?_append_left (List.getElem?_eq_some_iff.mp p3).1]; exact p3, p4.apps, p5.apps⟩
theorem rf_out {i : Int32} {n x : Nat} (h : ¬ (0 ≤ i.toInt ∧ i.toInt + n ≤ x)) (hn : n < 7 := by omega) : cOut i 0 (nI n) x 6 := by
  unfold cOut
  rw [nI_toInt (by omega)]
  by_cases c : i < 0
  · exact Or.inl c
  · have : 0 ≤ i.toInt := Int32.le_iff_toInt_le.mp (Int32.not_lt.mp c)
    exact Or.inr (Or.inr (Or.inr (Or.inl (by omega))))
theorem cpL_dg {xs : List Int64} {L1 : List Int32} {A n p : Nat} (h : A + n ≤ xs.length) (hp : p < n) (hl : n ≤ L1.length) : (cpL (xs.map Int64.toInt32) L1 A 0 n).getD p 0 = (xs.getD (A + p) 0).toInt32 := by
  rw [List.getD_eq_getElem?_getD, cpL_at (show p < L1.length by omega), if_pos (by omega)]
  show (xs.map Int64.toInt32).getD (A + (p - 0)) 0 = _
  rw [Nat.sub_zero, shm_getD (by omega)]
theorem sh_int {xs : List Int64} {j : Nat} (h : shN 0 xs) (hj : j < xs.length) : (xs.getD j 0).toInt = (xs.getD j 0).toInt32.toInt := by
  have e := h.2.2 _ (sh_mem hj)
  rw [show nrw (nI 0) (xs.getD j 0) = (xs.getD j 0).toInt32.toInt8.toInt32.toInt64 from rfl] at e
  rw [← e, i64_32, Int32.toInt_toInt64]
section OPS
variable {n : Nat} {sh : Nat → Option (Nat × List Int64)} {x : Nat} {i : Int32} {q : Nat × List Int64}
theorem or_n (hb : inI (nI x) 4 = true) (tx : tn (nI x) = x) (hq : sh x = none) : o_rowFrom n sh (nI x) i = -11 := by unfold o_rowFrom; rw [hb, tx, if_pos rfl]; rw [hq]
theorem or_x (hb : inI (nI x) 4 = true) (tx : tn (nI x) = x) (hq : sh x = some q) (h : ¬ q.1 = 0) : o_rowFrom n sh (nI x) i = -13 := by unfold o_rowFrom; rw [hb, tx, if_pos rfl]; rw [hq]; exact if_neg h
theorem or_o (hb : inI (nI x) 4 = true) (tx : tn (nI x) = x) (hq : sh x = some q) (h : q.1 = 0) (ho : ¬ (0 ≤ i.toInt ∧ i.toInt + n ≤ q.2.length)) : o_rowFrom n sh (nI x) i = -12 := by unfold o_rowFrom; rw [hb, tx, if_pos rfl]; rw [hq]; exact (if_pos h).trans (if_neg ho)
theorem or_y (hb : inI (nI x) 4 = true) (tx : tn (nI x) = x) (hq : sh x = some q) (h : q.1 = 0) (ho : 0 ≤ i.toInt ∧ i.toInt + n ≤ q.2.length) : o_rowFrom n sh (nI x) i = rfF n q.2 n (tn i) 0 := by unfold o_rowFrom; rw [hb, tx, if_pos rfl]; rw [hq]; exact (if_pos h).trans (if_pos ho)
end OPS
section A39
variable {E : xE} {G : xH} {d e : Nat → Value} {n : Nat}
theorem A_rowTold {r : Nat} {L : List Int32}  (hv : cV d e n G) (hL : G[r]? = some (cI 1 L)) (hln : n ≤ L.length) : xMet E yX0_rowTold cX0_rowTold 4 (some FieldType.int) 1 0 0 [.ref 0, .ref r] G (xrv (some (.int (w_rt n (fun p => L.getD p 0)))) G) := by
  obtain ⟨hO, hN, hn0, h1n, hn6⟩ := id hv
  refine xMet.of (lv := [some (.ref 0), some (.ref r), none, none]) rfl rfl (Nat.le_of_ble_eq_true rfl) ?_
  refine xj_ic0 dX0_rowTold_0 ?_
  refine xj_istn2 dX0_rowTold_1 rfl ?_
  refine xj_ic0 dX0_rowTold_2 ?_
  refine xj_istn3 dX0_rowTold_3 rfl ?_
  have lp : ∀ (K : Nat) (p : Nat) (s : Nat), n - p < K → (p ≤ n) → (s < 2 ^ 7) → (lpN (fun p s => s ||| bqD n (fun p => L.getD p 0) p) p (n - p) s = seD n (fun p => L.getD p 0)) → xJ E (yX0_rowTold, cX0_rowTold, 4, (some FieldType.int), []) (xR 1 0 0) (xrv (some (.int (w_rt n (fun p => L.getD p 0)))) G) 0 0 4 [some (.ref 0), some (.ref r), some (.int (nI s)), some (.int (nI p))] [] G := by
    intro K
    induction K with
    | zero => intro p s h; exact absurd h (Nat.not_lt_zero _)
    | succ K ih_lp =>
      intro p s hK hp hs7 hs
      refine xj_iload_n dX0_rowTold_4 rfl ?_
      refine xj_aload_n dX0_rowTold_5 rfl rfl ?_
      refine xj_get dX0_rowTold_6 K0 4 (by decide) q473 hO rfl ?_
      refine xj_getN dX0_rowTold_9 K3 0 (by decide) q321 hN (congrArg some hn0) ?_
      refine xj_icmp_ge (tgt := 50) dX0_rowTold_12 rfl (fun c12 => ?_) (fun c12 => ?_)
      · have hpn : n ≤ p := Nat.le_of_not_lt fun h => absurd c12 (nI_ge h (by omega))
        rw [lp_end _ hpn] at hs
        refine xj_iload_n dX0_rowTold_50 rfl ?_
        refine xj_cS dX0_rowTold_51 q1623 kS_J7_bitCount (M_bitCount hs7) rfl rfl (Nat.le_of_ble_eq_true rfl) ⟨(Nat.le_of_ble_eq_true rfl), (Nat.le_of_ble_eq_true rfl)⟩ (Nat.le_of_ble_eq_true rfl) (Nat.le_of_ble_eq_true rfl) ?_
        refine xj_aload_n dX0_rowTold_54 rfl rfl ?_
        refine xj_get dX0_rowTold_55 K0 4 (by decide) q473 hO rfl ?_
        refine xj_getN dX0_rowTold_58 K3 0 (by decide) q321 hN (congrArg some hn0) ?_
        refine xj_icmp_ne (tgt := 72) dX0_rowTold_61 rfl (fun c61 => ?_) (fun c61 => ?_)
        · refine xj_bipush (v := -3) dX0_rowTold_72 rfl ?_
          exact xj_ireturn dX0_rowTold_74 rfl rfl (xrv_i (by unfold w_rt; first | (rw [if_pos hpc]; done) | (rw [if_neg (fun q => c61 (by rw [hs, q]))]; done)))
        · have hpc : pc64 (seD n (fun p => L.getD p 0)) = n := by rw [← hs]; exact (nI_eq (by have := pc64_le s; omega) (by omega)).mp c61
          obtain ⟨hrw, hrl⟩ := rwL_vD (L := L) (by omega) (fun p hp => by rw [List.getD_eq_getElem?_getD, List.getElem?_eq_getElem (show p < L.length by omega)]; rfl) (se_all (by omega) hpc)
          refine xj_aload_n dX0_rowTold_64 rfl rfl ?_
          refine xj_aload_n dX0_rowTold_65 rfl rfl ?_
          refine xj_cV dX0_rowTold_66 q632 kV_X0_told (A_told hv hL hrw hrl) hO rfl rfl rfl rfl (Nat.le_of_ble_eq_true rfl) ⟨(Nat.le_of_ble_eq_true rfl), (Nat.le_of_ble_eq_true rfl)⟩ (Nat.le_of_ble_eq_true rfl) (Nat.le_of_ble_eq_true rfl) ?_
          refine xj_goto (tgt := 74) dX0_rowTold_69 rfl ?_
          exact xj_ireturn dX0_rowTold_74 rfl rfl (xrv_i (by unfold w_rt; first | (rw [if_pos hpc]; done) | (rw [if_neg (fun q => c61 (by rw [hs, q]))]; done)))
      · have hpn : p < n := Nat.lt_of_not_le fun h => c12 (nI_le h (by omega))
        have hLp : L[p]? = some (L.getD p 0) := by rw [List.getD_eq_getElem?_getD, List.getElem?_eq_getElem (show p < L.length by omega)]; rfl
        rw [lp_step _ hpn] at hs
        have hb7 := bqD_lt (n := n) (p := p) (D := (fun p => L.getD p 0)) (by omega)
        refine xj_iload_n dX0_rowTold_15 rfl ?_
        refine xj_aload_n dX0_rowTold_16 rfl rfl ?_
        refine xj_iload_n dX0_rowTold_17 rfl ?_
        refine xj_bald dX0_rowTold_18 hL rfl (by omega) hLp ?_
        refine xj_ic1 dX0_rowTold_19 ?_
        refine xj_aload_n dX0_rowTold_20 rfl rfl ?_
        refine xj_get dX0_rowTold_21 K0 4 (by decide) q473 hO rfl ?_
        refine xj_getN dX0_rowTold_24 K3 0 (by decide) q321 hN (congrArg some hn0) ?_
        refine xj_cS dX0_rowTold_27 q585 kS_X0_isIn A_isIn rfl rfl (Nat.le_of_ble_eq_true rfl) ⟨(Nat.le_of_ble_eq_true rfl), (Nat.le_of_ble_eq_true rfl)⟩ (Nat.le_of_ble_eq_true rfl) (Nat.le_of_ble_eq_true rfl) ?_
        refine xj_sI_if_eq (tgt := 41) (M := 42) dX0_rowTold_30 rfl (fun c30 k => by
            refine xj_ic0 dX0_rowTold_41 ?_
            exact k) (fun c30 k => by
            refine xj_ic1 dX0_rowTold_33 ?_
            refine xj_aload_n dX0_rowTold_34 rfl rfl ?_
            refine xj_iload_n dX0_rowTold_35 rfl ?_
            refine xj_bald dX0_rowTold_36 hL rfl (by omega) hLp ?_
            refine xj_ishl dX0_rowTold_37 ?_
            refine xj_goto (tgt := 42) dX0_rowTold_38 rfl ?_
            exact k) ?_
        refine xj_top (y := nI (bqD n (fun p => L.getD p 0) p)) (by unfold bqD; rw [b1_if]; cases hi : inC (L.getD p 0) 1 (nI n) with
        | false => rfl
        | true => (obtain ⟨k, k1, k2, k3⟩ := inC_d (by omega) hi; show (1 : Int32) <<< (L.getD p 0 &&& 31) = nI (2 ^ tn (L.getD p 0)); rw [k3, show tn (nI k) = k from nI_clamp (by omega)]; exact c_shl k (by omega))) ?_
        refine xj_ior dX0_rowTold_42 ?_
        rw [nI_or]
        refine xj_istn2 dX0_rowTold_43 rfl ?_
        refine xj_iinc3 (cst := 1) dX0_rowTold_44 rfl rfl ?_
        rw [nI_1]
        refine xj_goto (tgt := 4) dX0_rowTold_47 rfl ?_
        exact ih_lp (p + 1) _ (by omega) (by omega) (Nat.or_lt_two_pow hs7 hb7) hs
  exact lp (n + 1) 0 0 (by omega) (by omega) (by decide) rfl
theorem A_rowFrom {k i : Int32} {sh : Nat → Option (Nat × List Int64)} {sa : Nat → Nat}  (hmod : xMod E) (hv : cV d e n G) (hs : sIn d) (hc : scr G) (hSh : cSh sh sa G) : xMetW E yX0_rowFrom cX0_rowFrom 4 (some FieldType.int) [(9, 47, 48, 645), (9, 47, 52, 689), (9, 47, 56, 341)] 2 3 898 [.ref 0, .int k, .int i] G (xre (fun v_ G' => v_ = some (.int (o_rowFrom n sh k i)) ∧ cPo d G G')) := by
  obtain ⟨hO, hN, hn0, h1n, hn6⟩ := id hv
  have hP := cPo.refl hv hs hc
  obtain ⟨L1, hl1, h11⟩ := hc.at (r := 11) (by decide) (by decide)
  refine xMetW.of (lv := [some (.ref 0), some (.int k), some (.int i), none]) rfl rfl (Nat.le_of_ble_eq_true rfl) ?_
  refine xj_iload_n dX0_rowFrom_0 rfl ?_
  refine xj_cS dX0_rowFrom_1 q1468 kS_X0_isShelf A_isShelf rfl rfl (Nat.le_of_ble_eq_true rfl) ⟨(Nat.le_of_ble_eq_true rfl), (Nat.le_of_ble_eq_true rfl)⟩ (Nat.le_of_ble_eq_true rfl) (Nat.le_of_ble_eq_true rfl) ?_
  refine xj_if_ne (tgt := 9) dX0_rowFrom_4 rfl (fun c4 => ?_) (fun c4 => ?_)
  · have hb := b1_nz c4
    obtain ⟨x, hx, hx31, rfl⟩ := inI_t hb
    have tx : tn (nI x) = x := nI_clamp hx31
    have hx1 := hSh.2.1 x hx
    cases hq : sh x with
    | none =>
      rw [hq] at hx1
      have hx1 : G[35 + 2 * x]? = some (cO 5 [.null]) := hx1
      refine xj_aload_n dX0_rowFrom_9 rfl rfl ?_
      refine xj_get dX0_rowFrom_10 K0 34 (by decide) q506 hO rfl ?_
      refine xj_iload_n dX0_rowFrom_13 rfl ?_
      refine xj_aald dX0_rowFrom_14 hSh.1 rfl rfl rfl (by omega) (sh_ref hx) ?_
      refine xj_getN dX0_rowFrom_15 K5 0 (by decide) q381 hx1 rfl ?_
      refine xj_castN dX0_rowFrom_18 ?_
      refine xj_astn3 dX0_rowFrom_21 rfl rfl ?_
      refine xj_aload_n dX0_rowFrom_22 rfl rfl ?_
      refine xj_iload_n dX0_rowFrom_23 rfl ?_
      refine xj_aload_n dX0_rowFrom_24 rfl rfl ?_
      refine xj_get dX0_rowFrom_25 K0 8 (by decide) q477 hO rfl ?_
      refine xj_ic0 dX0_rowFrom_28 ?_
      refine xj_aload_n dX0_rowFrom_29 rfl rfl ?_
      refine xj_get dX0_rowFrom_30 K0 4 (by decide) q473 hO rfl ?_
      refine xj_getN dX0_rowFrom_33 K3 0 (by decide) q321 hN (congrArg some hn0) ?_
      refine xj_copyN dX0_rowFrom_36 q732 q734 q733 q165 (Or.inl rfl) (Or.inr ⟨_, rfl⟩) (Or.inl rfl) (xrm_R (Nat.le_of_ble_eq_true rfl) (Nat.le_of_ble_eq_true rfl) (Nat.le_of_ble_eq_true rfl)) (Nat.le_of_ble_eq_true rfl) (fun j_ => ?_)
      refine xjT_catchU [(9, 47, 48, 645)] (9, 47, 52, 689) [(9, 47, 56, 341)] rfl (fun z hz => by
        rcases List.mem_cons.mp hz with rfl | hz
        · exact Or.inr ⟨by decide, _, q1454, nc_NP_CC⟩
        cases hz) rfl (by decide) q1565 (Or.inl rfl) dX0_rowFrom_52 (Nat.le_of_ble_eq_true rfl) rfl ?_
      refine xj_bipush (v := -11) dX0_rowFrom_53 rfl ?_
      exact xj_ireturn dX0_rowFrom_55 rfl rfl ⟨by rw [or_n hb tx hq], hP.junk⟩
    | some q =>
      rw [hq] at hx1
      obtain ⟨a1, a2, a3, a4⟩ := hx1
      have a41 := a4.2.1
      by_cases hts : q.1 = 0
      · have a3 : G[sa x]? = some (cI 1 (q.2.map Int64.toInt32)) := by rw [hts] at a3; exact a3
        by_cases hout : 0 ≤ i.toInt ∧ i.toInt + n ≤ q.2.length
        · obtain ⟨A, hA, rfl⟩ := i_nat (s := i) (Int32.not_lt.mpr (Int32.le_iff_toInt_le.mpr hout.1)) (b := 40) (by omega)
          have hA2 := hout.2
          rw [nI_toInt (by omega)] at hA2
          have tA : tn (nI A) = A := nI_clamp (by omega)
          refine xj_aload_n dX0_rowFrom_9 rfl rfl ?_
          refine xj_get dX0_rowFrom_10 K0 34 (by decide) q506 hO rfl ?_
          refine xj_iload_n dX0_rowFrom_13 rfl ?_
          refine xj_aald dX0_rowFrom_14 hSh.1 rfl rfl rfl (by omega) (sh_ref hx) ?_
          refine xj_getN dX0_rowFrom_15 K5 0 (by decide) q381 a1 rfl ?_
          refine xj_castE dX0_rowFrom_18 q348 a3 xnm_I1 ?_
          refine xj_astn3 dX0_rowFrom_21 rfl rfl ?_
          refine xj_aload_n dX0_rowFrom_22 rfl rfl ?_
          refine xj_iload_n dX0_rowFrom_23 rfl ?_
          refine xj_aload_n dX0_rowFrom_24 rfl rfl ?_
          refine xj_get dX0_rowFrom_25 K0 8 (by decide) q477 hO rfl ?_
          refine xj_ic0 dX0_rowFrom_28 ?_
          refine xj_aload_n dX0_rowFrom_29 rfl rfl ?_
          refine xj_get dX0_rowFrom_30 K0 4 (by decide) q473 hO rfl ?_
          refine xj_getN dX0_rowFrom_33 K3 0 (by decide) q321 hN (congrArg some hn0) ?_
          refine xj_copy (t := 1) (sp := A) (dp := 0) (N := n) dX0_rowFrom_36 q732 q734 q733 q165 a3 h11 rfl rfl rfl rfl rfl (by omega) (by decide) (by omega) (by rw [List.length_map]; omega) (by omega) (fun i_ hi => fit_0 (by rw [← hts]; exact a4) (by omega)) (Nat.le_of_ble_eq_true rfl) ⟨(Nat.le_of_ble_eq_true rfl), (Nat.le_of_ble_eq_true rfl)⟩ ?_
          have hv2 : cV d e n (G.set 11 (cI 1 (cpL (q.2.map Int64.toInt32) L1 A 0 n))) := hv.set (by decide) (by decide)
          obtain ⟨hO2, hN2, -⟩ := id hv2
          refine xj_aload_n dX0_rowFrom_39 rfl rfl ?_
          refine xj_aload_n dX0_rowFrom_40 rfl rfl ?_
          refine xj_get dX0_rowFrom_41 K0 8 (by decide) q477 hO2 rfl ?_
          refine xj_cV dX0_rowFrom_44 q1619 kV_X0_rowTold (A_rowTold hv2 (gset_self h11) (by rw [cpL_len]; omega)) hO2 rfl rfl rfl rfl (Nat.le_of_ble_eq_true rfl) ⟨(Nat.le_of_ble_eq_true rfl), (Nat.le_of_ble_eq_true rfl)⟩ (Nat.le_of_ble_eq_true rfl) (Nat.le_of_ble_eq_true rfl) ?_
          exact xj_ireturn dX0_rowFrom_47 rfl rfl ⟨by rw [or_y hb tx hq hts hout, tA]; congr 2; exact rt_law (by omega) h1n (fun p hp => by rw [cpL_dg (by omega) hp (by omega)]; exact sh_int (by rw [← hts]; exact a4) (by omega)), hP.row (by decide) (by decide) (by rw [cpL_len]; exact hl1)⟩
        · refine xj_aload_n dX0_rowFrom_9 rfl rfl ?_
          refine xj_get dX0_rowFrom_10 K0 34 (by decide) q506 hO rfl ?_
          refine xj_iload_n dX0_rowFrom_13 rfl ?_
          refine xj_aald dX0_rowFrom_14 hSh.1 rfl rfl rfl (by omega) (sh_ref hx) ?_
          refine xj_getN dX0_rowFrom_15 K5 0 (by decide) q381 a1 rfl ?_
          refine xj_castE dX0_rowFrom_18 q348 a3 xnm_I1 ?_
          refine xj_astn3 dX0_rowFrom_21 rfl rfl ?_
          refine xj_aload_n dX0_rowFrom_22 rfl rfl ?_
          refine xj_iload_n dX0_rowFrom_23 rfl ?_
          refine xj_aload_n dX0_rowFrom_24 rfl rfl ?_
          refine xj_get dX0_rowFrom_25 K0 8 (by decide) q477 hO rfl ?_
          refine xj_ic0 dX0_rowFrom_28 ?_
          refine xj_aload_n dX0_rowFrom_29 rfl rfl ?_
          refine xj_get dX0_rowFrom_30 K0 4 (by decide) q473 hO rfl ?_
          refine xj_getN dX0_rowFrom_33 K3 0 (by decide) q321 hN (congrArg some hn0) ?_
          refine xj_copyZ (t := 1) dX0_rowFrom_36 q732 q734 q733 q165 a3 h11 ⟨rfl, List.length_map ..⟩ ⟨rfl, hl1⟩ rfl rfl (by omega) (by decide) (rf_out hout) (xrm_R (Nat.le_of_ble_eq_true rfl) (Nat.le_of_ble_eq_true rfl) (Nat.le_of_ble_eq_true rfl)) (Nat.le_of_ble_eq_true rfl) (fun j_ => ?_)
          refine xjT_catchU [(9, 47, 48, 645), (9, 47, 52, 689)] (9, 47, 56, 341) [] rfl (fun z hz => by
            rcases List.mem_cons.mp hz with rfl | hz
            · exact Or.inr ⟨by decide, _, q1454, nc_AI_CC⟩
            rcases List.mem_cons.mp hz with rfl | hz
            · exact Or.inr ⟨by decide, _, q1565, nc_AI_NP⟩
            cases hz) rfl (by decide) q689 (Or.inr cy_AI_IO) dX0_rowFrom_56 (Nat.le_of_ble_eq_true rfl) rfl ?_
          refine xj_bipush (v := -12) dX0_rowFrom_57 rfl ?_
          exact xj_ireturn dX0_rowFrom_59 rfl rfl ⟨by rw [or_o hb tx hq hts hout], hP.junk⟩
      · refine xj_aload_n dX0_rowFrom_9 rfl rfl ?_
        refine xj_get dX0_rowFrom_10 K0 34 (by decide) q506 hO rfl ?_
        refine xj_iload_n dX0_rowFrom_13 rfl ?_
        refine xj_aald dX0_rowFrom_14 hSh.1 rfl rfl rfl (by omega) (sh_ref hx) ?_
        refine xj_getN dX0_rowFrom_15 K5 0 (by decide) q381 a1 rfl ?_
        refine xj_castNo hmod dX0_rowFrom_18 q348 a3 (xnm_sh a4.1) (nc_sh (s := 0) a4.1 (by decide) hts).1 (nc_sh (s := 0) a4.1 (by decide) hts).2 (xrm_R (Nat.le_of_ble_eq_true rfl) (Nat.le_of_ble_eq_true rfl) (Nat.le_of_ble_eq_true rfl)) (fun j_ => ?_)
        refine xjT_catchU [] (9, 47, 48, 645) [(9, 47, 52, 689), (9, 47, 56, 341)] rfl (fun z hz => by cases hz) rfl (by decide) q1454 (Or.inl rfl) dX0_rowFrom_48 (Nat.le_of_ble_eq_true rfl) rfl ?_
        refine xj_bipush (v := -13) dX0_rowFrom_49 rfl ?_
        exact xj_ireturn dX0_rowFrom_51 rfl rfl ⟨by rw [or_x hb tx hq hts], hP.junk⟩
  · refine xj_icm1 dX0_rowFrom_7 ?_
    exact xj_ireturn dX0_rowFrom_8 rfl rfl ⟨by unfold o_rowFrom; rw [b1_z c4]; rfl, hP⟩
end A39
