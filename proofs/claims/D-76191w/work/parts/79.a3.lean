/-! ===== the class: rows (3) ===== -/
set_option maxRecDepth 100000
theorem kS_X0_isIn : xsS yX0_isIn cX0_isIn 3 (some FieldType.boolean) 3 := ⟨q586, q151, q587, by decide, by decide, by decide +kernel⟩
theorem kV_X0_manyRows : xsV yX0_manyRows cX0_manyRows 3 (some FieldType.int) 0 := ⟨q679, qs20, q151, q680, by decide, by decide, by decide +kernel⟩
theorem kV_X0_read : xsV yX0_read cX0_read 6 (some FieldType.boolean) 2 := ⟨q598, qs7, q151, q599, by decide, by decide, by decide +kernel⟩
theorem kV_X0_told : xsV yX0_told cX0_told 4 (some FieldType.int) 1 := ⟨q634, qs14, q151, q635, by decide, by decide, by decide +kernel⟩
theorem kV_X0_turnRound : xsV yX0_turnRound cX0_turnRound 5 none 2 := ⟨q668, qs19, q151, q669, by decide, by decide, by decide +kernel⟩
theorem c_m2 (x : Int32) : x - 2 = x - 1 - 1 := by
  rw [Int32.sub_eq_add_neg, Int32.sub_eq_add_neg, Int32.sub_eq_add_neg, Int32.add_assoc]; rfl
section A3
variable {E : xE} {G : xH} {d e : Nat → Value} {n : Nat}
theorem A_turnRound {r f : Nat} {L : List Int32}  (hv : cV d e n G) (hL : G[r]? = some (cI 1 L)) (hr0 : r ≠ 0) (hr4 : r ≠ 4) (hD : dgL n L) (hf : f < n) (hl31 : L.length < 2147483648) : xMet E yX0_turnRound cX0_turnRound 5 none 1 0 0 [.ref 0, .ref r, .int (nI f)] G (xre (fun v G' => v = none ∧ ∃ M : List Int32, M.length = L.length ∧ (∀ p, p < n → M[p]? = if f ≤ p then L[f + n - 1 - p]? else L[p]?) ∧ G' = G.set r (cI 1 M))) := by
  obtain ⟨hO, hN, hn0, h1n, hn6⟩ := id hv
  have hln := hD.len h1n
  refine xMet.of (lv := [some (.ref 0), some (.ref r), some (.int (nI f)), none, none]) rfl rfl (Nat.le_of_ble_eq_true rfl) ?_
  refine xj_iload_n dX0_turnRound_0 rfl ?_
  refine xj_istn3 dX0_turnRound_1 rfl ?_
  refine xj_aload_n dX0_turnRound_2 rfl rfl ?_
  refine xj_get dX0_turnRound_3 K0 4 (by decide) q473 hO rfl ?_
  refine xj_getN dX0_turnRound_6 K3 0 (by decide) q321 hN (congrArg some hn0) ?_
  refine xj_ic1 dX0_turnRound_9 ?_
  refine xj_isub dX0_turnRound_10 ?_
  rw [nI_sub1 h1n]
  refine xj_ist4 dX0_turnRound_11 rfl ?_
  refine xj_eq rfl rfl (show G = G.set r (cI 1 L) from (gset_id hL).symm) ?_
  have lp : ∀ (K : Nat) (i : Nat) (j : Nat) (M : List Int32), j < K → (i + j = f + n - 1 ∧ f ≤ i ∧ j < n) → (tnL n f i j L M) → xJ E (yX0_turnRound, cX0_turnRound, 5, none, []) (xR 1 0 0) (xre (fun v G' => v = none ∧ ∃ M : List Int32, M.length = L.length ∧ (∀ p, p < n → M[p]? = if f ≤ p then L[f + n - 1 - p]? else L[p]?) ∧ G' = G.set r (cI 1 M))) 0 0 13 [some (.ref 0), some (.ref r), some (.int (nI f)), some (.int (nI i)), some (.int (nI j))] [] (G.set r (cI 1 M)) := by
    intro K
    induction K with
    | zero => intro i j M h; exact absurd h (Nat.not_lt_zero _)
    | succ K ih_lp =>
      intro i j M hK hij hM
      refine xj_iload_n dX0_turnRound_13 rfl ?_
      refine xj_iload dX0_turnRound_14 rfl ?_
      refine xj_icmp_ge (tgt := 35) dX0_turnRound_16 rfl (fun c16 => ?_) (fun c16 => ?_)
      · exact xj_return dX0_turnRound_35 rfl (by have hge : j ≤ i := (Nat.le_of_not_lt fun h => absurd c16 (nI_ge h (by omega))); obtain ⟨z1, z2⟩ := tnL_e hM (by omega) (by omega) hge (by omega) hf; exact ⟨rfl, M, z1, z2, rfl⟩)
      · have hlt : i < j := Nat.lt_of_not_le fun h => c16 (nI_le h (by omega))
        have hml := hM.1
        refine xj_aload_n dX0_turnRound_19 rfl rfl ?_
        refine xj_iload_n dX0_turnRound_20 rfl ?_
        refine xj_iload dX0_turnRound_21 rfl ?_
        refine xj_cS dX0_turnRound_23 q670 kS_X0_change (A_change (gset_self hL) (by omega) (by omega) (by omega) (tnL_b hM hD (by omega) hf) (tnL_b hM hD (by omega) hf)) rfl rfl (Nat.le_of_ble_eq_true rfl) ⟨(Nat.le_of_ble_eq_true rfl), (Nat.le_of_ble_eq_true rfl)⟩ (Nat.le_of_ble_eq_true rfl) (Nat.le_of_ble_eq_true rfl) ?_
        rw [gset_set]
        refine xj_iinc3 (cst := 1) dX0_turnRound_26 rfl rfl ?_
        rw [nI_1]
        refine xj_iinc4 (cst := (-1)) dX0_turnRound_29 rfl rfl ?_
        rw [nI_m1 (by omega)]
        refine xj_goto (tgt := 13) dX0_turnRound_32 rfl ?_
        exact ih_lp (i + 1) (j - 1) _ (by omega) (by omega) (tnL_s hM hln (by omega) (by omega) hlt (by omega))
  exact lp n f (n - 1) L (by omega) (by omega) tnL_0
theorem A_toldTurned {r R : Nat} {L : List Int32}  (hv : cV d e n G) (hL : G[r]? = some (cI 1 L)) (hr0 : r ≠ 0) (hr4 : r ≠ 4) (hR : rwL n R L) (hRm : R ∈ rws n) (hl31 : L.length < 2147483648) : xMet E yX0_toldTurned cX0_toldTurned 2 (some FieldType.int) 2 0 0 [.ref 0, .ref r] G (xre (fun v G' => v = some (.int (nI (trn n R n 0))) ∧ ∃ M : List Int32, M.length = L.length ∧ rwL n (trn n R n 0) M ∧ G' = G.set r (cI 1 M))) := by
  obtain ⟨hO, hN, hn0, h1n, hn6⟩ := id hv
  have htr := trn_ok (by omega) hRm
  refine xMet.of (lv := [some (.ref 0), some (.ref r)]) rfl rfl (Nat.le_of_ble_eq_true rfl) ?_
  refine xj_aload_n dX0_toldTurned_0 rfl rfl ?_
  refine xj_aload_n dX0_toldTurned_1 rfl rfl ?_
  refine xj_ic0 dX0_toldTurned_2 ?_
  refine xj_dV dX0_toldTurned_3 q666 kV_X0_turnRound (A_turnRound (f := 0) hv hL hr0 hr4 hR.dg (by omega) hl31) hO rfl rfl rfl rfl (Nat.le_of_ble_eq_true rfl) ⟨(Nat.le_of_ble_eq_true rfl), (Nat.le_of_ble_eq_true rfl)⟩ (Nat.le_of_ble_eq_true rfl) (Nat.le_of_ble_eq_true rfl) ?_
  rintro _ _ ⟨rfl, M, hM1, hM2, rfl⟩
  have hv2 : cV d e n (G.set r (cI 1 M)) := hv.set hr0 hr4
  obtain ⟨hO2, hN2, -⟩ := id hv2
  have hRM : rwL n (trn n R n 0) M := fun p hp => by rw [hM2 p hp, if_pos (Nat.zero_le _), htr.2 p hp, show 0 + n - 1 - p = n - 1 - p by omega]; exact hR _ (by omega)
  refine xj_aload_n dX0_toldTurned_6 rfl rfl ?_
  refine xj_aload_n dX0_toldTurned_7 rfl rfl ?_
  refine xj_cV dX0_toldTurned_8 q632 kV_X0_told (A_told hv2 (gset_self hL) hRM htr.1) hO2 rfl rfl rfl rfl (Nat.le_of_ble_eq_true rfl) ⟨(Nat.le_of_ble_eq_true rfl), (Nat.le_of_ble_eq_true rfl)⟩ (Nat.le_of_ble_eq_true rfl) (Nat.le_of_ble_eq_true rfl) ?_
  exact xj_ireturn dX0_toldTurned_11 rfl rfl ⟨rfl, M, hM1, hRM, rfl⟩
theorem A_goesNext {r i : Nat} {L : List Int32}  (hv : cV d e n G) (hL : G[r]? = some (cI 1 L)) (hr0 : r ≠ 0) (hr4 : r ≠ 4) (hR : rwL n (rb n i) L) (hi : i < wy n) (hl31 : L.length < 2147483648) : xMet E yX0_goesNext cX0_goesNext 4 none 2 0 0 [.ref 0, .ref r] G (xre (fun v G' => v = none ∧ ∃ M : List Int32, M.length = L.length ∧ rwL n (nxR n i) M ∧ G' = G.set r (cI 1 M))) := by
  obtain ⟨hO, hN, hn0, h1n, hn6⟩ := id hv
  refine xMet.of (lv := [some (.ref 0), some (.ref r), none, none]) rfl rfl (Nat.le_of_ble_eq_true rfl) ?_
  refine xj_aload_n dX0_goesNext_0 rfl rfl ?_
  refine xj_get dX0_goesNext_1 K0 4 (by decide) q473 hO rfl ?_
  refine xj_getN dX0_goesNext_4 K3 0 (by decide) q321 hN (congrArg some hn0) ?_
  refine xj_ic2 dX0_goesNext_7 ?_
  refine xj_isub dX0_goesNext_8 ?_
  refine xj_istn2 dX0_goesNext_9 rfl ?_
  have f1 : ∀ (K : Nat) (q : Nat), 0 < K → (lsd n (rb n i) (n - 1) = q + 1) → (q < n - 1) → xJ E (yX0_goesNext, cX0_goesNext, 4, none, []) (xR 2 0 0) (xre (fun v G' => v = none ∧ ∃ M : List Int32, M.length = L.length ∧ rwL n (nxR n i) M ∧ G' = G.set r (cI 1 M))) 0 0 28 [some (.ref 0), some (.ref r), some (.int (nI q)), none] [] G := by
    intro K
    induction K with
    | zero => intro q h; exact absurd h (Nat.not_lt_zero _)
    | succ K ih_f1 =>
      intro q hK hq hqn
      have hx := nx_s (by omega) h1n hi hq
      refine xj_iload_n dX0_goesNext_28 rfl ?_
      refine xj_if_ge (tgt := 33) dX0_goesNext_29 rfl (fun c29 => ?_) (fun c29 => absurd (nI_le (a := 0) (by omega) (by omega)) c29)
      refine xj_aload_n dX0_goesNext_33 rfl rfl ?_
      refine xj_get dX0_goesNext_34 K0 4 (by decide) q473 hO rfl ?_
      refine xj_getN dX0_goesNext_37 K3 0 (by decide) q321 hN (congrArg some hn0) ?_
      refine xj_ic1 dX0_goesNext_40 ?_
      refine xj_isub dX0_goesNext_41 ?_
      rw [nI_sub1 h1n]
      refine xj_istn3 dX0_goesNext_42 rfl ?_
      have lt : ∀ (K : Nat) (t : Nat), t < K → (t < n) → (ltd n (rb n i) q (t + 1) = ltd n (rb n i) q n) → xJ E (yX0_goesNext, cX0_goesNext, 4, none, []) (xR 2 0 0) (xre (fun v G' => v = none ∧ ∃ M : List Int32, M.length = L.length ∧ rwL n (nxR n i) M ∧ G' = G.set r (cI 1 M))) 0 0 43 [some (.ref 0), some (.ref r), some (.int (nI q)), some (.int (nI t))] [] G := by
        intro K
        induction K with
        | zero => intro t h; exact absurd h (Nat.not_lt_zero _)
        | succ K ih_lt =>
          intro t hK ht hs2
          have hs2 : (if dgt n (rb n i) t < dgt n (rb n i) q then ltd n (rb n i) q t else t) = ltd n (rb n i) q n := hs2
          have hd1 := dgt_lt n (rb n i) t
          have hd2 := dgt_lt n (rb n i) q
          refine xj_aload_n dX0_goesNext_43 rfl rfl ?_
          refine xj_iload_n dX0_goesNext_44 rfl ?_
          refine xj_bald dX0_goesNext_45 hL rfl (by omega) (hR t ht) ?_
          refine xj_aload_n dX0_goesNext_46 rfl rfl ?_
          refine xj_iload_n dX0_goesNext_47 rfl ?_
          refine xj_bald dX0_goesNext_48 hL rfl (by omega) (hR q (by omega)) ?_
          refine xj_icmp_ge (tgt := 58) dX0_goesNext_49 rfl (fun c49 => ?_) (fun c49 => ?_)
          · rw [if_neg (fun h => absurd c49 (nI_ge h (by omega)))] at hs2
            rw [← hs2] at hx
            have hln := hR.len h1n
            refine xj_aload_n dX0_goesNext_58 rfl rfl ?_
            refine xj_iload_n dX0_goesNext_59 rfl ?_
            refine xj_iload_n dX0_goesNext_60 rfl ?_
            refine xj_cS dX0_goesNext_61 q670 kS_X0_change (A_change hL (by omega) (by omega) hl31 (by rw [x_getD (hR q (by omega))]; exact c_b8 _ hd2) (by rw [x_getD (hR t ht)]; exact c_b8 _ hd1)) rfl rfl (Nat.le_of_ble_eq_true rfl) ⟨(Nat.le_of_ble_eq_true rfl), (Nat.le_of_ble_eq_true rfl)⟩ (Nat.le_of_ble_eq_true rfl) (Nat.le_of_ble_eq_true rfl) ?_
            have hv2 : cV d e n (G.set r (cI 1 (chL L q t))) := hv.set hr0 hr4
            obtain ⟨hO2, hN2, -⟩ := id hv2
            refine xj_aload_n dX0_goesNext_64 rfl rfl ?_
            refine xj_aload_n dX0_goesNext_65 rfl rfl ?_
            refine xj_iload_n dX0_goesNext_66 rfl ?_
            refine xj_ic1 dX0_goesNext_67 ?_
            refine xj_iadd dX0_goesNext_68 ?_
            rw [nI_1]
            refine xj_dV dX0_goesNext_69 q666 kV_X0_turnRound (A_turnRound (f := q + 1) hv2 (gset_self hL) hr0 hr4 (fun p hp => by
            rw [chL_at (by omega) (by omega)]
            by_cases e1 : p = t
            · rw [if_pos e1, x_getD (hR q (by omega))]; exact ⟨_, hd2, rfl⟩
            · rw [if_neg e1]
              by_cases e2 : p = q
              · rw [if_pos e2, x_getD (hR t ht)]; exact ⟨_, hd1, rfl⟩
              · rw [if_neg e2]; exact hR.dg p hp) (by omega) (by rw [chL_len]; exact hl31)) hO2 rfl rfl rfl rfl (Nat.le_of_ble_eq_true rfl) ⟨(Nat.le_of_ble_eq_true rfl), (Nat.le_of_ble_eq_true rfl)⟩ (Nat.le_of_ble_eq_true rfl) (Nat.le_of_ble_eq_true rfl) ?_
            rintro _ _ ⟨rfl, M, hM1, hM2, rfl⟩
            rw [gset_set]
            exact xj_return dX0_goesNext_72 rfl ⟨rfl, M, by rw [hM1, chL_len], nxL hx.2.1 hx.2.2.1 hR hx.2.2.2 hx.1 hM2, rfl⟩
          · have hlt : dgt n (rb n i) t < dgt n (rb n i) q := Nat.lt_of_not_le fun h => c49 (nI_le h (by omega))
            rw [if_pos hlt] at hs2
            obtain ⟨t, rfl⟩ : ∃ t0, t = t0 + 1 := ⟨t - 1, by
              have : t ≠ 0 := fun h => by subst h; have : 0 = ltd n (rb n i) q n := hs2; omega
              omega⟩
            refine xj_iinc3 (cst := (-1)) dX0_goesNext_52 rfl rfl ?_
            rw [nI_m1 (by omega)]
            refine xj_goto (tgt := 43) dX0_goesNext_55 rfl ?_
            exact ih_lt t (by omega) (by omega) hs2
      exact lt n (n - 1) (by omega) (by omega) (by rw [show n - 1 + 1 = n by omega])
  have f0 : ∀ (K : Nat) (z : Nat), 0 < K → (lsd n (rb n i) (n - 1) = 0) → xJ E (yX0_goesNext, cX0_goesNext, 4, none, []) (xR 2 0 0) (xre (fun v G' => v = none ∧ ∃ M : List Int32, M.length = L.length ∧ rwL n (nxR n i) M ∧ G' = G.set r (cI 1 M))) 0 0 28 [some (.ref 0), some (.ref r), some (.int (nI 0 - 1)), none] [] G := by
    intro K
    induction K with
    | zero => intro z h; exact absurd h (Nat.not_lt_zero _)
    | succ K ih_f0 =>
      intro z hK hq
      have hx := nx_0 (by omega) h1n hi hq
      refine xj_iload_n dX0_goesNext_28 rfl ?_
      refine xj_if_ge (tgt := 33) dX0_goesNext_29 rfl (fun c29 => absurd c29 (by decide)) (fun c29 => ?_)
      exact xj_return dX0_goesNext_32 rfl ⟨rfl, L, rfl, by unfold nxR; rw [if_neg (by omega)]; exact hR, (gset_id hL).symm⟩
  refine xj_eq (lv' := [some (.ref 0), some (.ref r), some (.int (nI (n - 1) - 1)), none]) (by rw [show nI n - 2 = nI (n - 1) - 1 from by rw [← nI_sub1 h1n]; exact c_m2 _]) rfl rfl ?_
  have lp : ∀ (K : Nat) (q : Nat), q < K → (q ≤ n - 1) → (lsd n (rb n i) q = lsd n (rb n i) (n - 1)) → xJ E (yX0_goesNext, cX0_goesNext, 4, none, []) (xR 2 0 0) (xre (fun v G' => v = none ∧ ∃ M : List Int32, M.length = L.length ∧ rwL n (nxR n i) M ∧ G' = G.set r (cI 1 M))) 0 0 10 [some (.ref 0), some (.ref r), some (.int (nI q - 1)), none] [] G := by
    intro K
    induction K with
    | zero => intro q h; exact absurd h (Nat.not_lt_zero _)
    | succ K ih_lp =>
      intro q hK hq hs
      refine xj_iload_n dX0_goesNext_10 rfl ?_
      refine xj_if_lt (tgt := 28) dX0_goesNext_11 rfl (fun c11 => ?_) (fun c11 => ?_)
      · first
        | (have hq0 : q = 0 := Nat.eq_zero_of_not_pos fun h => absurd c11 (by rw [nI_sub1 h]; exact nI_pos (by omega))
           subst hq0
           exact f0 1 0 (by decide) hs.symm)
        | (rw [b1_z c19, if_neg (by decide)] at hs
           exact f1 1 q (by decide) hs.symm (by omega))
      · obtain ⟨q, rfl⟩ : ∃ q0, q = q0 + 1 := ⟨q - 1, by
          have : q ≠ 0 := fun h => by subst h; exact absurd c11 (by decide)
          omega⟩
        rw [nI_pred q]
        have hs : (if isD n (rb n i) q then lsd n (rb n i) q else q + 1) = lsd n (rb n i) (n - 1) := hs
        refine xj_aload_n dX0_goesNext_14 rfl rfl ?_
        refine xj_iload_n dX0_goesNext_15 rfl ?_
        refine xj_cS dX0_goesNext_16 q655 kS_X0_isDrop (A_isDrop hL hR (by omega) (by omega)) rfl rfl (Nat.le_of_ble_eq_true rfl) ⟨(Nat.le_of_ble_eq_true rfl), (Nat.le_of_ble_eq_true rfl)⟩ (Nat.le_of_ble_eq_true rfl) (Nat.le_of_ble_eq_true rfl) ?_
        refine xj_if_eq (tgt := 28) dX0_goesNext_19 rfl (fun c19 => ?_) (fun c19 => ?_)
        · first
          | (have hq0 : q = 0 := Nat.eq_zero_of_not_pos fun h => absurd c11 (by rw [nI_sub1 h]; exact nI_pos (by omega))
             subst hq0
             exact f0 1 0 (by decide) hs.symm)
          | (rw [b1_z c19, if_neg (by decide)] at hs
             exact f1 1 q (by decide) hs.symm (by omega))
        · rw [if_pos (b1_nz c19)] at hs
          refine xj_iinc2 (cst := (-1)) dX0_goesNext_22 rfl rfl ?_
          rw [show nI q + -1 = nI q - 1 from add_m1 q]
          refine xj_goto (tgt := 10) dX0_goesNext_25 rfl ?_
          exact ih_lp q (by omega) (by omega) hs
  exact lp n (n - 1) (by omega) (by omega) rfl
theorem A_byRank {r i : Nat} {L : List Int32}  (hv : cV d e n G) (hL : G[r]? = some (cI 1 L)) (hr0 : r ≠ 0) (hr4 : r ≠ 4) (hi : i < wy n) (hln : n ≤ L.length) (hl31 : L.length < 2147483648) : xMet E yX0_byRank cX0_byRank 9 none 1 0 0 [.ref 0, .int (nI i), .ref r] G (xre (fun v G' => v = none ∧ ∃ M : List Int32, M.length = L.length ∧ rwL n (rb n i) M ∧ G' = G.set r (cI 1 M))) := by
  obtain ⟨hO, hN, hn0, h1n, hn6⟩ := id hv
  have h0 := f_rb n (by omega) h1n i hi
  refine xMet.of (lv := [some (.ref 0), some (.int (nI i)), some (.ref r), none, none, none, none, none, none]) rfl rfl (Nat.le_of_ble_eq_true rfl) ?_
  refine xj_iload_n dX0_byRank_0 rfl ?_
  refine xj_istn3 dX0_byRank_1 rfl ?_
  refine xj_aload_n dX0_byRank_2 rfl rfl ?_
  refine xj_cV dX0_byRank_3 q677 kV_X0_manyRows (A_manyRows hv) hO rfl rfl rfl rfl (Nat.le_of_ble_eq_true rfl) ⟨(Nat.le_of_ble_eq_true rfl), (Nat.le_of_ble_eq_true rfl)⟩ (Nat.le_of_ble_eq_true rfl) (Nat.le_of_ble_eq_true rfl) ?_
  refine xj_ist4 dX0_byRank_6 rfl ?_
  refine xj_ic0 dX0_byRank_8 ?_
  refine xj_ist5 dX0_byRank_9 rfl ?_
  refine xj_ic0 dX0_byRank_11 ?_
  refine xj_ist6 dX0_byRank_12 rfl ?_
  refine xj_eq (lv' := [some (.ref 0), some (.int (nI i)), some (.ref r), some (.int (nI (zr (rbZ n i 0)))), some (.int (nI (wy (n - 0)))), some (.int (nI (zu (rbZ n i 0)))), some (.int (nI 0)), none, none]) (by rw [h0.2.1, h0.2.2.1]; rfl) rfl (show G = G.set r (cI 1 L) from (gset_id hL).symm) ?_
  have lp : ∀ (K : Nat) (p : Nat) (M : List Int32), n - p < K → (p ≤ n) → (M.length = L.length) → (∀ j, j < p → M[j]? = some (nI (dgt n (rb n i) j))) → xJ E (yX0_byRank, cX0_byRank, 9, none, []) (xR 1 0 0) (xre (fun v G' => v = none ∧ ∃ M : List Int32, M.length = L.length ∧ rwL n (rb n i) M ∧ G' = G.set r (cI 1 M))) 0 0 14 [some (.ref 0), some (.int (nI i)), some (.ref r), some (.int (nI (zr (rbZ n i p)))), some (.int (nI (wy (n - p)))), some (.int (nI (zu (rbZ n i p)))), some (.int (nI p)), none, none] [] (G.set r (cI 1 M)) := by
    intro K
    induction K with
    | zero => intro p M h; exact absurd h (Nat.not_lt_zero _)
    | succ K ih_lp =>
      intro p M hK hp hM hMp
      have hv2 : cV d e n (G.set r (cI 1 M)) := hv.set hr0 hr4
      obtain ⟨hO2, hN2, -⟩ := id hv2
      refine xj_iload dX0_byRank_14 rfl ?_
      refine xj_aload_n dX0_byRank_16 rfl rfl ?_
      refine xj_get dX0_byRank_17 K0 4 (by decide) q473 hO2 rfl ?_
      refine xj_getN dX0_byRank_20 K3 0 (by decide) q321 hN2 (congrArg some hn0) ?_
      refine xj_icmp_ge (tgt := 118) dX0_byRank_23 rfl (fun c23 => ?_) (fun c23 => ?_)
      · exact xj_return dX0_byRank_118 rfl ⟨rfl, M, hM, fun j hj => hMp j (by have := Nat.le_of_not_lt fun h => absurd c23 (nI_ge h (by omega)); omega), rfl⟩
      · have hpn : p < n := Nat.lt_of_not_le fun h => c23 (nI_le h (by omega))
        have hk := f_rbOk n (by omega) i hi p hpn
        have hwy := wy_in (n - 1 - p) (by omega)
        have hwp := wy_in (n - p) (by omega)
        generalize hz : rbZ n i p = z at hk ⊢
        refine xj_iload dX0_byRank_26 rfl ?_
        refine xj_aload_n dX0_byRank_28 rfl rfl ?_
        refine xj_get dX0_byRank_29 K0 4 (by decide) q473 hO2 rfl ?_
        refine xj_getN dX0_byRank_32 K3 0 (by decide) q321 hN2 (congrArg some hn0) ?_
        refine xj_iload dX0_byRank_35 rfl ?_
        refine xj_isub dX0_byRank_37 ?_
        rw [pk_sub (by omega)]
        refine xj_idiv dX0_byRank_38 (nI_ne0 (by omega) (by omega)) ?_
        rw [pk_div (Nat.lt_trans hwp.2 (by decide)) (by omega) (by omega), f_wyd n (by omega) p hpn]
        refine xj_ist4 dX0_byRank_39 rfl ?_
        refine xj_ic1 dX0_byRank_41 ?_
        refine xj_ist7 dX0_byRank_42 rfl ?_
        refine xj_iload_n dX0_byRank_44 rfl ?_
        refine xj_iload dX0_byRank_45 rfl ?_
        refine xj_idiv dX0_byRank_47 (nI_ne0 hwy.1 (Nat.lt_trans hwy.2 (by decide))) ?_
        rw [pk_div (Nat.lt_trans (zr_lt z) (by decide)) hwy.1 (Nat.lt_trans hwy.2 (by decide))]
        refine xj_ist8 dX0_byRank_48 rfl ?_
        have lq : ∀ (K : Nat) (f : Nat) (b : Nat) (q : Nat), f < K → (rbEnd f (zu z) b q = true) → (rbDig f (zu z) b q = rbD n p z) → (q + f ≤ 9) → (b < 1000) → xJ E (yX0_byRank, cX0_byRank, 9, none, []) (xR 1 0 0) (xre (fun v G' => v = none ∧ ∃ M : List Int32, M.length = L.length ∧ rwL n (rb n i) M ∧ G' = G.set r (cI 1 M))) 0 0 50 [some (.ref 0), some (.int (nI i)), some (.ref r), some (.int (nI (zr z))), some (.int (nI (wy (n - 1 - p)))), some (.int (nI (zu z))), some (.int (nI p)), some (.int (nI q)), some (.int (nI b))] [] (G.set r (cI 1 M)) := by
          intro K
          induction K with
          | zero => intro f b q h; exact absurd h (Nat.not_lt_zero _)
          | succ K ih_lq =>
            intro f b q hK he hD hd hb
            obtain ⟨f, rfl⟩ : ∃ f0, f = f0 + 1 := by
              cases f with
              | zero => cases he
              | succ f => exact ⟨f, rfl⟩
            have he : (if (zu z).testBit q || decide (0 < b) then rbEnd f (zu z) (if (zu z).testBit q then b else b - 1) (q + 1) else true) = true := he
            have hD : (if (zu z).testBit q || decide (0 < b) then rbDig f (zu z) (if (zu z).testBit q then b else b - 1) (q + 1) else q) = rbD n p z := hD
            refine xj_iload dX0_byRank_50 rfl ?_
            refine xj_if_gt (tgt := 65) dX0_byRank_52 rfl (fun c52 => ?_) (fun c52 => ?_)
            · have hcond : ((zu z).testBit q || decide (0 < b)) = true := by first | (rw [decide_eq_true (Nat.pos_of_ne_zero fun h => by subst h; exact absurd c52 (by decide)), Bool.or_true]; done) | (cases ht : (zu z).testBit q with
                | true => rfl
                | false => rw [ht] at c62; exact absurd (by decide) c62)
              rw [if_pos hcond] at he hD
              refine xj_iload dX0_byRank_65 rfl ?_
              refine xj_iload dX0_byRank_67 rfl ?_
              refine xj_iload dX0_byRank_69 rfl ?_
              refine xj_ishr dX0_byRank_71 ?_
              refine xj_ic1 dX0_byRank_72 ?_
              refine xj_iand dX0_byRank_73 ?_
              refine xj_top (c_bitI _ hk.2.1 q (by omega)) ?_
              refine xj_sI_if_le (tgt := 81) (M := 82) dX0_byRank_74 rfl (fun c74 k => by
                  refine xj_ic1 dX0_byRank_81 ?_
                  exact k) (fun c74 k => by
                  refine xj_ic0 dX0_byRank_77 ?_
                  refine xj_goto (tgt := 82) dX0_byRank_78 rfl ?_
                  exact k) ?_
              refine xj_isub dX0_byRank_82 ?_
              refine xj_top (y := nI (if (zu z).testBit q then b else b - 1)) (by cases ht : (zu z).testBit q with
                | true => exact sub_z b
                | false => rw [ht, Bool.false_or] at hcond; exact nI_sub1 (of_decide_eq_true hcond)) ?_
              refine xj_ist8 dX0_byRank_83 rfl ?_
              refine xj_iinc7 (cst := 1) dX0_byRank_85 rfl rfl ?_
              rw [nI_1]
              refine xj_goto (tgt := 50) dX0_byRank_88 rfl ?_
              exact ih_lq f _ (q + 1) (by omega) he hD (by omega) (by split <;> omega)
            · refine xj_iload dX0_byRank_55 rfl ?_
              refine xj_iload dX0_byRank_57 rfl ?_
              refine xj_ishr dX0_byRank_59 ?_
              refine xj_ic1 dX0_byRank_60 ?_
              refine xj_iand dX0_byRank_61 ?_
              refine xj_top (c_bitI _ hk.2.1 q (by omega)) ?_
              refine xj_if_le (tgt := 91) dX0_byRank_62 rfl (fun c62 => ?_) (fun c62 => ?_)
              · have hcond : ((zu z).testBit q || decide (0 < b)) = false := by
                  have hb0 : ¬ 0 < b := fun h => c52 (nI_lt (a := 0) h (by omega))
                  cases ht : (zu z).testBit q with
                  | true => rw [ht] at c62; exact absurd c62 (by decide)
                  | false => rw [decide_eq_false hb0]; rfl
                rw [hcond] at hD
                have hD : q = rbD n p z := hD
                refine xj_iload_n dX0_byRank_91 rfl ?_
                refine xj_iload dX0_byRank_92 rfl ?_
                refine xj_irem dX0_byRank_94 (nI_ne0 hwy.1 (Nat.lt_trans hwy.2 (by decide))) ?_
                rw [pk_rem (Nat.lt_trans (zr_lt z) (by decide)) hwy.1 (Nat.lt_trans hwy.2 (by decide))]
                refine xj_istn3 dX0_byRank_95 rfl ?_
                refine xj_aload_n dX0_byRank_96 rfl rfl ?_
                refine xj_iload dX0_byRank_97 rfl ?_
                refine xj_iload dX0_byRank_99 rfl ?_
                refine xj_i2b dX0_byRank_101 ?_
                refine xj_top (c_b8 q (by omega)) ?_
                refine xj_bast dX0_byRank_102 (gset_self hL) rfl (by omega) (by omega) (c_b8 q (by omega)) ?_
                rw [gset_set]
                refine xj_iload dX0_byRank_103 rfl ?_
                refine xj_ic1 dX0_byRank_105 ?_
                refine xj_iload dX0_byRank_106 rfl ?_
                refine xj_ishl dX0_byRank_108 ?_
                refine xj_top (c_shl7 q (by rw [hD]; exact hk.2.2.1)) ?_
                refine xj_ior dX0_byRank_109 ?_
                rw [nI_or]
                refine xj_ist5 dX0_byRank_110 rfl ?_
                refine xj_iinc6 (cst := 1) dX0_byRank_112 rfl rfl ?_
                rw [nI_1]
                refine xj_goto (tgt := 14) dX0_byRank_115 rfl ?_
                refine xj_fg7 (xj_fg8 ?_)
                rw [hD, ← hk.2.2.2.1, ← hk.2.2.2.2.1, show n - 1 - p = n - (p + 1) by omega]
                exact ih_lp (p + 1) _ (by omega) (by omega) (by rw [List.length_set]; exact hM) (fun j hj => by
                  by_cases e : p = j
                  · subst e; rw [List.getElem?_set_self (by omega), rb_d (by omega) hi hpn, hz]
                  · rw [List.getElem?_set_ne e]; exact hMp j (by omega))
              · have hcond : ((zu z).testBit q || decide (0 < b)) = true := by first | (rw [decide_eq_true (Nat.pos_of_ne_zero fun h => by subst h; exact absurd c52 (by decide)), Bool.or_true]; done) | (cases ht : (zu z).testBit q with
                  | true => rfl
                  | false => rw [ht] at c62; exact absurd (by decide) c62)
                rw [if_pos hcond] at he hD
                refine xj_iload dX0_byRank_65 rfl ?_
                refine xj_iload dX0_byRank_67 rfl ?_
                refine xj_iload dX0_byRank_69 rfl ?_
                refine xj_ishr dX0_byRank_71 ?_
                refine xj_ic1 dX0_byRank_72 ?_
                refine xj_iand dX0_byRank_73 ?_
                refine xj_top (c_bitI _ hk.2.1 q (by omega)) ?_
                refine xj_sI_if_le (tgt := 81) (M := 82) dX0_byRank_74 rfl (fun c74 k => by
                    refine xj_ic1 dX0_byRank_81 ?_
                    exact k) (fun c74 k => by
                    refine xj_ic0 dX0_byRank_77 ?_
                    refine xj_goto (tgt := 82) dX0_byRank_78 rfl ?_
                    exact k) ?_
                refine xj_isub dX0_byRank_82 ?_
                refine xj_top (y := nI (if (zu z).testBit q then b else b - 1)) (by cases ht : (zu z).testBit q with
                  | true => exact sub_z b
                  | false => rw [ht, Bool.false_or] at hcond; exact nI_sub1 (of_decide_eq_true hcond)) ?_
                refine xj_ist8 dX0_byRank_83 rfl ?_
                refine xj_iinc7 (cst := 1) dX0_byRank_85 rfl rfl ?_
                rw [nI_1]
                refine xj_goto (tgt := 50) dX0_byRank_88 rfl ?_
                exact ih_lq f _ (q + 1) (by omega) he hD (by omega) (by split <;> omega)
        exact lq 9 8 _ 1 (by omega) hk.1 rfl (by omega) (Nat.lt_of_le_of_lt (Nat.div_le_self _ _) (zr_lt z))
  exact lp (n + 1) 0 L (by omega) (by omega) rfl (fun j hj => absurd hj (Nat.not_lt_zero _))
theorem A_readN {r : Nat} {x : Int32} {L : List Int32}  (hv : cV d e n G) (hL : G[r]? = some (cI 1 L)) (hr0 : r ≠ 0) (hr4 : r ≠ 4) (hln : n ≤ L.length) (hl31 : L.length < 2147483648) (hx : x < 0) : xMet E yX0_read cX0_read 6 (some FieldType.boolean) 1 0 0 [.ref 0, .int x, .ref r] G (xre (fun v G' => v = some (.int (b1 (rowB n x))) ∧ ∃ M : List Int32, M.length = L.length ∧ (∀ R ∈ rws n, x = nI R → rwL n R M) ∧ G' = G.set r (cI 1 M))) := by
  obtain ⟨hO, hN, hn0, h1n, hn6⟩ := id hv
  obtain ⟨k, hk1, hk2⟩ := rd_neg hx
  refine xMet.of (lv := [some (.ref 0), some (.int x), some (.ref r), none, none, none]) rfl rfl (Nat.le_of_ble_eq_true rfl) ?_
  refine xj_iload_n dX0_read_0 rfl ?_
  refine xj_istn3 dX0_read_1 rfl ?_
  refine xj_ic0 dX0_read_2 ?_
  refine xj_ist4 dX0_read_3 rfl ?_
  refine xj_aload_n dX0_read_5 rfl rfl ?_
  refine xj_get dX0_read_6 K0 4 (by decide) q473 hO rfl ?_
  refine xj_getN dX0_read_9 K3 0 (by decide) q321 hN (congrArg some hn0) ?_
  refine xj_ic1 dX0_read_12 ?_
  refine xj_isub dX0_read_13 ?_
  refine xj_ist5 dX0_read_14 rfl ?_
  refine xj_iload dX0_read_16 rfl ?_
  refine xj_if_lt (tgt := 72) dX0_read_18 rfl (fun c18 => absurd c18 (by rw [nI_sub1 h1n]; exact nI_pos (by omega))) (fun c18 => ?_)
  refine xj_aload_n dX0_read_21 rfl rfl ?_
  refine xj_iload dX0_read_22 rfl ?_
  refine xj_iload_n dX0_read_24 rfl ?_
  refine xj_bipush (v := 10) dX0_read_25 rfl ?_
  refine xj_irem dX0_read_27 (by decide) ?_
  refine xj_top hk2 ?_
  refine xj_i2b dX0_read_28 ?_
  rw [nI_sub1 h1n]
  refine xj_bast dX0_read_29 hL rfl (by omega) (by omega) (rd_negB k hk1) ?_
  have hv2 : cV d e n (G.set r (cI 1 (L.set (n - 1) (- nI k).toInt8.toInt32))) := hv.set hr0 hr4
  obtain ⟨hO2, hN2, -⟩ := id hv2
  refine xj_iload_n dX0_read_30 rfl ?_
  refine xj_bipush (v := 10) dX0_read_31 rfl ?_
  refine xj_idiv dX0_read_33 (by decide) ?_
  refine xj_istn3 dX0_read_34 rfl ?_
  refine xj_aload_n dX0_read_35 rfl rfl ?_
  refine xj_iload dX0_read_36 rfl ?_
  refine xj_bald dX0_read_38 (gset_self hL) rfl (by omega) (List.getElem?_set_self (by omega)) ?_
  refine xj_ic1 dX0_read_39 ?_
  refine xj_aload_n dX0_read_40 rfl rfl ?_
  refine xj_get dX0_read_41 K0 4 (by decide) q473 hO2 rfl ?_
  refine xj_getN dX0_read_44 K3 0 (by decide) q321 hN2 (congrArg some hn0) ?_
  refine xj_cS dX0_read_47 q585 kS_X0_isIn A_isIn rfl rfl (Nat.le_of_ble_eq_true rfl) ⟨(Nat.le_of_ble_eq_true rfl), (Nat.le_of_ble_eq_true rfl)⟩ (Nat.le_of_ble_eq_true rfl) (Nat.le_of_ble_eq_true rfl) ?_
  refine xj_if_ne (tgt := 55) dX0_read_50 rfl (fun c50 => absurd (by rw [rd_negC k hk1 n (by omega)]; decide) c50) (fun c50 => ?_)
  refine xj_ic0 dX0_read_53 ?_
  exact xj_ireturn dX0_read_54 rfl (by decide) ⟨by rw [rowB_neg hx]; rfl, _, by rw [List.length_set], fun R hR e => absurd (e ▸ hx) (nI_pos (R31 (by omega) hR)), rfl⟩
theorem A_readP {r R : Nat} {L : List Int32}  (hv : cV d e n G) (hL : G[r]? = some (cI 1 L)) (hr0 : r ≠ 0) (hr4 : r ≠ 4) (hln : n ≤ L.length) (hl31 : L.length < 2147483648) (hR31 : R < 2 ^ 31) : xMet E yX0_read cX0_read 6 (some FieldType.boolean) 1 0 0 [.ref 0, .int (nI R), .ref r] G (xre (fun v G' => v = some (.int (b1 (rowB n (nI R)))) ∧ ∃ M : List Int32, M.length = L.length ∧ (∀ S ∈ rws n, nI R = nI S → rwL n S M) ∧ G' = G.set r (cI 1 M))) := by
  obtain ⟨hO, hN, hn0, h1n, hn6⟩ := id hv
  refine xMet.of (lv := [some (.ref 0), some (.int (nI R)), some (.ref r), none, none, none]) rfl rfl (Nat.le_of_ble_eq_true rfl) ?_
  refine xj_iload_n dX0_read_0 rfl ?_
  refine xj_istn3 dX0_read_1 rfl ?_
  refine xj_ic0 dX0_read_2 ?_
  refine xj_ist4 dX0_read_3 rfl ?_
  refine xj_aload_n dX0_read_5 rfl rfl ?_
  refine xj_get dX0_read_6 K0 4 (by decide) q473 hO rfl ?_
  refine xj_getN dX0_read_9 K3 0 (by decide) q321 hN (congrArg some hn0) ?_
  refine xj_ic1 dX0_read_12 ?_
  refine xj_isub dX0_read_13 ?_
  refine xj_ist5 dX0_read_14 rfl ?_
  refine xj_eq (lv' := [some (.ref 0), some (.int (nI R)), some (.ref r), some (.int (nI (R / 10 ^ (n - n)))), some (.int (nI (dsD n R (n - n)))), some (.int (nI n - 1))]) (by rw [Nat.sub_self, Nat.pow_zero, Nat.div_one]; rfl) rfl (show G = G.set r (cI 1 L) from (gset_id hL).symm) ?_
  have lp : ∀ (K : Nat) (k : Nat) (M : List Int32), k < K → (k ≤ n) → (M.length = L.length) → (∀ p, k ≤ p → p < n → M[p]? = some (nI (dgt n R p)) ∧ 1 ≤ dgt n R p ∧ dgt n R p ≤ n) → xJ E (yX0_read, cX0_read, 6, (some FieldType.boolean), []) (xR 1 0 0) (xre (fun v G' => v = some (.int (b1 (rowB n (nI R)))) ∧ ∃ M : List Int32, M.length = L.length ∧ (∀ S ∈ rws n, nI R = nI S → rwL n S M) ∧ G' = G.set r (cI 1 M))) 0 0 16 [some (.ref 0), some (.int (nI R)), some (.ref r), some (.int (nI (R / 10 ^ (n - k)))), some (.int (nI (dsD n R (n - k)))), some (.int (nI k - 1))] [] (G.set r (cI 1 M)) := by
    intro K
    induction K with
    | zero => intro k M h; exact absurd h (Nat.not_lt_zero _)
    | succ K ih_lp =>
      intro k M hK hk hM hMp
      have hv2 : cV d e n (G.set r (cI 1 M)) := hv.set hr0 hr4
      obtain ⟨hO2, hN2, -⟩ := id hv2
      have hq31 : R / 10 ^ (n - k) < 2 ^ 31 := Nat.lt_of_le_of_lt (Nat.div_le_self _ _) hR31
      refine xj_iload dX0_read_16 rfl ?_
      refine xj_if_lt (tgt := 72) dX0_read_18 rfl (fun c18 => ?_) (fun c18 => ?_)
      · have hk0 : k = 0 := Nat.eq_zero_of_not_pos fun h => absurd c18 (by rw [nI_sub1 h]; exact nI_pos (by omega))
        subst hk0
        have hE := rowB_end (by omega) h1n hR31 (fun p hp => (hMp p (Nat.zero_le _) hp).2)
        refine xj_iload_n dX0_read_72 rfl ?_
        refine xj_if_ne (tgt := 98) dX0_read_73 rfl (fun c73 => ?_) (fun c73 => ?_)
        · refine xj_ic0 dX0_read_98 ?_
          exact xj_ireturn dX0_read_99 rfl rfl ⟨by rw [hE]; first | (rw [decide_eq_false (fun h => c73 (by rw [Nat.sub_zero, h]; rfl)), Bool.false_and]; rfl) | (rw [decide_eq_true (show R / 10 ^ n = 0 from (nI_eq (Nat.lt_of_le_of_lt (Nat.div_le_self _ _) hR31) (by decide)).mp c73), Bool.true_and]; first | (rw [decide_eq_false (fun h => c91 (by rw [Nat.sub_zero, h]))]; rfl) | (rw [decide_eq_true (show dsD n R n = 2 ^ (n + 1) - 2 from (nI_eq (dsD_lt _) (pw_31 _ (by omega))).mp c91)]; rfl)), M, hM, fun S hS e => (by have e2 := (nI_eq hR31 (R31 (by omega) hS)).mp e; subst e2; exact fun p hp => (hMp p (Nat.zero_le _) hp).1), rfl⟩
        · refine xj_iload dX0_read_76 rfl ?_
          refine xj_ic1 dX0_read_78 ?_
          refine xj_aload_n dX0_read_79 rfl rfl ?_
          refine xj_get dX0_read_80 K0 4 (by decide) q473 hO2 rfl ?_
          refine xj_getN dX0_read_83 K3 0 (by decide) q321 hN2 (congrArg some hn0) ?_
          refine xj_ic1 dX0_read_86 ?_
          refine xj_iadd dX0_read_87 ?_
          refine xj_ishl dX0_read_88 ?_
          refine xj_ic2 dX0_read_89 ?_
          refine xj_isub dX0_read_90 ?_
          refine xj_top (c_full1 n (by omega)) ?_
          refine xj_icmp_ne (tgt := 98) dX0_read_91 rfl (fun c91 => ?_) (fun c91 => ?_)
          · refine xj_ic0 dX0_read_98 ?_
            exact xj_ireturn dX0_read_99 rfl rfl ⟨by rw [hE]; first | (rw [decide_eq_false (fun h => c73 (by rw [Nat.sub_zero, h]; rfl)), Bool.false_and]; rfl) | (rw [decide_eq_true (show R / 10 ^ n = 0 from (nI_eq (Nat.lt_of_le_of_lt (Nat.div_le_self _ _) hR31) (by decide)).mp c73), Bool.true_and]; first | (rw [decide_eq_false (fun h => c91 (by rw [Nat.sub_zero, h]))]; rfl) | (rw [decide_eq_true (show dsD n R n = 2 ^ (n + 1) - 2 from (nI_eq (dsD_lt _) (pw_31 _ (by omega))).mp c91)]; rfl)), M, hM, fun S hS e => (by have e2 := (nI_eq hR31 (R31 (by omega) hS)).mp e; subst e2; exact fun p hp => (hMp p (Nat.zero_le _) hp).1), rfl⟩
          · refine xj_ic1 dX0_read_94 ?_
            refine xj_goto (tgt := 99) dX0_read_95 rfl ?_
            exact xj_ireturn dX0_read_99 rfl rfl ⟨by rw [hE]; first | (rw [decide_eq_false (fun h => c73 (by rw [Nat.sub_zero, h]; rfl)), Bool.false_and]; rfl) | (rw [decide_eq_true (show R / 10 ^ n = 0 from (nI_eq (Nat.lt_of_le_of_lt (Nat.div_le_self _ _) hR31) (by decide)).mp c73), Bool.true_and]; first | (rw [decide_eq_false (fun h => c91 (by rw [Nat.sub_zero, h]))]; rfl) | (rw [decide_eq_true (show dsD n R n = 2 ^ (n + 1) - 2 from (nI_eq (dsD_lt _) (pw_31 _ (by omega))).mp c91)]; rfl)), M, hM, fun S hS e => (by have e2 := (nI_eq hR31 (R31 (by omega) hS)).mp e; subst e2; exact fun p hp => (hMp p (Nat.zero_le _) hp).1), rfl⟩
      · obtain ⟨k, rfl⟩ : ∃ k0, k = k0 + 1 := ⟨k - 1, by
          have : k ≠ 0 := fun h => by subst h; exact absurd c18 (by decide)
          omega⟩
        have hdd : R / 10 ^ (n - (k + 1)) % 10 = dgt n R k := by rw [show n - (k + 1) = n - 1 - k by omega]; rfl
        have hd10 := dgt_lt n R k
        have hdv : R / 10 ^ (n - (k + 1)) / 10 = R / 10 ^ (n - k) := by rw [Nat.div_div_eq_div_mul, ← Nat.pow_succ, show (n - (k + 1)).succ = n - k by omega]
        have hds : dsD n R (n - k) = dsD n R (n - (k + 1)) ||| 2 ^ dgt n R k := by rw [show n - k = n - (k + 1) + 1 by omega]; show _ ||| 2 ^ dgt n R (n - 1 - (n - (k + 1))) = _; rw [show n - 1 - (n - (k + 1)) = k by omega]
        rw [nI_pred k]
        refine xj_aload_n dX0_read_21 rfl rfl ?_
        refine xj_iload dX0_read_22 rfl ?_
        refine xj_iload_n dX0_read_24 rfl ?_
        refine xj_bipush (v := 10) dX0_read_25 rfl ?_
        refine xj_irem dX0_read_27 (by decide) ?_
        refine xj_top (pk_rem (d := 10) hq31 (by decide) (by decide)) ?_
        rw [hdd]
        refine xj_i2b dX0_read_28 ?_
        refine xj_top (c_b8 _ hd10) ?_
        refine xj_bast dX0_read_29 (gset_self hL) rfl (by omega) (by omega) (c_b8 _ hd10) ?_
        rw [gset_set]
        have hv3 : cV d e n (G.set r (cI 1 (M.set k (nI (dgt n R k))))) := hv.set hr0 hr4
        obtain ⟨hO3, hN3, -⟩ := id hv3
        refine xj_iload_n dX0_read_30 rfl ?_
        refine xj_bipush (v := 10) dX0_read_31 rfl ?_
        refine xj_idiv dX0_read_33 (by decide) ?_
        refine xj_top (pk_div (d := 10) hq31 (by decide) (by decide)) ?_
        rw [hdv]
        refine xj_istn3 dX0_read_34 rfl ?_
        refine xj_aload_n dX0_read_35 rfl rfl ?_
        refine xj_iload dX0_read_36 rfl ?_
        refine xj_bald dX0_read_38 (gset_self hL) rfl (by omega) (List.getElem?_set_self (by omega)) ?_
        refine xj_ic1 dX0_read_39 ?_
        refine xj_aload_n dX0_read_40 rfl rfl ?_
        refine xj_get dX0_read_41 K0 4 (by decide) q473 hO3 rfl ?_
        refine xj_getN dX0_read_44 K3 0 (by decide) q321 hN3 (congrArg some hn0) ?_
        refine xj_cS dX0_read_47 q585 kS_X0_isIn A_isIn rfl rfl (Nat.le_of_ble_eq_true rfl) ⟨(Nat.le_of_ble_eq_true rfl), (Nat.le_of_ble_eq_true rfl)⟩ (Nat.le_of_ble_eq_true rfl) (Nat.le_of_ble_eq_true rfl) ?_
        rw [c_in1 _ hd10 n (by omega)]
        refine xj_if_ne (tgt := 55) dX0_read_50 rfl (fun c50 => ?_) (fun c50 => ?_)
        · refine xj_iload dX0_read_55 rfl ?_
          refine xj_ic1 dX0_read_57 ?_
          refine xj_aload_n dX0_read_58 rfl rfl ?_
          refine xj_iload dX0_read_59 rfl ?_
          refine xj_bald dX0_read_61 (gset_self hL) rfl (by omega) (List.getElem?_set_self (by omega)) ?_
          have hin := of_decide_eq_true (b1_nz c50)
          refine xj_ishl dX0_read_62 ?_
          rw [c_shl7 _ (by omega)]
          refine xj_ior dX0_read_63 ?_
          rw [nI_or, ← hds]
          refine xj_ist4 dX0_read_64 rfl ?_
          refine xj_iinc5 (cst := (-1)) dX0_read_66 rfl rfl ?_
          rw [add_m1 k]
          refine xj_goto (tgt := 16) dX0_read_69 rfl ?_
          exact ih_lp k _ (by omega) (by omega) (by rw [List.length_set]; exact hM) (fun p hp1 hp2 => by
            by_cases e : k = p
            · subst e; exact ⟨List.getElem?_set_self (by omega), hin⟩
            · rw [List.getElem?_set_ne e]; exact hMp p (by omega) hp2)
        · refine xj_ic0 dX0_read_53 ?_
          exact xj_ireturn dX0_read_54 rfl (by decide) (by have hbad := rowB_bad (by omega) h1n hR31 (show k < n by omega) (of_decide_eq_false (b1_z c50)); exact ⟨by rw [hbad]; rfl, M.set k (nI (dgt n R k)), (by rw [List.length_set]; exact hM), (fun S hS e => by rw [e, rowB_of (by omega) hS] at hbad; cases hbad), rfl⟩)
  exact lp (n + 1) n L (by omega) (by omega) rfl (fun p h1 h2 => absurd h1 (by omega))

theorem A_read {r : Nat} {x : Int32} {L : List Int32}  (hv : cV d e n G) (hL : G[r]? = some (cI 1 L)) (hr0 : r ≠ 0) (hr4 : r ≠ 4) (hln : n ≤ L.length) (hl31 : L.length < 2147483648) : xMet E yX0_read cX0_read 6 (some FieldType.boolean) 1 0 0 [.ref 0, .int x, .ref r] G (xre (fun v G' => v = some (.int (b1 (rowB n x))) ∧ ∃ M : List Int32, M.length = L.length ∧ (∀ R ∈ rws n, x = nI R → rwL n R M) ∧ G' = G.set r (cI 1 M))) := by
  by_cases hx : x < 0
  · exact A_readN hv hL hr0 hr4 hln hl31 hx
  · obtain ⟨R, hR31, rfl⟩ := nI_of hx
    exact A_readP hv hL hr0 hr4 hln hl31 hR31
theorem A_areRows {x y : Int32} {L L2 : List Int32}  (hv : cV d e n G) (hL : G[11]? = some (cI 1 L)) (hL2 : G[12]? = some (cI 1 L2)) (hln : n ≤ L.length) (hln2 : n ≤ L2.length) (hl31 : L.length < 2147483648) (hl312 : L2.length < 2147483648) : xMet E yX0_areRows cX0_areRows 3 (some FieldType.boolean) 2 0 0 [.ref 0, .int x, .int y] G (xre (fun v G' => v = some (.int (b1 (rowB n x && rowB n y))) ∧ ∃ M M2 : List Int32, M.length = L.length ∧ M2.length = L2.length ∧ (∀ R ∈ rws n, x = nI R → rwL n R M) ∧ (rowB n x = true → ∀ R ∈ rws n, y = nI R → rwL n R M2) ∧ G' = (G.set 11 (cI 1 M)).set 12 (cI 1 M2))) := by
  obtain ⟨hO, hN, hn0, h1n, hn6⟩ := id hv
  refine xMet.of (lv := [some (.ref 0), some (.int x), some (.int y)]) rfl rfl (Nat.le_of_ble_eq_true rfl) ?_
  refine xj_aload_n dX0_areRows_0 rfl rfl ?_
  refine xj_iload_n dX0_areRows_1 rfl ?_
  refine xj_aload_n dX0_areRows_2 rfl rfl ?_
  refine xj_get dX0_areRows_3 K0 8 (by decide) q477 hO rfl ?_
  refine xj_dV dX0_areRows_6 q596 kV_X0_read (A_read hv hL (by decide) (by decide) hln hl31) hO rfl rfl rfl rfl (Nat.le_of_ble_eq_true rfl) ⟨(Nat.le_of_ble_eq_true rfl), (Nat.le_of_ble_eq_true rfl)⟩ (Nat.le_of_ble_eq_true rfl) (Nat.le_of_ble_eq_true rfl) ?_
  rintro _ _ ⟨rfl, M, hM1, hM2, rfl⟩
  have hv2 : cV d e n (G.set 11 (cI 1 M)) := hv.set (by decide) (by decide)
  obtain ⟨hO2, hN2, -⟩ := id hv2
  have hL2 : (G.set 11 (cI 1 M))[12]? = some (cI 1 L2) := by rw [gset (by decide)]; exact hL2
  refine xj_if_eq (tgt := 28) dX0_areRows_9 rfl (fun c9 => ?_) (fun c9 => ?_)
  · refine xj_ic0 dX0_areRows_28 ?_
    exact xj_ireturn dX0_areRows_29 rfl rfl (by first | (exact ⟨by rw [b1_z c9]; rfl, M, L2, hM1, rfl, hM2, fun h => absurd (h.symm.trans (b1_z c9)) (by decide), (gset_id hL2).symm⟩) | (exact ⟨by rw [b1_nz c9]; first | (rw [b1_z c21]; done) | (rw [b1_nz c21]; done) | (rw [b1_z c21]; rfl) | (rw [b1_nz c21]; rfl), M, M2, hM1, hN1, hM2, fun _ => hN2, rfl⟩))
  · refine xj_aload_n dX0_areRows_12 rfl rfl ?_
    refine xj_iload_n dX0_areRows_13 rfl ?_
    refine xj_aload_n dX0_areRows_14 rfl rfl ?_
    refine xj_get dX0_areRows_15 K0 9 (by decide) q478 hO2 rfl ?_
    refine xj_dV dX0_areRows_18 q596 kV_X0_read (A_read hv2 hL2 (by decide) (by decide) hln2 hl312) hO2 rfl rfl rfl rfl (Nat.le_of_ble_eq_true rfl) ⟨(Nat.le_of_ble_eq_true rfl), (Nat.le_of_ble_eq_true rfl)⟩ (Nat.le_of_ble_eq_true rfl) (Nat.le_of_ble_eq_true rfl) ?_
    rintro _ _ ⟨rfl, M2, hN1, hN2, rfl⟩
    refine xj_if_eq (tgt := 28) dX0_areRows_21 rfl (fun c21 => ?_) (fun c21 => ?_)
    · refine xj_ic0 dX0_areRows_28 ?_
      exact xj_ireturn dX0_areRows_29 rfl rfl (by first | (exact ⟨by rw [b1_z c9]; rfl, M, L2, hM1, rfl, hM2, fun h => absurd (h.symm.trans (b1_z c9)) (by decide), (gset_id hL2).symm⟩) | (exact ⟨by rw [b1_nz c9]; first | (rw [b1_z c21]; done) | (rw [b1_nz c21]; done) | (rw [b1_z c21]; rfl) | (rw [b1_nz c21]; rfl), M, M2, hM1, hN1, hM2, fun _ => hN2, rfl⟩))
    · refine xj_ic1 dX0_areRows_24 ?_
      refine xj_goto (tgt := 29) dX0_areRows_25 rfl ?_
      exact xj_ireturn dX0_areRows_29 rfl rfl (by first | (exact ⟨by rw [b1_z c9]; rfl, M, L2, hM1, rfl, hM2, fun h => absurd (h.symm.trans (b1_z c9)) (by decide), (gset_id hL2).symm⟩) | (exact ⟨by rw [b1_nz c9]; first | (rw [b1_z c21]; done) | (rw [b1_nz c21]; done) | (rw [b1_z c21]; rfl) | (rw [b1_nz c21]; rfl), M, M2, hM1, hN1, hM2, fun _ => hN2, rfl⟩))
end A3
