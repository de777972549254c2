/-! ===== the class: wayUp over its own ways ===== -/
set_option maxRecDepth 100000
theorem kV_X0_findWays : xsV yX0_findWays cX0_findWays 5 none 0 := ⟨q1391, qs60, q151, q1392, by decide, by decide, by decide +kernel⟩
theorem kV_X0_first : xsV yX0_first cX0_first 3 none 1 := ⟨q774, qs29, q151, q775, by decide, by decide, by decide +kernel⟩
theorem f_lastd : ∀ n, n < 7 → 1 ≤ n → ∀ p, p < n → some (nI (dgt n (rb n 0) (n - 1 - p))) = some (nI (dgt n (rb n (wy n - 1)) p)) := by decide +kernel
theorem fwA_len (n g : Nat) : (fwA n g).1.length = 120 ∧ (fwA n g).2.length = 120 := by
  have hI : ∀ (w k i : Nat) (s : List Int32 × List Int32), s.1.length = 120 ∧ s.2.length = 120 → (lpN (fwI n g w) i k s).1.length = 120 ∧ (lpN (fwI n g w) i k s).2.length = 120 := by
    intro w k
    induction k with
    | zero => intro i s h; exact h
    | succ k ih =>
      intro i s h
      rw [lpN_s]
      refine ih (i + 1) _ ?_
      unfold fwI
      split
      · have := clV_len n i (rot n g (rb n i) false) s; omega
      · exact h
  have hO : ∀ (k w : Nat) (s : List Int32 × List Int32), s.1.length = 120 ∧ s.2.length = 120 → (lpN (fwO n g) w k s).1.length = 120 ∧ (lpN (fwO n g) w k s).2.length = 120 := by
    intro k
    induction k with
    | zero => intro w s h; exact h
    | succ k ih => intro w s h; rw [lpN_s]; exact ih (w + 1) _ (hI w _ 0 s h)
  exact hO _ _ _ ⟨rfl, rfl⟩
theorem cPo.ways {d : Nat → Value} {n g : Nat} {G H : xH} {z : Int32} (hs : sIn d) (hc : scr G) (hdk : dsk H) (hfr : gfr [0, 11, 13, 14, 15, 16, 21, 22, 23] G H) (h22 : H[22]? = some (cI 0 (fwA n g).1)) (h23 : H[23]? = some (cI 0 (fwA n g).2)) (h0 : H[0]? = some (cO 0 (cFs (cu d 22 (.int z))))) : cPo d G H := by
  obtain ⟨q1, q2, q3, q4⟩ := hc
  refine ⟨cu d 22 (.int z), fun i hi => ?_, fun i hi => ?_, h0, ⟨hdk, fun i i1 i2 => ?_, ?_, ?_⟩, (hfr.mono (by decide)).gfa⟩
  · unfold cu; rw [if_neg (fun e => hi (by rw [e]; decide))]
  · unfold cu
    by_cases e : i = 22
    · rw [if_pos e]; exact ⟨z, rfl⟩
    · rw [if_neg e]; exact hs i hi
  · by_cases e : i = 22
    · subst e; exact ⟨_, (fwA_len n g).1, h22⟩
    · by_cases e2 : i = 23
      · subst e2; exact ⟨_, (fwA_len n g).2, h23⟩
      · rw [hfr.2 i (by simp only [List.mem_cons, List.not_mem_nil, or_false]; omega)]; exact q2 i i1 i2
  · rw [hfr.2 26 (by decide)]; exact q3
  · rw [hfr.2 20 (by decide)]; exact q4
section A15
variable {E : xE} {G : xH} {d e : Nat → Value} {n : Nat}
theorem A_wayUp {w : Int32} {g : Nat}  (hv : cV d e n G) (hn3 : e 3 = .long (lN g)) (hg : g < 2 ^ 64) (hs : sIn d) (hc : scr G) : xMet E yX0_wayUp cX0_wayUp 3 (some FieldType.int) 6 0 0 [.ref 0, .int w] G (xre (fun v_ G' => v_ = some (.int (if inI w 2 then (if n = 6 then -4 else (if w = 0 then (fwA n g).1 else (fwA n g).2).getD (rk n (gos n true g (rb n (wy n - 1)))) 0) else -1)) ∧ cPo d G G')) := by
  obtain ⟨hO, hN, hn0, h1n, hn6⟩ := id hv
  have hP := cPo.refl hv hs hc
  obtain ⟨L1, hl1, h11⟩ := hc.at (r := 11) (by decide) (by decide)
  obtain ⟨L2, hl2, h12⟩ := hc.at (r := 12) (by decide) (by decide)
  obtain ⟨L3, hl3, h13⟩ := hc.at (r := 13) (by decide) (by decide)
  obtain ⟨A0, hlA, h22⟩ := hc.2.1 22 (by decide) (by decide)
  obtain ⟨B0, hlB, h23⟩ := hc.2.1 23 (by decide) (by decide)
  obtain ⟨z, hz⟩ := hs 22 (by decide)
  have hlm : (rb n (wy n - 1)) ∈ rws n := rb_mem (by omega) h1n (by have := (wy_in n (by omega)).1; omega)
  have hgm : gos n true g (rb n (wy n - 1)) ∈ rws n := gos_mem' (by omega) hlm
  refine xMet.of (lv := [some (.ref 0), some (.int w), none]) rfl rfl (Nat.le_of_ble_eq_true rfl) ?_
  refine xj_iload_n dX0_wayUp_0 rfl ?_
  refine xj_ic0 dX0_wayUp_1 ?_
  refine xj_ic1 dX0_wayUp_2 ?_
  refine xj_cS dX0_wayUp_3 q585 kS_X0_isIn A_isIn rfl rfl (Nat.le_of_ble_eq_true rfl) ⟨(Nat.le_of_ble_eq_true rfl), (Nat.le_of_ble_eq_true rfl)⟩ (Nat.le_of_ble_eq_true rfl) (Nat.le_of_ble_eq_true rfl) ?_
  rw [show inC w 0 1 = inI w 2 from inC_inI (m := 2) (by decide)]
  refine xj_if_ne (tgt := 11) dX0_wayUp_6 rfl (fun c6 => ?_) (fun c6 => ?_)
  · have hw2 := b1_nz c6
    rw [hw2, if_pos rfl]
    refine xj_aload_n dX0_wayUp_11 rfl rfl ?_
    refine xj_get dX0_wayUp_12 K0 4 (by decide) q473 hO rfl ?_
    refine xj_getN dX0_wayUp_15 K3 0 (by decide) q321 hN (congrArg some hn0) ?_
    refine xj_ic5 dX0_wayUp_18 ?_
    refine xj_icmp_le (tgt := 25) dX0_wayUp_19 rfl (fun c19 => ?_) (fun c19 => ?_)
    · have hn5 : n < 6 := by have : n ≤ 5 := (nI_leI (b := 5) (by omega) (by decide)).mp c19; omega
      rw [if_neg (by omega)]
      refine xj_aload_n dX0_wayUp_25 rfl rfl ?_
      refine xj_dV dX0_wayUp_26 q1389 kV_X0_findWays (A_findWays hv hn3 hg hc.1 hn5 hz h22 h23 hlA hlB) hO rfl rfl rfl rfl (Nat.le_of_ble_eq_true rfl) ⟨(Nat.le_of_ble_eq_true rfl), (Nat.le_of_ble_eq_true rfl)⟩ (Nat.le_of_ble_eq_true rfl) (Nat.le_of_ble_eq_true rfl) ?_
      rintro _ H ⟨rfl, hdk, hfr, k22, k23, z2, k0⟩
      have hvH : cV (cu d 22 (.int z2)) e n H := hv.mv k0 (hfr.2 4 (by decide))
      obtain ⟨hO2, hN2, -⟩ := id hvH
      obtain ⟨N1, hN1, k11⟩ := hdk.1 11 (by decide) (by decide)
      have hPH : cPo d G H := cPo.ways hs hc hdk hfr k22 k23 k0
      refine xj_aload_n dX0_wayUp_29 rfl rfl ?_
      refine xj_aload_n dX0_wayUp_30 rfl rfl ?_
      refine xj_get dX0_wayUp_31 K0 8 (by decide) q477 hO2 rfl ?_
      refine xj_dV dX0_wayUp_34 q772 kV_X0_first (A_first hvH k11 (by decide) (by decide) (by omega)) hO2 rfl rfl rfl rfl (Nat.le_of_ble_eq_true rfl) ⟨(Nat.le_of_ble_eq_true rfl), (Nat.le_of_ble_eq_true rfl)⟩ (Nat.le_of_ble_eq_true rfl) (Nat.le_of_ble_eq_true rfl) ?_
      rintro _ _ ⟨rfl, N2, hN2l, hN2R, rfl⟩
      have hv3 : cV (cu d 22 (.int z2)) e n (H.set 11 (cI 1 N2)) := hvH.set (by decide) (by decide)
      obtain ⟨hO3, hN3, -⟩ := id hv3
      refine xj_aload_n dX0_wayUp_37 rfl rfl ?_
      refine xj_aload_n dX0_wayUp_38 rfl rfl ?_
      refine xj_get dX0_wayUp_39 K0 8 (by decide) q477 hO3 rfl ?_
      refine xj_ic0 dX0_wayUp_42 ?_
      refine xj_dV dX0_wayUp_43 q666 kV_X0_turnRound (A_turnRound (f := 0) hv3 (gset_self k11) (by decide) (by decide) hN2R.dg (by omega) (by omega)) hO3 rfl rfl rfl rfl (Nat.le_of_ble_eq_true rfl) ⟨(Nat.le_of_ble_eq_true rfl), (Nat.le_of_ble_eq_true rfl)⟩ (Nat.le_of_ble_eq_true rfl) (Nat.le_of_ble_eq_true rfl) ?_
      rintro _ _ ⟨rfl, N3, hN3l, hN3R, rfl⟩
      rw [gset_set]
      have hN3W : rwL n (rb n (wy n - 1)) N3 := fun p hp => by rw [hN3R p hp, if_pos (Nat.zero_le _), show 0 + n - 1 - p = n - 1 - p by omega, hN2R _ (by omega), f_lastd n (by omega) h1n p hp]
      have hv4 : cV (cu d 22 (.int z2)) e n (H.set 11 (cI 1 N3)) := hvH.set (by decide) (by decide)
      obtain ⟨hO4, hN4, -⟩ := id hv4
      refine xj_aload_n dX0_wayUp_46 rfl rfl ?_
      refine xj_aload_n dX0_wayUp_47 rfl rfl ?_
      refine xj_get dX0_wayUp_48 K0 8 (by decide) q477 hO4 rfl ?_
      refine xj_ic1 dX0_wayUp_51 ?_
      refine xj_dV dX0_wayUp_52 q1231 kV_X0_goes (A_goes (t := true) hv4 hn3 hg (gset_self k11) (by decide) (by decide) hN3W hlm (by omega)) hO4 rfl rfl rfl rfl (Nat.le_of_ble_eq_true rfl) ⟨(Nat.le_of_ble_eq_true rfl), (Nat.le_of_ble_eq_true rfl)⟩ (Nat.le_of_ble_eq_true rfl) (Nat.le_of_ble_eq_true rfl) ?_
      rintro _ _ ⟨rfl, N5, hN5, hN5R, rfl⟩
      rw [gset_set]
      have hv5 : cV (cu d 22 (.int z2)) e n (H.set 11 (cI 1 N5)) := hvH.set (by decide) (by decide)
      obtain ⟨hO5, hN55, -⟩ := id hv5
      have j22 : (H.set 11 (cI 1 N5))[22]? = some (cI 0 (fwA n g).1) := by rw [gset (by decide)]; exact k22
      have j23 : (H.set 11 (cI 1 N5))[23]? = some (cI 0 (fwA n g).2) := by rw [gset (by decide)]; exact k23
      have hrk := f_rk5 n hn5 _ hgm
      have hfl := fwA_len n g
      refine xj_aload_n dX0_wayUp_55 rfl rfl ?_
      refine xj_aload_n dX0_wayUp_56 rfl rfl ?_
      refine xj_get dX0_wayUp_57 K0 8 (by decide) q477 hO5 rfl ?_
      refine xj_cV dX0_wayUp_60 q658 kV_X0_rankOf (A_rankOf hv5 (gset_self k11) hN5R hgm) hO5 rfl rfl rfl rfl (Nat.le_of_ble_eq_true rfl) ⟨(Nat.le_of_ble_eq_true rfl), (Nat.le_of_ble_eq_true rfl)⟩ (Nat.le_of_ble_eq_true rfl) (Nat.le_of_ble_eq_true rfl) ?_
      refine xj_istn2 dX0_wayUp_63 rfl ?_
      refine xj_iload_n dX0_wayUp_64 rfl ?_
      refine xj_if_ne (tgt := 77) dX0_wayUp_65 rfl (fun c65 => ?_) (fun c65 => ?_)
      · refine xj_aload_n dX0_wayUp_77 rfl rfl ?_
        refine xj_get dX0_wayUp_78 K0 24 (by decide) q493 hO5 rfl ?_
        refine xj_iload_n dX0_wayUp_81 rfl ?_
        refine xj_iald dX0_wayUp_82 j23 rfl (by omega) (gD_at (by omega)) ?_
        exact xj_ireturn dX0_wayUp_83 rfl rfl ⟨by first | rw [if_pos c65] | rw [if_neg c65], hPH.row (by decide) (by decide) (by omega)⟩
      · refine xj_aload_n dX0_wayUp_68 rfl rfl ?_
        refine xj_get dX0_wayUp_69 K0 23 (by decide) q492 hO5 rfl ?_
        refine xj_iload_n dX0_wayUp_72 rfl ?_
        refine xj_iald dX0_wayUp_73 j22 rfl (by omega) (gD_at (by omega)) ?_
        refine xj_goto (tgt := 83) dX0_wayUp_74 rfl ?_
        exact xj_ireturn dX0_wayUp_83 rfl rfl ⟨by first | rw [if_pos c65] | rw [if_neg c65], hPH.row (by decide) (by decide) (by omega)⟩
    · refine xj_bipush (v := -4) dX0_wayUp_22 rfl ?_
      exact xj_ireturn dX0_wayUp_24 rfl rfl ⟨by rw [if_pos (by have : 5 < n := Nat.lt_of_not_le fun h => c19 (nI_le (b := 5) h (by decide)); omega)], hP⟩
  · refine xj_icm1 dX0_wayUp_9 ?_
    exact xj_ireturn dX0_wayUp_10 rfl rfl ⟨by rw [b1_z c6]; rfl, hP⟩
end A15
