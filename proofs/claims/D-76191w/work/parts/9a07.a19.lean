/-! ===== the class: collapse, lots ===== -/
set_option maxRecDepth 100000
theorem kV_X0_byLot : xsV yX0_byLot cX0_byLot 3 none 1 := ⟨q1499, qs70, q151, q1500, by decide, by decide, by decide +kernel⟩
theorem kV_X0_isLeast : xsV yX0_isLeast cX0_isLeast 2 (some FieldType.boolean) 1 := ⟨q1328, qs55, q151, q1329, by decide, by decide, by decide +kernel⟩
theorem kV_X0_stepsUp : xsV yX0_stepsUp cX0_stepsUp 4 (some FieldType.int) 2 := ⟨q825, qs33, q151, q826, by decide, by decide, by decide +kernel⟩
theorem oFs_c3 {e : Nat → Value} {a b : Value} : (oFs (cu e 3 a)).set 3 b = oFs (cu e 3 b) := rfl
theorem oFs_c2 {e : Nat → Value} {a b : Value} : (oFs (cu e 2 a)).set 2 b = oFs (cu e 2 b) := rfl
theorem rwL_swp {n R p q : Nat} {L : List Int32} (hR : R < 10 ^ n) (hL : rwL n R L) (hp : p < n) (hq : q < p + 1) : rwL n (swp n R p q) (chL L p q) := by
  have hl := hL.len (by omega)
  intro i hi
  rw [chL_at (by omega) (by omega), dgt_swp hR hp hq hi]
  unfold swD
  by_cases e : i = q
  · rw [if_pos e, x_getD (hL p hp)]
    by_cases e2 : i = p
    · rw [if_pos e2, show q = p by omega]
    · rw [if_neg e2, if_pos e]
  · rw [if_neg e, if_neg e]
    by_cases e2 : i = p
    · rw [if_pos e2, if_pos e2, x_getD (hL q (by omega))]
    · rw [if_neg e2, if_neg e2]; exact hL i hi
theorem scr.at11 {G H : xH} {M : List Int32} (h : scr G) (hf : gfr [4, 11] G H) (hM : M.length = 6) (h11 : H[11]? = some (cI 1 M)) : scr H := by
  obtain ⟨q1, q2, q3, q4⟩ := h
  refine ⟨q1.mk' (fun i i1 i2 => ?_) ?_, fun i i1 i2 => ?_, ?_, ?_⟩
  · by_cases e : i = 11
    · subst e; exact Or.inr ⟨M, hM, h11⟩
    · exact Or.inl (hf.2 i (by simp only [List.mem_cons, List.not_mem_nil, or_false]; omega))
  · rw [hf.2 21 (by decide)]; exact q1.2
  · rw [hf.2 i (by simp only [List.mem_cons, List.not_mem_nil, or_false]; omega)]; exact q2 i i1 i2
  · rw [hf.2 26 (by decide)]; exact q3
  · rw [hf.2 20 (by decide)]; exact q4
section A19
variable {E : xE} {G : xH} {d e : Nat → Value} {n : Nat}
theorem A_collapse {x y : Int32} {g : Nat}  (hv : cV d e n G) (hn3 : e 3 = .long (lN g)) (hg : g < 2 ^ 57) (hs : sIn d) (hc : scr G) (hA : cA d n G) : xMet E yX0_collapse cX0_collapse 3 (some FieldType.int) 4 0 0 [.ref 0, .int x, .int y] G (xre (fun v_ G' => v_ = some (.int (o_collapse n g x y)) ∧ cPn d (cu e 3 (.long (lN (s_collapse n g x y)))) G G')) := by
  obtain ⟨hO, hN, hn0, h1n, hn6⟩ := id hv
  have hP := cPo.refl hv hs hc
  obtain ⟨L1, hl1, h11⟩ := hc.at (r := 11) (by decide) (by decide)
  obtain ⟨L2, hl2, h12⟩ := hc.at (r := 12) (by decide) (by decide)
  obtain ⟨L3, hl3, h13⟩ := hc.at (r := 13) (by decide) (by decide)
  obtain ⟨L4, hl4, h14⟩ := hc.at (r := 14) (by decide) (by decide)
  obtain ⟨ar, hd3, hdy, hT0⟩ := id hA
  have hna := na_lt n (by omega)
  have hs0 := hs
  refine xMet.of (lv := [some (.ref 0), some (.int x), some (.int y)]) rfl rfl (Nat.le_of_ble_eq_true rfl) ?_
  refine xj_aload_n dX0_collapse_0 rfl rfl ?_
  refine xj_iload_n dX0_collapse_1 rfl ?_
  refine xj_iload_n dX0_collapse_2 rfl ?_
  refine xj_dV dX0_collapse_3 q592 kV_X0_areRows (A_areRows hv h11 h12 (by omega) (by omega) (by omega) (by omega)) hO rfl rfl rfl rfl (Nat.le_of_ble_eq_true rfl) ⟨(Nat.le_of_ble_eq_true rfl), (Nat.le_of_ble_eq_true rfl)⟩ (Nat.le_of_ble_eq_true rfl) (Nat.le_of_ble_eq_true rfl) ?_
  rintro _ _ ⟨rfl, M, M2, hM, hM2, hRx, hRy, rfl⟩
  have hv2 : cV d e n ((G.set 11 (cI 1 M)).set 12 (cI 1 M2)) := (hv.set (by decide) (by decide)).set (by decide) (by decide)
  obtain ⟨hO2, hN2, -⟩ := id hv2
  have hP2 : cPo d G ((G.set 11 (cI 1 M)).set 12 (cI 1 M2)) := (hP.row (by decide) (by decide) (by omega)).row (by decide) (by decide) (by omega)
  have g11 : ((G.set 11 (cI 1 M)).set 12 (cI 1 M2))[11]? = some (cI 1 M) := by rw [gset (by decide)]; exact gset_self h11
  have g12 : ((G.set 11 (cI 1 M)).set 12 (cI 1 M2))[12]? = some (cI 1 M2) := gset_self (by rw [gset (by decide)]; exact h12)
  have g13 : ((G.set 11 (cI 1 M)).set 12 (cI 1 M2))[13]? = some (cI 1 L3) := by rw [gset (by decide), gset (by decide)]; exact h13
  refine xj_if_ne (tgt := 11) dX0_collapse_6 rfl (fun c6 => ?_) (fun c6 => ?_)
  · have hbb := b1_nz c6
    have hb2 := hbb
    rw [Bool.and_eq_true] at hb2
    obtain ⟨R, hR, rfl⟩ := rowB_t (by omega) h1n hb2.1
    obtain ⟨S, hS, rfl⟩ := rowB_t (by omega) h1n hb2.2
    have hRM := hRx R hR rfl
    have hSM := hRy hb2.1 S hS rfl
    have tR := tn_nI (by omega) hR
    have tS := tn_nI (by omega) hS
    have hmt := mtS_mem (n := n) (B := inv n R &&& inv n S) (by omega) h1n
    have ht := jn2_mem (by omega) h1n hR hS
    have hms := mj_sub (by omega) h1n hR hS
    have g14 : ((G.set 11 (cI 1 M)).set 12 (cI 1 M2))[14]? = some (cI 1 L4) := by rw [gset (by decide), gset (by decide)]; exact h14
    refine xj_aload_n dX0_collapse_11 rfl rfl ?_
    refine xj_aload_n dX0_collapse_12 rfl rfl ?_
    refine xj_get dX0_collapse_13 K0 8 (by decide) q477 hO2 rfl ?_
    refine xj_aload_n dX0_collapse_16 rfl rfl ?_
    refine xj_get dX0_collapse_17 K0 9 (by decide) q478 hO2 rfl ?_
    refine xj_aload_n dX0_collapse_20 rfl rfl ?_
    refine xj_get dX0_collapse_21 K0 10 (by decide) q479 hO2 rfl ?_
    refine xj_dV dX0_collapse_24 q616 kV_X0_met (A_met hv2 g11 hRM hR g12 hSM hS g13 (by decide) (by decide) hmt (by omega) (by omega) (cp_lt (by omega) h1n hR hS) (mt_law (by omega) h1n hR hS)) hO2 rfl rfl rfl rfl (Nat.le_of_ble_eq_true rfl) ⟨(Nat.le_of_ble_eq_true rfl), (Nat.le_of_ble_eq_true rfl)⟩ (Nat.le_of_ble_eq_true rfl) (Nat.le_of_ble_eq_true rfl) ?_
    rintro _ _ ⟨rfl, M3, hM3, hM3R, rfl⟩
    have hv3 : cV d e n (((G.set 11 (cI 1 M)).set 12 (cI 1 M2)).set 13 (cI 1 M3)) := hv2.set (by decide) (by decide)
    obtain ⟨hO3, hN3, -⟩ := id hv3
    have q11 : (((G.set 11 (cI 1 M)).set 12 (cI 1 M2)).set 13 (cI 1 M3))[11]? = some (cI 1 M) := by rw [gset (by decide)]; exact g11
    have q12 : (((G.set 11 (cI 1 M)).set 12 (cI 1 M2)).set 13 (cI 1 M3))[12]? = some (cI 1 M2) := by rw [gset (by decide)]; exact g12
    have q14 : (((G.set 11 (cI 1 M)).set 12 (cI 1 M2)).set 13 (cI 1 M3))[14]? = some (cI 1 L4) := by rw [gset (by decide)]; exact g14
    refine xj_aload_n dX0_collapse_27 rfl rfl ?_
    refine xj_aload_n dX0_collapse_28 rfl rfl ?_
    refine xj_get dX0_collapse_29 K0 8 (by decide) q477 hO3 rfl ?_
    refine xj_aload_n dX0_collapse_32 rfl rfl ?_
    refine xj_get dX0_collapse_33 K0 9 (by decide) q478 hO3 rfl ?_
    refine xj_aload_n dX0_collapse_36 rfl rfl ?_
    refine xj_get dX0_collapse_37 K0 11 (by decide) q480 hO3 rfl ?_
    refine xj_dV dX0_collapse_40 q640 kV_X0_joined (A_joined hv3 q11 hRM hR q12 hSM hS q14 (by decide) (by decide) ht (by omega) (by omega) (jn_law (by omega) h1n hR hS)) hO3 rfl rfl rfl rfl (Nat.le_of_ble_eq_true rfl) ⟨(Nat.le_of_ble_eq_true rfl), (Nat.le_of_ble_eq_true rfl)⟩ (Nat.le_of_ble_eq_true rfl) (Nat.le_of_ble_eq_true rfl) ?_
    rintro _ _ ⟨rfl, M4, hM4, hM4R, rfl⟩
    obtain ⟨t, et⟩ : ∃ t, t = jnS n (inv n R ||| inv n S) := ⟨_, rfl⟩
    rw [← et] at ht hms hM4R
    have ht31 := R31 (by omega) ht
    obtain ⟨-, -, -, -, hc2, hf2⟩ := id hP2
    have lp : ∀ (K : Nat) (q : Nat) (gg : Nat) (M3 : List Int32) (H : xH), gmu n false q < K → (q ∈ rws n) → (subB n q t = true) → (gg < 2 ^ 57) → (clp n t K q gg = clp n t 16 (mtS n (inv n R &&& inv n S)) g) → (M3.length = 6) → (rwL n q M3) → (H[13]? = some (cI 1 M3)) → (H[14]? = some (cI 1 M4)) → (H[0]? = some (cO 0 (cFs d))) → (H[4]? = some (cO 3 (oFs (cu e 3 (.long (lN (gg))))))) → (scr H) → (gfa (4 :: WS) G H) → xJ E (yX0_collapse, cX0_collapse, 3, (some FieldType.int), []) (xR 4 0 0) (xre (fun v_ G' => v_ = some (.int (o_collapse n g (nI R) (nI S))) ∧ cPn d (cu e 3 (.long (lN (s_collapse n g (nI R) (nI S))))) G G')) 0 0 43 [some (.ref 0), some (.int (nI R)), some (.int (nI S))] [] H := by
      intro K
      induction K with
      | zero => intro q gg M3 H h; exact absurd h (Nat.not_lt_zero _)
      | succ K ih_lp =>
        intro q gg M3 H hK hq hqt hgg hs hM3 hMq k13 k14 k0 k4 hcH hfr
        have hv2 : cV d (cu e 3 (.long (lN (gg)))) n H := ⟨k0, k4, hn0, h1n, hn6⟩
        have hO2 := k0
        have hkp : kpt G H := hfr.kpt (by decide)
        have hq31 := R31 (by omega) hq
        refine xj_aload_n dX0_collapse_43 rfl rfl ?_
        refine xj_aload_n dX0_collapse_44 rfl rfl ?_
        refine xj_get dX0_collapse_45 K0 10 (by decide) q479 k0 rfl ?_
        refine xj_cV dX0_collapse_48 q632 kV_X0_told (A_told hv2 k13 hMq (f_tl n (by omega) q hq)) k0 rfl rfl rfl rfl (Nat.le_of_ble_eq_true rfl) ⟨(Nat.le_of_ble_eq_true rfl), (Nat.le_of_ble_eq_true rfl)⟩ (Nat.le_of_ble_eq_true rfl) (Nat.le_of_ble_eq_true rfl) ?_
        refine xj_aload_n dX0_collapse_51 rfl rfl ?_
        refine xj_aload_n dX0_collapse_52 rfl rfl ?_
        refine xj_get dX0_collapse_53 K0 11 (by decide) q480 k0 rfl ?_
        refine xj_cV dX0_collapse_56 q632 kV_X0_told (A_told hv2 k14 hM4R (f_tl n (by omega) t ht)) k0 rfl rfl rfl rfl (Nat.le_of_ble_eq_true rfl) ⟨(Nat.le_of_ble_eq_true rfl), (Nat.le_of_ble_eq_true rfl)⟩ (Nat.le_of_ble_eq_true rfl) (Nat.le_of_ble_eq_true rfl) ?_
        refine xj_icmp_eq (tgt := 97) dX0_collapse_59 rfl (fun c59 => ?_) (fun c59 => ?_)
        · have he : q = t := (nI_eq hq31 ht31).mp c59
          have hs : (if q = t then gg else clp n t K (sw n q (upP n q t)) (gg ||| fo n (aa n q (upP n q t)))) = _ := hs
          rw [if_pos he] at hs
          refine xj_aload_n dX0_collapse_97 rfl rfl ?_
          refine xj_cV dX0_collapse_98 q811 kV_X0_manyGone (A_manyGone hv2 rfl (Nat.lt_trans hgg (by decide))) k0 rfl rfl rfl rfl (Nat.le_of_ble_eq_true rfl) ⟨(Nat.le_of_ble_eq_true rfl), (Nat.le_of_ble_eq_true rfl)⟩ (Nat.le_of_ble_eq_true rfl) (Nat.le_of_ble_eq_true rfl) ?_
          exact xj_ireturn dX0_collapse_101 rfl rfl (by subst hs; refine ⟨by unfold o_collapse s_collapse; rw [if_pos hbb, if_pos hbb, tR, tS, ← et], d, fun _ _ => rfl, hs0, k0, hcH, hfr, ?_⟩; unfold s_collapse; rw [if_pos hbb, tR, tS, ← et]; exact k4)
        · have hne : q ≠ t := fun h => c59 (by rw [h])
          have hs : (if q = t then gg else clp n t K (sw n q (upP n q t)) (gg ||| fo n (aa n q (upP n q t)))) = _ := hs
          rw [if_neg hne] at hs
          have hok := upP_ok (by omega) hq ht hqt hne
          have hlt := gmu_step (by omega) hq hok.1 hok.2.1
          have haa := (f_aa n (by omega) q hq _ hok.1).1
          have hsp := f_sw (by omega) hq hok.1
          refine xj_aload_n dX0_collapse_62 rfl rfl ?_
          refine xj_get dX0_collapse_63 K0 4 (by decide) q473 k0 rfl ?_
          refine xj_dup dX0_collapse_66 rfl ?_
          refine xj_getN dX0_collapse_67 K3 3 (by decide) q327 k4 rfl ?_
          refine xj_aload_n dX0_collapse_70 rfl rfl ?_
          refine xj_get dX0_collapse_71 K0 3 (by decide) q471 k0 (congrArg some hd3) ?_
          refine xj_aload_n dX0_collapse_74 rfl rfl ?_
          refine xj_aload_n dX0_collapse_75 rfl rfl ?_
          refine xj_get dX0_collapse_76 K0 10 (by decide) q479 k0 rfl ?_
          refine xj_aload_n dX0_collapse_79 rfl rfl ?_
          refine xj_get dX0_collapse_80 K0 11 (by decide) q480 k0 rfl ?_
          refine xj_dV dX0_collapse_83 q823 kV_X0_stepsUp (A_stepsUp hv2 k13 (by decide) (by decide) hMq hq k14 hM4R ht (by decide) (by omega) hqt hne) k0 rfl rfl rfl rfl (Nat.le_of_ble_eq_true rfl) ⟨(Nat.le_of_ble_eq_true rfl), (Nat.le_of_ble_eq_true rfl)⟩ (Nat.le_of_ble_eq_true rfl) (Nat.le_of_ble_eq_true rfl) ?_
          rintro _ _ ⟨rfl, M5, hM5, hM5R, rfl⟩
          obtain ⟨LA, hAr, hLA, hAk⟩ := hT0.mv hdy (hkp.set (r := 13) (x := cI 1 M5) (by decide))
          obtain ⟨a, w, hda, hLi, hGa⟩ := hAk _ haa
          have j4 : (H.set 13 (cI 1 M5))[4]? = some (cO 3 (oFs (cu e 3 (.long (lN (gg)))))) := by rw [gset (by decide)]; exact k4
          refine xj_aald dX0_collapse_86 hAr rfl rfl rfl (by omega) hLi ?_
          refine xj_getN dX0_collapse_87 K6 10 (by decide) q425 hGa rfl ?_
          refine xj_lor dX0_collapse_90 ?_
          rw [wb_or (Nat.lt_trans hgg (by decide)) (Nat.lt_trans (fo_lt (by omega) _) (by decide))]
          refine xj_putN dX0_collapse_91 K3 3 (by decide) q327 rfl rfl j4 (Nat.le_of_ble_eq_true rfl) ?_
          refine xj_eq rfl rfl (congrArg (fun z => (H.set 13 (cI 1 M5)).set 4 (cO 3 z)) (oFs_c3 (e := e) (a := .long (lN gg)) (b := .long (lN (gg ||| fo n (aa n q (upP n q t))))))) ?_
          refine xj_goto (tgt := 43) dX0_collapse_94 rfl ?_
          exact ih_lp (sw n q (upP n q t)) _ M5 _ (by omega) hsp hok.2.2 (Nat.or_lt_two_pow hgg (fo_lt (by omega) _)) hs (by omega) hM5R (by rw [gset (by decide)]; exact gset_self k13) (by rw [gset (by decide), gset (by decide)]; exact k14) (by rw [gset (by decide), gset (by decide)]; exact k0) (gset_self j4) ((hcH.row (by decide) (by decide) (by omega)).oth (by decide)) ((hfr.set (by decide)).set (by decide))
    exact lp 16 (mtS n (inv n R &&& inv n S)) g M3 _ (gmu_lt (by omega) hmt) hmt hms hg rfl (by omega) hM3R (by rw [gset (by decide)]; exact gset_self g13) (gset_self q14) (by rw [gset (by decide), gset (by decide)]; exact hO2) (by rw [gset (by decide), gset (by decide), cu_id hn3]; exact hN2) ((hc2.row (by decide) (by decide) (by omega)).row (by decide) (by decide) (by omega)) (((hf2.mono (by decide)).set (by decide)).set (by decide))
  · refine xj_icm1 dX0_collapse_9 ?_
    exact xj_ireturn dX0_collapse_10 rfl rfl ⟨by unfold o_collapse; rw [b1_z c6]; rfl, by unfold s_collapse; rw [b1_z c6, if_neg (by decide), cu_id hn3]; exact hP2.same hN2⟩
theorem A_byLot {z : Int32} {r : Nat} {L : List Int32}  (hv : cV d e n G) (hn2 : e 2 = .int z) (hL : G[r]? = some (cI 1 L)) (hr0 : r ≠ 0) (hr4 : r ≠ 4) (hln : n ≤ L.length) (hl31 : L.length < 2147483648) : xMet E yX0_byLot cX0_byLot 3 none 1 0 0 [.ref 0, .ref r] G (xre (fun v_ G' => v_ = none ∧ ∃ M : List Int32, M.length = L.length ∧ rwL n (lotR n z) M ∧ gfr [4, r] G G' ∧ G'[r]? = some (cI 1 M) ∧ G'[4]? = some (cO 3 (oFs (cu e 2 (.int (ltK z (n - 1)))))))) := by
  obtain ⟨hO, hN, hn0, h1n, hn6⟩ := id hv
  refine xMet.of (lv := [some (.ref 0), some (.ref r), none]) rfl rfl (Nat.le_of_ble_eq_true rfl) ?_
  refine xj_aload_n dX0_byLot_0 rfl rfl ?_
  refine xj_aload_n dX0_byLot_1 rfl rfl ?_
  refine xj_dV dX0_byLot_2 q772 kV_X0_first (A_first hv hL hr0 hr4 hln) hO rfl rfl rfl rfl (Nat.le_of_ble_eq_true rfl) ⟨(Nat.le_of_ble_eq_true rfl), (Nat.le_of_ble_eq_true rfl)⟩ (Nat.le_of_ble_eq_true rfl) (Nat.le_of_ble_eq_true rfl) ?_
  rintro _ _ ⟨rfl, L0, hL0, hL0R, rfl⟩
  have hv2 : cV d e n (G.set r (cI 1 L0)) := hv.set hr0 hr4
  obtain ⟨hO2, hN2, -⟩ := id hv2
  refine xj_aload_n dX0_byLot_5 rfl rfl ?_
  refine xj_get dX0_byLot_6 K0 4 (by decide) q473 hO2 rfl ?_
  refine xj_getN dX0_byLot_9 K3 0 (by decide) q321 hN2 (congrArg some hn0) ?_
  refine xj_ic1 dX0_byLot_12 ?_
  refine xj_isub dX0_byLot_13 ?_
  rw [nI_sub1 h1n]
  refine xj_istn2 dX0_byLot_14 rfl ?_
  have lp : ∀ (K : Nat) (k : Nat) (S : Nat) (M : List Int32) (H : xH), n - 1 - k < K → (k ≤ n - 1) → (S ∈ rws n) → (lpN (lrF n z) k (n - 1 - k) S = lotR n z) → (M.length = L.length) → (rwL n S M) → (gfr [4, r] G H) → (H[r]? = some (cI 1 M)) → (H[4]? = some (cO 3 (oFs (cu e 2 (.int (ltK z (k))))))) → xJ E (yX0_byLot, cX0_byLot, 3, none, []) (xR 1 0 0) (xre (fun v_ G' => v_ = none ∧ ∃ M : List Int32, M.length = L.length ∧ rwL n (lotR n z) M ∧ gfr [4, r] G G' ∧ G'[r]? = some (cI 1 M) ∧ G'[4]? = some (cO 3 (oFs (cu e 2 (.int (ltK z (n - 1)))))))) 0 0 15 [some (.ref 0), some (.ref r), some (.int (nI (n - 1 - k)))] [] H := by
    intro K
    induction K with
    | zero => intro k S M H h; exact absurd h (Nat.not_lt_zero _)
    | succ K ih_lp =>
      intro k S M H hK hk hS hs hM hMS hfr kr k4
      have k0 : H[0]? = some (cO 0 (cFs d)) := (hfr.2 0 (by simp only [List.mem_cons, List.not_mem_nil, or_false]; omega)).trans hO
      refine xj_iload_n dX0_byLot_15 rfl ?_
      refine xj_if_le (tgt := 66) dX0_byLot_16 rfl (fun c16 => ?_) (fun c16 => ?_)
      · exact xj_return dX0_byLot_66 rfl (by have hp0 : n - 1 - k = 0 := (by rcases Nat.eq_zero_or_pos (n - 1 - k) with h | h; exact h; exact absurd c16 (nI_ge (a := 0) h (by omega))); rw [lp_end _ (by omega)] at hs; rw [← hs]; have hkk : k = n - 1 := (by omega); rw [hkk] at k4; exact ⟨rfl, M, hM, hMS, hfr, kr, k4⟩)
      · have hk1 : k < n - 1 := Nat.lt_of_not_le fun h => c16 (by rw [show n - 1 - k = 0 by omega]; decide)
        have hqq : (lq (ltK z (k + 1)) % (n - 1 - k + 1)) < n - 1 - k + 1 := Nat.mod_lt _ (by omega)
        have hs2 : lpN (lrF n z) (k + 1) (n - 1 - (k + 1)) (swp n S (n - 1 - k) (lq (ltK z (k + 1)) % (n - 1 - k + 1))) = lotR n z := by rw [← hs, lp_step _ hk1]; unfold lrF; rw [show n - k = n - 1 - k + 1 by omega]
        have hlen := hMS.len (by omega)
        refine xj_aload_n dX0_byLot_19 rfl rfl ?_
        refine xj_get dX0_byLot_20 K0 4 (by decide) q473 k0 rfl ?_
        refine xj_aload_n dX0_byLot_23 rfl rfl ?_
        refine xj_get dX0_byLot_24 K0 4 (by decide) q473 k0 rfl ?_
        refine xj_getN dX0_byLot_27 K3 2 (by decide) q325 k4 rfl ?_
        refine xj_ldcw dX0_byLot_30 q1501 ?_
        refine xj_imul dX0_byLot_33 ?_
        refine xj_sipush (v := 12345) dX0_byLot_34 rfl ?_
        refine xj_iadd dX0_byLot_37 ?_
        refine xj_putN dX0_byLot_38 K3 2 (by decide) q325 rfl rfl k4 (Nat.le_of_ble_eq_true rfl) ?_
        refine xj_eq rfl rfl (show _ = H.set 4 (cO 3 (oFs (cu e 2 (.int (ltK z (k + 1)))))) from (congrArg (fun u => H.set 4 (cO 3 u)) (oFs_c2 (e := e) (a := .int (ltK z k)) (b := .int (lot (ltK z k))))).trans (by rw [ltK_s])) ?_
        have j0 : (H.set 4 (cO 3 (oFs (cu e 2 (.int (ltK z (k + 1)))))))[0]? = some (cO 0 (cFs d)) := by rw [gset (by decide)]; exact k0
        have j4 : (H.set 4 (cO 3 (oFs (cu e 2 (.int (ltK z (k + 1)))))))[4]? = some (cO 3 (oFs (cu e 2 (.int (ltK z (k + 1)))))) := gset_self k4
        have jr : (H.set 4 (cO 3 (oFs (cu e 2 (.int (ltK z (k + 1)))))))[r]? = some (cI 1 M) := by rw [gset (fun q => hr4 q.symm)]; exact kr
        refine xj_aload_n dX0_byLot_41 rfl rfl ?_
        refine xj_iload_n dX0_byLot_42 rfl ?_
        refine xj_aload_n dX0_byLot_43 rfl rfl ?_
        refine xj_get dX0_byLot_44 K0 4 (by decide) q473 j0 rfl ?_
        refine xj_getN dX0_byLot_47 K3 2 (by decide) q325 j4 rfl ?_
        refine xj_bipush (v := 16) dX0_byLot_50 rfl ?_
        refine xj_iushr dX0_byLot_52 ?_
        refine xj_top (ushr16 (ltK z (k + 1))) ?_
        refine xj_iload_n dX0_byLot_53 rfl ?_
        refine xj_ic1 dX0_byLot_54 ?_
        refine xj_iadd dX0_byLot_55 ?_
        refine xj_top (nI_1 _) ?_
        refine xj_irem dX0_byLot_56 (nI_ne0 (by omega) (by omega)) ?_
        refine xj_top (pk_rem (Nat.lt_trans (lq_lt _) (by decide)) (by omega) (by omega)) ?_
        refine xj_cS dX0_byLot_57 q670 kS_X0_change (A_change jr (by omega) (by omega) (by omega) (by rw [x_getD (hMS (n - 1 - k) (by omega))]; exact c_b8 _ (dgt_lt n S _)) (by rw [x_getD (hMS (lq (ltK z (k + 1)) % (n - 1 - k + 1)) (by omega))]; exact c_b8 _ (dgt_lt n S _))) rfl rfl (Nat.le_of_ble_eq_true rfl) ⟨(Nat.le_of_ble_eq_true rfl), (Nat.le_of_ble_eq_true rfl)⟩ (Nat.le_of_ble_eq_true rfl) (Nat.le_of_ble_eq_true rfl) ?_
        refine xj_iinc2 (cst := (-1)) dX0_byLot_60 rfl rfl ?_
        rw [nI_m1 (by omega), show n - 1 - k - 1 = n - 1 - (k + 1) by omega]
        refine xj_goto (tgt := 15) dX0_byLot_63 rfl ?_
        exact ih_lp (k + 1) _ _ _ (by omega) (by omega) (f_swp (by omega) hS (by omega) hqq) hs2 (by rw [chL_len]; exact hM) (rwL_swp (f_tl n (by omega) S hS) hMS (by omega) hqq) ((hfr.set (by simp)).set (by simp)) (gset_self jr) (by rw [gset hr4]; exact j4)
  exact lp n 0 (rb n 0) L0 _ (by omega) (by omega) (rb_mem (by omega) h1n (wy_in n (by omega)).1) rfl hL0 hL0R (gfr.refl.set (by simp)) (gset_self hL) (by rw [gset hr4, show ltK z 0 = z from rfl, cu_id hn2]; exact hN)
theorem A_drawn {x z : Int32} {g : Nat}  (hv : cV d e n G) (hn3 : e 3 = .long (lN g)) (hg : g < 2 ^ 57) (hn2 : e 2 = .int z) (hs : sIn d) (hc : scr G) : xMet E yX0_drawn cX0_drawn 4 (some FieldType.int) 4 0 0 [.ref 0, .int x] G (xre (fun v_ G' => v_ = some (.int (o_drawn n g z x)) ∧ cPn d (cu e 2 (.int (s_drawn n z x))) G G')) := by
  obtain ⟨hO, hN, hn0, h1n, hn6⟩ := id hv
  have hP := cPo.refl hv hs hc
  obtain ⟨L1, hl1, h11⟩ := hc.at (r := 11) (by decide) (by decide)
  obtain ⟨L2, hl2, h12⟩ := hc.at (r := 12) (by decide) (by decide)
  obtain ⟨L3, hl3, h13⟩ := hc.at (r := 13) (by decide) (by decide)
  refine xMet.of (lv := [some (.ref 0), some (.int x), none, none]) rfl rfl (Nat.le_of_ble_eq_true rfl) ?_
  refine xj_iload_n dX0_drawn_0 rfl ?_
  refine xj_ic1 dX0_drawn_1 ?_
  refine xj_bipush (v := 60) dX0_drawn_2 rfl ?_
  refine xj_cS dX0_drawn_4 q585 kS_X0_isIn A_isIn rfl rfl (Nat.le_of_ble_eq_true rfl) ⟨(Nat.le_of_ble_eq_true rfl), (Nat.le_of_ble_eq_true rfl)⟩ (Nat.le_of_ble_eq_true rfl) (Nat.le_of_ble_eq_true rfl) ?_
  rw [show inC x 1 60 = in1 x 60 from inC_1 (n := 60) (by decide)]
  refine xj_if_ne (tgt := 12) dX0_drawn_7 rfl (fun c7 => ?_) (fun c7 => ?_)
  · have hb1 := b1_nz c7
    obtain ⟨j, hj, rfl, hj31⟩ := in1_t hb1
    have e1 : tn (nI (j + 1)) = j + 1 := nI_clamp hj31
    have hg64 : g < 2 ^ 64 := Nat.lt_trans hg (by decide)
    refine xj_ic0 dX0_drawn_12 ?_
    refine xj_istn2 dX0_drawn_13 rfl ?_
    refine xj_ic0 dX0_drawn_14 ?_
    refine xj_istn3 dX0_drawn_15 rfl ?_
    have lp : ∀ (K : Nat) (i : Nat) (s : Nat) (M : List Int32) (H : xH), j + 1 - i < K → (i ≤ j + 1) → (lpN (drF n g z) i (j + 1 - i) s = lpN (drF n g z) 0 (j + 1) 0) → (M.length = 6) → (gfr [4, 11] G H) → (H[11]? = some (cI 1 M)) → (H[4]? = some (cO 3 (oFs (cu e 2 (.int (ltK z ((n - 1) * i))))))) → xJ E (yX0_drawn, cX0_drawn, 4, (some FieldType.int), []) (xR 4 0 0) (xre (fun v_ G' => v_ = some (.int (o_drawn n g z (nI (j + 1)))) ∧ cPn d (cu e 2 (.int (s_drawn n z (nI (j + 1))))) G G')) 0 0 16 [some (.ref 0), some (.int (nI (j + 1))), some (.int (nI s)), some (.int (nI i))] [] H := by
      intro K
      induction K with
      | zero => intro i s M H h; exact absurd h (Nat.not_lt_zero _)
      | succ K ih_lp =>
        intro i s M H hK hi hs_ hM hfr k11 k4
        have k0 : H[0]? = some (cO 0 (cFs d)) := (hfr.2 0 (by decide)).trans hO
        have hv2 : cV d (cu e 2 (.int (ltK z ((n - 1) * i)))) n H := ⟨k0, k4, hn0, h1n, hn6⟩
        refine xj_iload_n dX0_drawn_16 rfl ?_
        refine xj_iload_n dX0_drawn_17 rfl ?_
        refine xj_icmp_ge (tgt := 54) dX0_drawn_18 rfl (fun c18 => ?_) (fun c18 => ?_)
        · refine xj_iload_n dX0_drawn_54 rfl ?_
          exact xj_ireturn dX0_drawn_55 rfl rfl (by have hij : j + 1 ≤ i := Nat.le_of_not_lt fun h => absurd c18 (nI_ge h (by omega)); rw [lp_end _ hij] at hs_; have hi1 : i = j + 1 := (by omega); rw [hi1] at k4; refine ⟨by unfold o_drawn; rw [if_pos hb1, e1, ← hs_], d, fun _ _ => rfl, hs, k0, hc.at11 hfr hM k11, (hfr.mono (by decide)).gfa, ?_⟩; unfold s_drawn; rw [if_pos hb1, e1]; exact k4)
        · have hij : i < j + 1 := Nat.lt_of_not_le fun h => c18 (nI_le h (by omega))
          have hz : ltK (ltK z ((n - 1) * i)) (n - 1) = (ltK z ((n - 1) * (i + 1))) := by rw [Nat.mul_succ, ltK_add]
          have hm : lotR n (ltK z ((n - 1) * i)) ∈ rws n := lrF_mem (by omega) _ _ _ (by omega) (rb_mem (by omega) h1n (wy_in n (by omega)).1)
          rw [lp_step _ hij] at hs_
          refine xj_aload_n dX0_drawn_21 rfl rfl ?_
          refine xj_aload_n dX0_drawn_22 rfl rfl ?_
          refine xj_get dX0_drawn_23 K0 8 (by decide) q477 k0 rfl ?_
          refine xj_dV dX0_drawn_26 q1497 kV_X0_byLot (A_byLot (z := (ltK z ((n - 1) * i))) hv2 rfl k11 (by decide) (by decide) (by omega) (by omega)) k0 rfl rfl rfl rfl (Nat.le_of_ble_eq_true rfl) ⟨(Nat.le_of_ble_eq_true rfl), (Nat.le_of_ble_eq_true rfl)⟩ (Nat.le_of_ble_eq_true rfl) (Nat.le_of_ble_eq_true rfl) ?_
          rintro _ H' ⟨rfl, M5, hM5, hM5R, hf5, k11', k4'⟩
          rw [cu_cu, hz] at k4'
          have k0' : H'[0]? = some (cO 0 (cFs d)) := (hf5.2 0 (by decide)).trans k0
          have hv3 : cV d (cu e 2 (.int (ltK z ((n - 1) * (i + 1))))) n H' := ⟨k0', k4', hn0, h1n, hn6⟩
          refine xj_iload_n dX0_drawn_29 rfl ?_
          refine xj_aload_n dX0_drawn_30 rfl rfl ?_
          refine xj_aload_n dX0_drawn_31 rfl rfl ?_
          refine xj_get dX0_drawn_32 K0 8 (by decide) q477 k0' rfl ?_
          refine xj_cV dX0_drawn_35 q1352 kV_X0_isLeast (A_isLeast hv3 hn3 hg64 k11' hM5R hm) k0' rfl rfl rfl rfl (Nat.le_of_ble_eq_true rfl) ⟨(Nat.le_of_ble_eq_true rfl), (Nat.le_of_ble_eq_true rfl)⟩ (Nat.le_of_ble_eq_true rfl) (Nat.le_of_ble_eq_true rfl) ?_
          refine xj_sI_if_eq (tgt := 45) (M := 46) dX0_drawn_38 rfl (fun c38 k => by
              refine xj_ic0 dX0_drawn_45 ?_
              exact k) (fun c38 k => by
              refine xj_ic1 dX0_drawn_41 ?_
              refine xj_goto (tgt := 46) dX0_drawn_42 rfl ?_
              exact k) ?_
          refine xj_top (y := nI (if lst n g (lotR n (ltK z ((n - 1) * i))) then 1 else 0)) (by cases lst n g (lotR n (ltK z ((n - 1) * i))) <;> decide) ?_
          refine xj_iadd dX0_drawn_46 ?_
          rw [nI_add]
          refine xj_istn2 dX0_drawn_47 rfl ?_
          refine xj_iinc3 (cst := 1) dX0_drawn_48 rfl rfl ?_
          rw [nI_1]
          refine xj_goto (tgt := 16) dX0_drawn_51 rfl ?_
          exact ih_lp (i + 1) _ M5 H' (by omega) (by omega) hs_ (by omega) (hfr.trans hf5) k11' k4'
    exact lp (j + 2) 0 0 L1 G (by omega) (by omega) rfl hl1 gfr.refl h11 (by rw [Nat.mul_zero, show ltK z 0 = z from rfl, cu_id hn2]; exact hN)
  · refine xj_icm1 dX0_drawn_10 ?_
    exact xj_ireturn dX0_drawn_11 rfl rfl ⟨by unfold o_drawn; rw [b1_z c7]; rfl, by unfold s_drawn; rw [b1_z c7, if_neg (by decide), cu_id hn2]; exact hP.same hN⟩
end A19
