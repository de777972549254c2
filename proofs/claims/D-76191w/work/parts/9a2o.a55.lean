/-! ===== the class: the whole text; values read ===== -/
set_option maxRecDepth 100000

theorem dT_z {d : Nat → Value} {k : Nat} (h : d 18 = .int (nI k)) : (cFs d).set 19 (.int 0) = cFs (dT d k 0) := by
  have : dT d k 0 18 = d 18 := by rw [h]; rfl
  show (cFs d).set 19 (.int 0) = ((cFs d).set 18 (dT d k 0 18)).set 19 (.int 0)
  rw [this]; rfl
theorem pAll_N {tp : List Nat} {p : Nat} (h : pAll tp = some (.inl p)) : prs tp 1000 3 0 [] 0 = some (.inl p) ∨ ∃ q, prs tp 1000 3 0 [] 0 = some (.inr q) ∧ nxF tp q.2 < tp.length ∧ p = nxF tp q.2 := by
  unfold pAll at h
  generalize prs tp 1000 3 0 [] 0 = x at h ⊢
  cases x with
  | none => cases h
  | some r =>
    cases r with
    | inl p1 => cases h; exact Or.inl rfl
    | inr q =>
      change (if nxF tp q.2 < tp.length then some (Sum.inl (nxF tp q.2)) else some (Sum.inr (q.1, q.2))) = some (Sum.inl p) at h
      by_cases hl : nxF tp q.2 < tp.length
      · rw [if_pos hl] at h; cases h; exact Or.inr ⟨q, rfl, hl, rfl⟩
      · rw [if_neg hl] at h; cases h
theorem v_five {v : Int32} (h : -6 < v) (h0 : v < 0) : v = -1 ∨ v = -2 ∨ v = -3 ∨ v = -4 ∨ v = -5 := by
  rw [Int32.lt_iff_toInt_lt] at h h0
  have e1 : (-6 : Int32).toInt = -6 := rfl
  have e2 : (0 : Int32).toInt = 0 := rfl
  rw [e1] at h; rw [e2] at h0
  have key : ∀ w : Int32, v.toInt = w.toInt → v = w := fun w hw => Int32.toInt_inj.mp hw
  have : v.toInt = -1 ∨ v.toInt = -2 ∨ v.toInt = -3 ∨ v.toInt = -4 ∨ v.toInt = -5 := by omega
  rcases this with q | q | q | q | q
  · exact Or.inl (key (-1) q)
  · exact Or.inr (Or.inl (key (-2) q))
  · exact Or.inr (Or.inr (Or.inl (key (-3) q)))
  · exact Or.inr (Or.inr (Or.inr (Or.inl (key (-4) q))))
  · exact Or.inr (Or.inr (Or.inr (Or.inr (key (-5) q))))
theorem fac_n {n k : Nat} {v : Int32} (h : ¬ v < 0) : fac n k v = v := by
  unfold fac
  rw [if_neg (fun e => h (by rw [e]; decide)), if_neg (fun e => h (by rw [e]; decide)), if_neg (fun e => h (by rw [e]; decide)), if_neg (fun e => h (by rw [e]; decide)), if_neg (fun e => h (by rw [e]; decide))]
section A55
variable {E : xE} {G : xH} {d : Nat → Value} {n : Nat}
theorem A_wholeY {q : List Int32 × Nat} {LT : List Int32} {tp : List Nat} {r : Nat → Value} {fv : Int32} {k18 : Nat}  (hO : G[0]? = some (cO 0 (cFs d))) (h18 : d 18 = .int (nI k18)) (hd17 : d 17 = .int (nI tp.length)) (h19 : G[19]? = some (cI 1 LT)) (hLT : tpB LT tp) (hN : G[18]? = some (cR 9 [.float 0, .float 1, .float 2, .float 3, .float 4])) (hF : G[2]? = some (cO 2 (rFs r (.int fv)))) (hp : prs tp 1000 3 0 [] 0 = some (.inr q)) (hend : ¬ nxF tp q.2 < tp.length) : xMet E yX0_wholeText cX0_wholeText 2 (some (FieldType.object "CoarserOrders$Cond")) 1011 201 603 [.ref 0] G (pPy d tp q G) := by
  have htp := hLT.2.1
  have hl200 := hLT.1
  have b0 := prs_b 1000 3 0 [] 0 q (Nat.zero_le _) hp (Or.inr (Or.inr (Or.inr rfl)))
  refine xMet.of (lv := [some (.ref 0), none]) rfl rfl (Nat.le_of_ble_eq_true rfl) ?_
  refine xj_aload_n dX0_wholeText_0 rfl rfl ?_
  refine xj_ic0 dX0_wholeText_1 ?_
  refine xj_put dX0_wholeText_2 K0 19 (by decide) q488 rfl rfl hO (Nat.le_of_ble_eq_true rfl) ?_
  refine xj_eq rfl rfl (show _ = G.set 0 (cO 0 (cFs (dT d k18 0))) from by rw [← dT_z h18]) ?_
  have hOa : (G.set 0 (cO 0 (cFs (dT d k18 0))))[0]? = some (cO 0 (cFs (dT d k18 0))) := gset_self hO
  have h19a : (G.set 0 (cO 0 (cFs (dT d k18 0))))[19]? = some (cI 1 LT) := by rw [gset (by decide)]; exact h19
  refine xj_aload_n dX0_wholeText_5 rfl rfl ?_
  refine xj_cV dX0_wholeText_6 q1018 kV_X0_next (A_next hOa hd17 h19a hLT (Nat.zero_le _)) hOa rfl rfl rfl rfl (Nat.le_of_ble_eq_true rfl) (xR_ok (by decide) (by decide)) (Nat.le_of_ble_eq_true rfl) (Nat.le_of_ble_eq_true rfl) ?_
  rw [gset_set]
  obtain ⟨H, hH⟩ : ∃ H, H = gtE G d tp 0 := ⟨_, rfl⟩
  rw [show G.set 0 (cO 0 (cFs (dT d (nxF tp 0) (nxT tp 0)))) = H from hH.symm]
  have f0 : gfa [0] G H := by rw [hH]; exact gfa.refl.set (by decide)
  have z0 : H[0]? = some (cO 0 (cFs (dT d (nxF tp 0) (nxT tp 0)))) := by rw [hH]; exact gtE_0 hO
  have hv0 : tpV d r tp LT 0 H := ⟨z0, hd17, (by rw [hH, gtE_o (by decide)]; exact h19), hLT, (by rw [hH, gtE_o (by decide)]; exact hN), fv, (by rw [hH, gtE_o (by decide)]; exact hF)⟩
  refine xj_aload_n dX0_wholeText_9 rfl rfl ?_
  refine xj_ic0 dX0_wholeText_10 ?_
  refine xj_dV dX0_wholeText_11 q1028 kV_X0_cond ((A_prs 1000).2.2.1 0 0 H q (by decide) (Nat.zero_le _) hv0 hp) z0 rfl rfl rfl rfl (Nat.le_of_ble_eq_true rfl) (xR_ok (by decide) (by decide)) (by omega) (by omega) ?_
  rintro _ H2 ⟨a, rfl, hc2, f2, z2⟩
  have hv2 := hv0.mv f2 z2
  obtain ⟨hO2, -, h192, -, hN2, fv2, hF2⟩ := id hv2
  have hnf2 := nxF_b b0.2.1
  refine xj_astn1 dX0_wholeText_14 rfl rfl ?_
  refine xj_aload_n dX0_wholeText_15 rfl rfl ?_
  refine xj_get dX0_wholeText_16 K0 18 (by decide) q487 hO2 rfl ?_
  refine xj_aload_n dX0_wholeText_19 rfl rfl ?_
  refine xj_get dX0_wholeText_20 K0 17 (by decide) q486 hO2 (congrArg some hd17) ?_
  refine xj_icmp_ge (tgt := 31) dX0_wholeText_23 rfl (fun c23 => ?_) (fun c23 => absurd (nI_le (by omega) (by omega)) c23)
  refine xj_aload_n dX0_wholeText_31 rfl rfl ?_
  exact xj_areturn dX0_wholeText_32 rfl (Or.inl ⟨_, rfl⟩) rfl ⟨_, rfl, hc2, f0.trans f2, z2⟩
theorem A_wholeN {p : Nat} {LT : List Int32} {tp : List Nat} {r : Nat → Value} {fv : Int32} {k18 : Nat}  (hO : G[0]? = some (cO 0 (cFs d))) (h18 : d 18 = .int (nI k18)) (hd17 : d 17 = .int (nI tp.length)) (h19 : G[19]? = some (cI 1 LT)) (hLT : tpB LT tp) (hN : G[18]? = some (cR 9 [.float 0, .float 1, .float 2, .float 3, .float 4])) (hF : G[2]? = some (cO 2 (rFs r (.int fv)))) (hpA : pAll tp = some (.inl p)) : xMet E yX0_wholeText cX0_wholeText 2 (some (FieldType.object "CoarserOrders$Cond")) 1011 201 603 [.ref 0] G (pPn d r p G) := by
  have htp := hLT.2.1
  have hl200 := hLT.1
  rcases pAll_N hpA with hp | ⟨q, hp, hend, rfl⟩
  · refine xMet.of (lv := [some (.ref 0), none]) rfl rfl (Nat.le_of_ble_eq_true rfl) ?_
    refine xj_aload_n dX0_wholeText_0 rfl rfl ?_
    refine xj_ic0 dX0_wholeText_1 ?_
    refine xj_put dX0_wholeText_2 K0 19 (by decide) q488 rfl rfl hO (Nat.le_of_ble_eq_true rfl) ?_
    refine xj_eq rfl rfl (show _ = G.set 0 (cO 0 (cFs (dT d k18 0))) from by rw [← dT_z h18]) ?_
    have hOa : (G.set 0 (cO 0 (cFs (dT d k18 0))))[0]? = some (cO 0 (cFs (dT d k18 0))) := gset_self hO
    have h19a : (G.set 0 (cO 0 (cFs (dT d k18 0))))[19]? = some (cI 1 LT) := by rw [gset (by decide)]; exact h19
    refine xj_aload_n dX0_wholeText_5 rfl rfl ?_
    refine xj_cV dX0_wholeText_6 q1018 kV_X0_next (A_next hOa hd17 h19a hLT (Nat.zero_le _)) hOa rfl rfl rfl rfl (Nat.le_of_ble_eq_true rfl) (xR_ok (by decide) (by decide)) (Nat.le_of_ble_eq_true rfl) (Nat.le_of_ble_eq_true rfl) ?_
    rw [gset_set]
    obtain ⟨H, hH⟩ : ∃ H, H = gtE G d tp 0 := ⟨_, rfl⟩
    rw [show G.set 0 (cO 0 (cFs (dT d (nxF tp 0) (nxT tp 0)))) = H from hH.symm]
    have f0 : gfa [0] G H := by rw [hH]; exact gfa.refl.set (by decide)
    have z0 : H[0]? = some (cO 0 (cFs (dT d (nxF tp 0) (nxT tp 0)))) := by rw [hH]; exact gtE_0 hO
    have hv0 : tpV d r tp LT 0 H := ⟨z0, hd17, (by rw [hH, gtE_o (by decide)]; exact h19), hLT, (by rw [hH, gtE_o (by decide)]; exact hN), fv, (by rw [hH, gtE_o (by decide)]; exact hF)⟩
    refine xj_aload_n dX0_wholeText_9 rfl rfl ?_
    refine xj_ic0 dX0_wholeText_10 ?_
    refine xj_tV dX0_wholeText_11 q1028 kV_X0_cond ((A_prs 1000).2.2.2.2.2 0 0 H p (by decide) (Nat.zero_le _) hv0 hp) z0 rfl rfl rfl rfl (Nat.le_of_ble_eq_true rfl) (xR_ok (by decide) (by decide)) (by omega) (by omega) ?_
    rintro H2 ⟨t2, f2, z2⟩
    exact xjT_out (fun _ hx => by cases hx) ⟨rfl, t2, (f0.mono (by decide)).trans f2, z2⟩
  · have b0 := prs_b 1000 3 0 [] 0 q (Nat.zero_le _) hp (Or.inr (Or.inr (Or.inr rfl)))
    refine xMet.of (lv := [some (.ref 0), none]) rfl rfl (Nat.le_of_ble_eq_true rfl) ?_
    refine xj_aload_n dX0_wholeText_0 rfl rfl ?_
    refine xj_ic0 dX0_wholeText_1 ?_
    refine xj_put dX0_wholeText_2 K0 19 (by decide) q488 rfl rfl hO (Nat.le_of_ble_eq_true rfl) ?_
    refine xj_eq rfl rfl (show _ = G.set 0 (cO 0 (cFs (dT d k18 0))) from by rw [← dT_z h18]) ?_
    have hOa : (G.set 0 (cO 0 (cFs (dT d k18 0))))[0]? = some (cO 0 (cFs (dT d k18 0))) := gset_self hO
    have h19a : (G.set 0 (cO 0 (cFs (dT d k18 0))))[19]? = some (cI 1 LT) := by rw [gset (by decide)]; exact h19
    refine xj_aload_n dX0_wholeText_5 rfl rfl ?_
    refine xj_cV dX0_wholeText_6 q1018 kV_X0_next (A_next hOa hd17 h19a hLT (Nat.zero_le _)) hOa rfl rfl rfl rfl (Nat.le_of_ble_eq_true rfl) (xR_ok (by decide) (by decide)) (Nat.le_of_ble_eq_true rfl) (Nat.le_of_ble_eq_true rfl) ?_
    rw [gset_set]
    obtain ⟨H, hH⟩ : ∃ H, H = gtE G d tp 0 := ⟨_, rfl⟩
    rw [show G.set 0 (cO 0 (cFs (dT d (nxF tp 0) (nxT tp 0)))) = H from hH.symm]
    have f0 : gfa [0] G H := by rw [hH]; exact gfa.refl.set (by decide)
    have z0 : H[0]? = some (cO 0 (cFs (dT d (nxF tp 0) (nxT tp 0)))) := by rw [hH]; exact gtE_0 hO
    have hv0 : tpV d r tp LT 0 H := ⟨z0, hd17, (by rw [hH, gtE_o (by decide)]; exact h19), hLT, (by rw [hH, gtE_o (by decide)]; exact hN), fv, (by rw [hH, gtE_o (by decide)]; exact hF)⟩
    refine xj_aload_n dX0_wholeText_9 rfl rfl ?_
    refine xj_ic0 dX0_wholeText_10 ?_
    refine xj_dV dX0_wholeText_11 q1028 kV_X0_cond ((A_prs 1000).2.2.1 0 0 H q (by decide) (Nat.zero_le _) hv0 hp) z0 rfl rfl rfl rfl (Nat.le_of_ble_eq_true rfl) (xR_ok (by decide) (by decide)) (by omega) (by omega) ?_
    rintro _ H2 ⟨a, rfl, hc2, f2, z2⟩
    have hv2 := hv0.mv f2 z2
    obtain ⟨hO2, -, h192, -, hN2, fv2, hF2⟩ := id hv2
    have hnf2 := nxF_b b0.2.1
    refine xj_astn1 dX0_wholeText_14 rfl rfl ?_
    refine xj_aload_n dX0_wholeText_15 rfl rfl ?_
    refine xj_get dX0_wholeText_16 K0 18 (by decide) q487 hO2 rfl ?_
    refine xj_aload_n dX0_wholeText_19 rfl rfl ?_
    refine xj_get dX0_wholeText_20 K0 17 (by decide) q486 hO2 (congrArg some hd17) ?_
    refine xj_icmp_ge (tgt := 31) dX0_wholeText_23 rfl (fun c23 => absurd c23 (nI_ge hend (by omega))) (fun c23 => ?_)
    refine xj_aload_n dX0_wholeText_26 rfl rfl ?_
    refine xj_cV dX0_wholeText_27 q1116 kV_X0_faultHere (A_faultHere hO2 hd17 h192 hLT b0.2.1 hF2) hO2 rfl rfl rfl rfl (Nat.le_of_ble_eq_true rfl) (xR_ok (by decide) (by decide)) (Nat.le_of_ble_eq_true rfl) (Nat.le_of_ble_eq_true rfl) ?_
    exact xj_athrow dX0_wholeText_30 (gset_self hF2) rfl (xjT_out (fun _ hx => by cases hx) ⟨rfl, gset_self hF2, ((f0.trans f2).mono (by decide)).set (by decide), _, _, by rw [gset (by decide)]; exact hO2⟩)
theorem A_valueOf {a k : Nat} {v : Int32}  (hP : G[a]? = some (cO 16 (vFs v))) (h20 : G[20]? = some (cI 0 [nI (aL n k), nI (aH n k), nI (lf n k), nI (bw n k - lf n k), nI n])) (hvg : -6 < v) : xMet E yX16_of cX16_of 2 (some FieldType.int) 0 0 0 [.ref a, .ref 20] G (xrv (some (.int (fac n k v))) G) := by
  refine xMet.of (lv := [some (.ref a), some (.ref 20)]) rfl rfl (Nat.le_of_ble_eq_true rfl) ?_
  by_cases hv0 : v < 0
  · have hx5 := v_five hvg hv0
    rcases hx5 with rfl | rfl | rfl | rfl | rfl
    · have hP : G[a]? = some (cO 16 [.int 0, .int 0]) := hP
      refine xj_aload_n dX16_of_0 rfl rfl ?_
      refine xj_get dX16_of_1 K16 0 (by decide) q1140 hP rfl ?_
      refine xj_if_ge (tgt := 14) dX16_of_4 rfl (fun c4 => ?_) (fun c4 => absurd (by decide) c4)
      refine xj_aload_n dX16_of_14 rfl rfl ?_
      refine xj_aload_n dX16_of_15 rfl rfl ?_
      refine xj_get dX16_of_16 K16 0 (by decide) q1140 hP rfl ?_
      refine xj_iald dX16_of_19 h20 (show (0 : Int32) = nI 0 from rfl) (by decide) rfl ?_
      exact xj_ireturn dX16_of_20 rfl rfl (xrv_i (by first | rfl | decide))
    · have hP : G[a]? = some (cO 16 [.int 1, .int 0]) := hP
      refine xj_aload_n dX16_of_0 rfl rfl ?_
      refine xj_get dX16_of_1 K16 0 (by decide) q1140 hP rfl ?_
      refine xj_if_ge (tgt := 14) dX16_of_4 rfl (fun c4 => ?_) (fun c4 => absurd (by decide) c4)
      refine xj_aload_n dX16_of_14 rfl rfl ?_
      refine xj_aload_n dX16_of_15 rfl rfl ?_
      refine xj_get dX16_of_16 K16 0 (by decide) q1140 hP rfl ?_
      refine xj_iald dX16_of_19 h20 (show (1 : Int32) = nI 1 from rfl) (by decide) rfl ?_
      exact xj_ireturn dX16_of_20 rfl rfl (xrv_i (by first | rfl | decide))
    · have hP : G[a]? = some (cO 16 [.int 2, .int 0]) := hP
      refine xj_aload_n dX16_of_0 rfl rfl ?_
      refine xj_get dX16_of_1 K16 0 (by decide) q1140 hP rfl ?_
      refine xj_if_ge (tgt := 14) dX16_of_4 rfl (fun c4 => ?_) (fun c4 => absurd (by decide) c4)
      refine xj_aload_n dX16_of_14 rfl rfl ?_
      refine xj_aload_n dX16_of_15 rfl rfl ?_
      refine xj_get dX16_of_16 K16 0 (by decide) q1140 hP rfl ?_
      refine xj_iald dX16_of_19 h20 (show (2 : Int32) = nI 2 from rfl) (by decide) rfl ?_
      exact xj_ireturn dX16_of_20 rfl rfl (xrv_i (by first | rfl | decide))
    · have hP : G[a]? = some (cO 16 [.int 3, .int 0]) := hP
      refine xj_aload_n dX16_of_0 rfl rfl ?_
      refine xj_get dX16_of_1 K16 0 (by decide) q1140 hP rfl ?_
      refine xj_if_ge (tgt := 14) dX16_of_4 rfl (fun c4 => ?_) (fun c4 => absurd (by decide) c4)
      refine xj_aload_n dX16_of_14 rfl rfl ?_
      refine xj_aload_n dX16_of_15 rfl rfl ?_
      refine xj_get dX16_of_16 K16 0 (by decide) q1140 hP rfl ?_
      refine xj_iald dX16_of_19 h20 (show (3 : Int32) = nI 3 from rfl) (by decide) rfl ?_
      exact xj_ireturn dX16_of_20 rfl rfl (xrv_i (by first | rfl | decide))
    · have hP : G[a]? = some (cO 16 [.int 4, .int 0]) := hP
      refine xj_aload_n dX16_of_0 rfl rfl ?_
      refine xj_get dX16_of_1 K16 0 (by decide) q1140 hP rfl ?_
      refine xj_if_ge (tgt := 14) dX16_of_4 rfl (fun c4 => ?_) (fun c4 => absurd (by decide) c4)
      refine xj_aload_n dX16_of_14 rfl rfl ?_
      refine xj_aload_n dX16_of_15 rfl rfl ?_
      refine xj_get dX16_of_16 K16 0 (by decide) q1140 hP rfl ?_
      refine xj_iald dX16_of_19 h20 (show (4 : Int32) = nI 4 from rfl) (by decide) rfl ?_
      exact xj_ireturn dX16_of_20 rfl rfl (xrv_i (by first | rfl | decide))
  · have hP : G[a]? = some (cO 16 [.int (-1), .int v]) := (by rw [hP]; unfold vFs; rw [if_neg hv0])
    refine xj_aload_n dX16_of_0 rfl rfl ?_
    refine xj_get dX16_of_1 K16 0 (by decide) q1140 hP rfl ?_
    refine xj_if_ge (tgt := 14) dX16_of_4 rfl (fun c4 => absurd c4 (by decide)) (fun c4 => ?_)
    refine xj_aload_n dX16_of_7 rfl rfl ?_
    refine xj_get dX16_of_8 K16 1 (by decide) q1141 hP rfl ?_
    refine xj_goto (tgt := 20) dX16_of_11 rfl ?_
    exact xj_ireturn dX16_of_20 rfl rfl (xrv_i (fac_n hv0).symm)
end A55
