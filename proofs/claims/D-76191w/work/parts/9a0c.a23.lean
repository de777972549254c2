/-! ===== the class: arcs are taken ===== -/
set_option maxRecDepth 100000
theorem kV_X0_makeArcs : xsV yX0_makeArcs cX0_makeArcs 5 none 0 := ⟨q392, qs3, q151, q393, by decide, by decide, by decide +kernel⟩
theorem kV_X0_takeArcs : xsV yX0_takeArcs cX0_takeArcs 1 none 0 := ⟨q387, qs2, q151, q388, by decide, by decide, by decide +kernel⟩
/-- the tables of arcs that are there -/
def cAB (G : xH) : Prop := ∃ AL : List Value, G[3]? = some (cR 6 AL) ∧ AL.length = 7 ∧ ∀ k, k < 7 → AL[k]? = some .null ∨ ∃ ar, AL[k]? = some (.ref ar) ∧ dyn ar ∧ aTb k ar G
theorem cAB.mv {G G' : xH} (h : cAB G) (h3 : G'[3]? = G[3]?) (hk : kpt G G') : cAB G' := by
  obtain ⟨AL, h1, h2, h4⟩ := h
  refine ⟨AL, h3.trans h1, h2, fun k hk' => ?_⟩
  rcases h4 k hk' with q | ⟨ar, q1, q2, q3⟩
  · exact Or.inl q
  · exact Or.inr ⟨ar, q1, q2, q3.mv q2 hk⟩
theorem c_naI : ∀ n, n < 7 → (1 : Int32) <<< (nI n &&& 31) - 1 - nI n = nI (na n) := by decide +kernel
section A23
variable {E : xE} {G : xH} {d e : Nat → Value} {n : Nat}
theorem A_takeArcs  (hv : cV d e n G) (hAB : cAB G) (hdn : dynR G.length (na n + 1)) : xMet E yX0_takeArcs cX0_takeArcs 1 none 122 58 741 [.ref 0] G (xre (fun v_ G' => v_ = none ∧ ∃ ar, G'[0]? = some (cO 0 (cFs (cu d 3 (.ref ar)))) ∧ cA (cu d 3 (.ref ar)) n G' ∧ cAB G' ∧ gfa [0, 3] G G' ∧ (∀ AL, G[3]? = some (cR 6 AL) → AL[n]? = some .null → G'.length = G.length + (na n + 1)))) := by
  obtain ⟨hO, hN, hn0, h1n, hn6⟩ := id hv
  have hna := na_lt n (by omega)
  obtain ⟨AL, hAL, hALl, hALk⟩ := hAB
  have h42 : 42 ≤ G.length := hdn.1
  refine xMet.of (lv := [some (.ref 0)]) rfl rfl (Nat.le_of_ble_eq_true rfl) ?_
  rcases hALk n (by omega) with hr | ⟨ar, hr, hdy, hTb⟩
  · refine xj_aload_n dX0_takeArcs_0 rfl rfl ?_
    refine xj_get dX0_takeArcs_1 K0 2 (by decide) q470 hO rfl ?_
    refine xj_aload_n dX0_takeArcs_4 rfl rfl ?_
    refine xj_get dX0_takeArcs_5 K0 4 (by decide) q473 hO rfl ?_
    refine xj_getN dX0_takeArcs_8 K3 0 (by decide) q321 hN (congrArg some hn0) ?_
    refine xj_aald dX0_takeArcs_11 hAL rfl rfl rfl (by omega) hr ?_
    refine xj_ifnonnull_n dX0_takeArcs_12 ?_
    refine xj_aload_n dX0_takeArcs_15 rfl rfl ?_
    refine xj_get dX0_takeArcs_16 K0 2 (by decide) q470 hO rfl ?_
    refine xj_aload_n dX0_takeArcs_19 rfl rfl ?_
    refine xj_get dX0_takeArcs_20 K0 4 (by decide) q473 hO rfl ?_
    refine xj_getN dX0_takeArcs_23 K3 0 (by decide) q321 hN (congrArg some hn0) ?_
    refine xj_ic1 dX0_takeArcs_26 ?_
    refine xj_aload_n dX0_takeArcs_27 rfl rfl ?_
    refine xj_get dX0_takeArcs_28 K0 4 (by decide) q473 hO rfl ?_
    refine xj_getN dX0_takeArcs_31 K3 0 (by decide) q321 hN (congrArg some hn0) ?_
    refine xj_ishl dX0_takeArcs_34 ?_
    refine xj_ic1 dX0_takeArcs_35 ?_
    refine xj_isub dX0_takeArcs_36 ?_
    refine xj_aload_n dX0_takeArcs_37 rfl rfl ?_
    refine xj_get dX0_takeArcs_38 K0 4 (by decide) q473 hO rfl ?_
    refine xj_getN dX0_takeArcs_41 K3 0 (by decide) q321 hN (congrArg some hn0) ?_
    refine xj_isub dX0_takeArcs_44 ?_
    refine xj_anew (t := 5) (N := na n) dX0_takeArcs_45 rfl q389 q312 (c_naI n (by omega)) (by omega) (Nat.le_of_ble_eq_true rfl) (by omega) ?_
    have k3 : (G ++ [cR 5 (List.replicate (na n) .null)])[3]? = some (cR 6 AL) := by rw [List.getElem?_append_left (by omega)]; exact hAL
    have kl : (G ++ [cR 5 (List.replicate (na n) .null)])[G.length]? = some (cR 5 (List.replicate (na n) .null)) := by rw [List.getElem?_append_right (Nat.le_refl _), Nat.sub_self]; rfl
    refine xj_aastAR dX0_takeArcs_48 k3 rfl kl rfl rfl rfl (by omega) (by omega) ?_
    have j0 : ((G ++ [cR 5 (List.replicate (na n) .null)]).set 3 (cR 6 (AL.set n (.ref G.length))))[0]? = some (cO 0 (cFs d)) := by rw [gset (by decide), List.getElem?_append_left (by omega)]; exact hO
    have j4 : ((G ++ [cR 5 (List.replicate (na n) .null)]).set 3 (cR 6 (AL.set n (.ref G.length))))[4]? = some (cO 3 (oFs e)) := by rw [gset (by decide), List.getElem?_append_left (by omega)]; exact hN
    have j3 : ((G ++ [cR 5 (List.replicate (na n) .null)]).set 3 (cR 6 (AL.set n (.ref G.length))))[3]? = some (cR 6 (AL.set n (.ref G.length))) := gset_self k3
    have jr : (AL.set n (.ref G.length))[n]? = some (.ref G.length) := List.getElem?_set_self (by omega)
    refine xj_aload_n dX0_takeArcs_49 rfl rfl ?_
    refine xj_aload_n dX0_takeArcs_50 rfl rfl ?_
    refine xj_get dX0_takeArcs_51 K0 2 (by decide) q470 j0 rfl ?_
    refine xj_aload_n dX0_takeArcs_54 rfl rfl ?_
    refine xj_get dX0_takeArcs_55 K0 4 (by decide) q473 j0 rfl ?_
    refine xj_getN dX0_takeArcs_58 K3 0 (by decide) q321 j4 (congrArg some hn0) ?_
    refine xj_aald dX0_takeArcs_61 j3 rfl rfl rfl (by omega) jr ?_
    refine xj_put dX0_takeArcs_62 K0 3 (by decide) q471 rfl rfl j0 (Nat.le_of_ble_eq_true rfl) ?_
    refine xj_eq rfl rfl (show _ = (((G ++ [cR 5 (List.replicate (na n) .null)]).set 3 (cR 6 (AL.set n (.ref G.length)))).set 0 (cO 0 (cFs (cu d 3 (.ref G.length))))) from rfl) ?_
    have hv3 : cV (cu d 3 (.ref G.length)) e n (((G ++ [cR 5 (List.replicate (na n) .null)]).set 3 (cR 6 (AL.set n (.ref G.length)))).set 0 (cO 0 (cFs (cu d 3 (.ref G.length))))) := ⟨gset_self j0, by rw [gset (by decide)]; exact j4, hn0, h1n, hn6⟩
    have hO3 := hv3.1
    have l3 : (((G ++ [cR 5 (List.replicate (na n) .null)]).set 3 (cR 6 (AL.set n (.ref G.length)))).set 0 (cO 0 (cFs (cu d 3 (.ref G.length))))).length = G.length + 1 := by rw [List.length_set, List.length_set, List.length_append, List.length_singleton]
    have kr3 : (((G ++ [cR 5 (List.replicate (na n) .null)]).set 3 (cR 6 (AL.set n (.ref G.length)))).set 0 (cO 0 (cFs (cu d 3 (.ref G.length)))))[G.length]? = some (cR 5 (List.replicate (na n) .null)) := by rw [gset (by omega), gset (by omega)]; exact kl
    refine xj_aload_n dX0_takeArcs_65 rfl rfl ?_
    refine xj_dV dX0_takeArcs_66 q390 kV_X0_makeArcs (A_makeArcs (ar := G.length) hv3 rfl (by omega) kr3 (by omega) (by rw [l3]; unfold dynR at hdn ⊢; omega)) hO3 rfl rfl rfl rfl (Nat.le_of_ble_eq_true rfl) ⟨(Nat.le_of_ble_eq_true rfl), (Nat.le_of_ble_eq_true rfl)⟩ (Nat.le_of_ble_eq_true rfl) (by omega) ?_
    rintro _ H ⟨rfl, hl, hTb, hfr⟩
    rw [l3] at hl hfr
    have n0 : H[0]? = some (cO 0 (cFs (cu d 3 (.ref G.length)))) := (hfr 0 (by omega) (by omega)).trans hO3
    have n4 : H[4]? = some (cO 3 (oFs e)) := (hfr 4 (by omega) (by omega)).trans hv3.2.1
    have n3 : H[3]? = some (cR 6 (AL.set n (.ref G.length))) := (hfr 3 (by omega) (by omega)).trans (by rw [gset (by decide)]; exact j3)
    have hold : ∀ i, i < G.length → i ≠ 0 → i ≠ 3 → H[i]? = G[i]? := fun i h1 h2 h3 => (hfr i (by omega) (by omega)).trans (by rw [gset (by omega), gset (by omega), List.getElem?_append_left h1])
    have hkp : kpt G H := fun i x hi hx _ => by have := hi.1; rw [hold i (List.getElem?_eq_some_iff.mp hx).1 (by omega) (by omega)]; exact hx
    have hdy : dyn G.length := by unfold dynR at hdn; unfold dyn; omega
    refine xj_aload_n dX0_takeArcs_69 rfl rfl ?_
    refine xj_aload_n dX0_takeArcs_70 rfl rfl ?_
    refine xj_get dX0_takeArcs_71 K0 2 (by decide) q470 n0 rfl ?_
    refine xj_aload_n dX0_takeArcs_74 rfl rfl ?_
    refine xj_get dX0_takeArcs_75 K0 4 (by decide) q473 n0 rfl ?_
    refine xj_getN dX0_takeArcs_78 K3 0 (by decide) q321 n4 (congrArg some hn0) ?_
    refine xj_aald dX0_takeArcs_81 n3 rfl rfl rfl (by omega) jr ?_
    refine xj_put dX0_takeArcs_82 K0 3 (by decide) q471 rfl rfl n0 (Nat.le_of_ble_eq_true rfl) ?_
    refine xj_return dX0_takeArcs_85 rfl  ?_
    refine ⟨rfl, G.length, (by rw [show (cFs (cu d 3 (.ref G.length))).set 3 (.ref G.length) = cFs (cu d 3 (.ref G.length)) from rfl]; exact gset_self n0), ⟨G.length, rfl, hdy, hTb.mv hdy (kpt.refl.set (by decide))⟩, ⟨(AL.set n (.ref G.length)), by rw [gset (by decide)]; exact n3, by rw [List.length_set]; exact hALl, fun k hk => ?_⟩, ⟨by rw [List.length_set]; omega, fun i h1 h2 => ?_⟩, fun _ _ _ => by rw [List.length_set]; omega⟩
    · by_cases ek : n = k
      · subst ek; exact Or.inr ⟨G.length, jr, hdy, hTb.mv hdy (kpt.refl.set (by decide))⟩
      · rw [List.getElem?_set_ne ek]
        rcases hALk k hk with q | ⟨ar, q1, q2, q3⟩
        · exact Or.inl q
        · exact Or.inr ⟨ar, q1, q2, q3.mv q2 (hkp.set (by decide))⟩
    · simp only [List.mem_cons, List.not_mem_nil, or_false] at h2
      rw [gset (by omega)]; exact hold i h1 (by omega) (by omega)
  · refine xj_aload_n dX0_takeArcs_0 rfl rfl ?_
    refine xj_get dX0_takeArcs_1 K0 2 (by decide) q470 hO rfl ?_
    refine xj_aload_n dX0_takeArcs_4 rfl rfl ?_
    refine xj_get dX0_takeArcs_5 K0 4 (by decide) q473 hO rfl ?_
    refine xj_getN dX0_takeArcs_8 K3 0 (by decide) q321 hN (congrArg some hn0) ?_
    refine xj_aald dX0_takeArcs_11 hAL rfl rfl rfl (by omega) hr ?_
    refine xj_ifnonnull_r (tgt := 69) dX0_takeArcs_12 rfl ?_
    refine xj_aload_n dX0_takeArcs_69 rfl rfl ?_
    refine xj_aload_n dX0_takeArcs_70 rfl rfl ?_
    refine xj_get dX0_takeArcs_71 K0 2 (by decide) q470 hO rfl ?_
    refine xj_aload_n dX0_takeArcs_74 rfl rfl ?_
    refine xj_get dX0_takeArcs_75 K0 4 (by decide) q473 hO rfl ?_
    refine xj_getN dX0_takeArcs_78 K3 0 (by decide) q321 hN (congrArg some hn0) ?_
    refine xj_aald dX0_takeArcs_81 hAL rfl rfl rfl (by omega) hr ?_
    refine xj_put dX0_takeArcs_82 K0 3 (by decide) q471 rfl rfl hO (Nat.le_of_ble_eq_true rfl) ?_
    exact xj_return dX0_takeArcs_85 rfl ⟨rfl, ar, gset_self hO, ⟨ar, rfl, hdy, hTb.mv hdy (kpt.refl.set (by decide))⟩, cAB.mv ⟨AL, hAL, hALl, hALk⟩ (by rw [gset (by decide)]) (kpt.refl.set (by decide)), gfa.refl.set (by decide), fun AL' h1 h2 => by rw [hAL] at h1; cases h1; rw [hr] at h2; cases h2⟩
theorem A_size {x : Int32} {g : Nat}  (hv : cV d e n G) (hn3 : e 3 = .long (lN g)) (hg : g < 2 ^ 57) (hA : cA d n G) (hAB : cAB G) (hl83 : 83 ≤ G.length) : xMet E yX0_size cX0_size 3 (some FieldType.int) 123 58 741 [.ref 0, .int x] G (xre (fun v_ G' => v_ = some (.int (o_size n x)) ∧ ∃ d', (∀ i, i ≠ 3 → d' i = d i) ∧ G'[0]? = some (cO 0 (cFs d')) ∧ G'[4]? = some (cO 3 (oFs (cu (cu e 0 (.int (nI (s_size n x)))) 3 (.long (lN (s_sizeG n g x)))))) ∧ cA d' (s_size n x) G' ∧ cAB G' ∧ gfa [0, 3, 4] G G')) := by
  obtain ⟨hO, hN, hn0, h1n, hn6⟩ := id hv
  refine xMet.of (lv := [some (.ref 0), some (.int x), none]) rfl rfl (Nat.le_of_ble_eq_true rfl) ?_
  refine xj_iload_n dX0_size_0 rfl ?_
  refine xj_ic1 dX0_size_1 ?_
  refine xj_bipush (v := 6) dX0_size_2 rfl ?_
  refine xj_cS dX0_size_4 q585 kS_X0_isIn A_isIn rfl rfl (Nat.le_of_ble_eq_true rfl) ⟨(Nat.le_of_ble_eq_true rfl), (Nat.le_of_ble_eq_true rfl)⟩ (Nat.le_of_ble_eq_true rfl) (Nat.le_of_ble_eq_true rfl) ?_
  rw [show inC x 1 6 = in1 x 6 from inC_1 (n := 6) (by decide)]
  refine xj_if_ne (tgt := 12) dX0_size_7 rfl (fun c7 => ?_) (fun c7 => ?_)
  · have hb1 := b1_nz c7
    obtain ⟨k, hk, rfl, hk31⟩ := in1_t hb1
    have e1 : tn (nI (k + 1)) = k + 1 := nI_clamp hk31
    refine xj_aload_n dX0_size_12 rfl rfl ?_
    refine xj_get dX0_size_13 K0 4 (by decide) q473 hO rfl ?_
    refine xj_getN dX0_size_16 K3 0 (by decide) q321 hN (congrArg some hn0) ?_
    refine xj_istn2 dX0_size_19 rfl ?_
    refine xj_iload_n dX0_size_20 rfl ?_
    refine xj_iload_n dX0_size_21 rfl ?_
    refine xj_icmp_ne (tgt := 27) dX0_size_22 rfl (fun c22 => ?_) (fun c22 => ?_)
    · refine xj_aload_n dX0_size_27 rfl rfl ?_
      refine xj_get dX0_size_28 K0 4 (by decide) q473 hO rfl ?_
      refine xj_iload_n dX0_size_31 rfl ?_
      refine xj_putN dX0_size_32 K3 0 (by decide) q321 rfl rfl hN (Nat.le_of_ble_eq_true rfl) ?_
      refine xj_eq rfl rfl (show _ = G.set 4 (cO 3 (oFs (cu e 0 (.int (nI (k + 1)))))) from rfl) ?_
      have j0 : (G.set 4 (cO 3 (oFs (cu e 0 (.int (nI (k + 1)))))))[0]? = some (cO 0 (cFs d)) := by rw [gset (by decide)]; exact hO
      have j4 : (G.set 4 (cO 3 (oFs (cu e 0 (.int (nI (k + 1)))))))[4]? = some (cO 3 (oFs (cu e 0 (.int (nI (k + 1)))))) := gset_self hN
      refine xj_aload_n dX0_size_35 rfl rfl ?_
      refine xj_get dX0_size_36 K0 4 (by decide) q473 j0 rfl ?_
      refine xj_lc0 dX0_size_39 ?_
      refine xj_putN dX0_size_40 K3 3 (by decide) q327 rfl rfl j4 (Nat.le_of_ble_eq_true rfl) ?_
      refine xj_eq rfl rfl (show _ = (G.set 4 (cO 3 (oFs (cu (cu e 0 (.int (nI (k + 1)))) 3 (.long (lN 0)))))) from gset_set) ?_
      have hv2 : cV d (cu (cu e 0 (.int (nI (k + 1)))) 3 (.long (lN 0))) (k + 1) (G.set 4 (cO 3 (oFs (cu (cu e 0 (.int (nI (k + 1)))) 3 (.long (lN 0)))))) := ⟨by rw [gset (by decide)]; exact hO, gset_self hN, rfl, by omega, by omega⟩
      have hO2 := hv2.1
      refine xj_aload_n dX0_size_43 rfl rfl ?_
      refine xj_dV dX0_size_44 q385 kV_X0_takeArcs (A_takeArcs hv2 (hAB.mv (by rw [gset (by decide)]) (kpt.refl.set (by decide))) (by rw [List.length_set]; unfold dynR; omega)) hO2 rfl rfl rfl rfl (Nat.le_of_ble_eq_true rfl) ⟨(Nat.le_of_ble_eq_true rfl), (Nat.le_of_ble_eq_true rfl)⟩ (Nat.le_of_ble_eq_true rfl) (Nat.le_of_ble_eq_true rfl) ?_
      rintro _ G' ⟨rfl, ar, k0, kA_, kB, kf, -⟩
      refine xj_iload_n dX0_size_47 rfl ?_
      exact xj_ireturn dX0_size_48 rfl rfl (by have e0 : ¬ k + 1 = n := fun q => c22 (by rw [q]); have en : s_size n (nI (k + 1)) = k + 1 := (by unfold s_size; rw [if_pos hb1, e1]); have eg : s_sizeG n g (nI (k + 1)) = 0 := (by unfold s_sizeG; rw [if_pos hb1, e1, if_neg e0]); rw [en, eg]; exact ⟨by unfold o_size; rw [if_pos hb1], _, fun i hi => (by unfold cu; rw [if_neg hi]), k0, (kf.2 4 (by rw [List.length_set]; omega) (by decide)).trans hv2.2.1, kA_, kB, (gfa.refl.set (by decide)).trans (kf.mono (by decide))⟩)
    · refine xj_iload_n dX0_size_25 rfl ?_
      exact xj_ireturn dX0_size_26 rfl rfl (by have e0 : k + 1 = n := (nI_eq (by omega) (by omega)).mp c22; exact ⟨by unfold o_size; rw [if_pos hb1], d, fun _ _ => rfl, hO, by rw [show s_size n (nI (k + 1)) = n by unfold s_size; rw [if_pos hb1, e1]; exact e0, show s_sizeG n g (nI (k + 1)) = g by unfold s_sizeG; rw [if_pos hb1, e1, if_pos e0], cu_id hn0, cu_id hn3]; exact hN, by rw [show s_size n (nI (k + 1)) = n by unfold s_size; rw [if_pos hb1, e1]; exact e0]; exact hA, hAB, gfa.refl⟩)
  · refine xj_icm1 dX0_size_10 ?_
    exact xj_ireturn dX0_size_11 rfl rfl ⟨by unfold o_size; rw [b1_z c7]; rfl, d, fun _ _ => rfl, hO, by rw [show s_size n x = n by unfold s_size; rw [b1_z c7]; rfl, show s_sizeG n g x = g by unfold s_sizeG; rw [b1_z c7]; rfl, cu_id hn0, cu_id hn3]; exact hN, by rw [show s_size n x = n by unfold s_size; rw [b1_z c7]; rfl]; exact hA, hAB, gfa.refl⟩
end A23
