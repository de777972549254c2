/-! ===== the class: classes right above or under ===== -/
set_option maxRecDepth 100000
theorem kV_X0_copy : xsV yX0_copy cX0_copy 3 none 2 := ⟨q730, qs23, q151, q731, by decide, by decide, by decide +kernel⟩
theorem kV_X0_keepInOrder : xsV yX0_keepInOrder cX0_keepInOrder 3 none 1 := ⟨q1367, qs57, q151, q1368, by decide, by decide, by decide +kernel⟩
section A6
variable {E : xE} {G : xH} {d e : Nat → Value} {n : Nat}
theorem A_keepInOrder {v : Nat} {l : List Nat} {F : List Int32}  (hO : G[0]? = some (cO 0 (cFs d))) (h21 : G[21]? = some (cI 0 F)) (hF : F.length = 6) (hlk : lnk F l) (hl6 : l.length < 6) (hm : ∀ x ∈ l, x < 2 ^ 31) (hv31 : v < 2 ^ 31) (hd22 : d 22 = .int (nI l.length)) : xMet E yX0_keepInOrder cX0_keepInOrder 3 none 0 0 0 [.ref 0, .int (nI v)] G (xre (fun v_ G' => v_ = none ∧ ∃ F : List Int32, F.length = 6 ∧ lnk F (insE l v) ∧ G' = (G.set 21 (cI 0 F)).set 0 (cO 0 (cFs (cu d 22 (.int (nI (insE l v).length))))))) := by
  refine xMet.of (lv := [some (.ref 0), some (.int (nI v)), none]) rfl rfl (Nat.le_of_ble_eq_true rfl) ?_
  refine xj_aload_n dX0_keepInOrder_0 rfl rfl ?_
  refine xj_get dX0_keepInOrder_1 K0 22 (by decide) q491 hO (congrArg some hd22) ?_
  refine xj_istn2 dX0_keepInOrder_4 rfl ?_
  refine xj_eq rfl rfl (show G = G.set 21 (cI 0 F) from (gset_id h21).symm) ?_
  have lk : ∀ (K : Nat) (k : Nat) (F : List Int32), k < K → (k ≤ l.length) → (F.length = 6) → (insPos l v k = (insPos l v l.length)) → (∀ (i x : Nat), i < k → l[i]? = some x → F[i]? = some (nI x)) → (∀ (i x : Nat), k ≤ i → l[i]? = some x → F[i + 1]? = some (nI x)) → xJ E (yX0_keepInOrder, cX0_keepInOrder, 3, none, []) (xR 0 0 0) (xre (fun v_ G' => v_ = none ∧ ∃ F : List Int32, F.length = 6 ∧ lnk F (insE l v) ∧ G' = (G.set 21 (cI 0 F)).set 0 (cO 0 (cFs (cu d 22 (.int (nI (insE l v).length))))))) 0 0 5 [some (.ref 0), some (.int (nI v)), some (.int (nI k))] [] (G.set 21 (cI 0 F)) := by
    intro K
    induction K with
    | zero => intro k F h; exact absurd h (Nat.not_lt_zero _)
    | succ K ih_lk =>
      intro k F hK hk hF hi h1 h2
      have hO2 : (G.set 21 (cI 0 F))[0]? = some (cO 0 (cFs d)) := by rw [gset (by decide)]; exact hO
      have hF21 : (G.set 21 (cI 0 F))[21]? = some (cI 0 F) := gset_self h21
      refine xj_iload_n dX0_keepInOrder_5 rfl ?_
      refine xj_if_le (tgt := 41) dX0_keepInOrder_6 rfl (fun c6 => ?_) (fun c6 => ?_)
      · have hkW : k = (insPos l v l.length) := by
          first
            | (rw [if_neg (fun q => absurd ((nI_leI hy31 hv31).mp c18) (by rw [hyr] at q; omega))] at hi; rw [hk0]; exact hi)
            | (have h0 : k = 0 := Nat.eq_zero_of_not_pos fun h => absurd c6 (nI_nle h (by omega))
               rw [h0] at hi ⊢; exact hi)
        refine xj_aload_n dX0_keepInOrder_41 rfl rfl ?_
        refine xj_get dX0_keepInOrder_42 K0 21 (by decide) q490 hO2 rfl ?_
        refine xj_iload_n dX0_keepInOrder_45 rfl ?_
        refine xj_iload_n dX0_keepInOrder_46 rfl ?_
        refine xj_iast dX0_keepInOrder_47 hF21 rfl (by omega) (by omega) ?_
        rw [gset_set]
        have hO2 : (G.set 21 (cI 0 (F.set k (nI v))))[0]? = some (cO 0 (cFs d)) := by rw [gset (by decide)]; exact hO
        refine xj_aload_n dX0_keepInOrder_48 rfl rfl ?_
        refine xj_dup dX0_keepInOrder_49 rfl ?_
        refine xj_get dX0_keepInOrder_50 K0 22 (by decide) q491 hO2 (congrArg some hd22) ?_
        refine xj_ic1 dX0_keepInOrder_53 ?_
        refine xj_iadd dX0_keepInOrder_54 ?_
        rw [nI_1]
        refine xj_put dX0_keepInOrder_55 K0 22 (by decide) q491 rfl rfl hO2 (Nat.le_of_ble_eq_true rfl) ?_
        exact xj_return dX0_keepInOrder_58 rfl ⟨rfl, F.set k (nI v), (by rw [List.length_set]; exact hF), (by rw [hkW]; rw [hkW] at h1 h2; exact lnk_ins (by omega) h1 h2), (by rw [insE_len]; rfl)⟩
      · obtain ⟨k0, hk0⟩ : ∃ k0, k = k0 + 1 := ⟨k - 1, by
          have : k ≠ 0 := fun h => by subst h; exact c6 (by decide)
          omega⟩
        obtain ⟨y, hy⟩ : ∃ y, l[k0]? = some y := ⟨l[k0], List.getElem?_eq_getElem (by omega)⟩
        have hyr : l.getD k0 0 = y := by rw [List.getD_eq_getElem?_getD, hy]; rfl
        have hy31 := hm y (List.mem_of_getElem? hy)
        rw [hk0] at hi
        have hi : (if v < l.getD k0 0 then insPos l v k0 else k0 + 1) = (insPos l v l.length) := hi
        refine xj_aload_n dX0_keepInOrder_9 rfl rfl ?_
        refine xj_get dX0_keepInOrder_10 K0 21 (by decide) q490 hO2 rfl ?_
        refine xj_iload_n dX0_keepInOrder_13 rfl ?_
        refine xj_ic1 dX0_keepInOrder_14 ?_
        refine xj_isub dX0_keepInOrder_15 ?_
        refine xj_iald dX0_keepInOrder_16 hF21 (by rw [hk0]; exact nI_pred k0) (by omega) (h1 k0 y (by omega) hy) ?_
        refine xj_iload_n dX0_keepInOrder_17 rfl ?_
        refine xj_icmp_le (tgt := 41) dX0_keepInOrder_18 rfl (fun c18 => ?_) (fun c18 => ?_)
        · have hkW : k = (insPos l v l.length) := by
            first
              | (rw [if_neg (fun q => absurd ((nI_leI hy31 hv31).mp c18) (by rw [hyr] at q; omega))] at hi; rw [hk0]; exact hi)
              | (have h0 : k = 0 := Nat.eq_zero_of_not_pos fun h => absurd c6 (nI_nle h (by omega))
                 rw [h0] at hi ⊢; exact hi)
          refine xj_aload_n dX0_keepInOrder_41 rfl rfl ?_
          refine xj_get dX0_keepInOrder_42 K0 21 (by decide) q490 hO2 rfl ?_
          refine xj_iload_n dX0_keepInOrder_45 rfl ?_
          refine xj_iload_n dX0_keepInOrder_46 rfl ?_
          refine xj_iast dX0_keepInOrder_47 hF21 rfl (by omega) (by omega) ?_
          rw [gset_set]
          have hO2 : (G.set 21 (cI 0 (F.set k (nI v))))[0]? = some (cO 0 (cFs d)) := by rw [gset (by decide)]; exact hO
          refine xj_aload_n dX0_keepInOrder_48 rfl rfl ?_
          refine xj_dup dX0_keepInOrder_49 rfl ?_
          refine xj_get dX0_keepInOrder_50 K0 22 (by decide) q491 hO2 (congrArg some hd22) ?_
          refine xj_ic1 dX0_keepInOrder_53 ?_
          refine xj_iadd dX0_keepInOrder_54 ?_
          rw [nI_1]
          refine xj_put dX0_keepInOrder_55 K0 22 (by decide) q491 rfl rfl hO2 (Nat.le_of_ble_eq_true rfl) ?_
          exact xj_return dX0_keepInOrder_58 rfl ⟨rfl, F.set k (nI v), (by rw [List.length_set]; exact hF), (by rw [hkW]; rw [hkW] at h1 h2; exact lnk_ins (by omega) h1 h2), (by rw [insE_len]; rfl)⟩
        · refine xj_aload_n dX0_keepInOrder_21 rfl rfl ?_
          refine xj_get dX0_keepInOrder_22 K0 21 (by decide) q490 hO2 rfl ?_
          refine xj_iload_n dX0_keepInOrder_25 rfl ?_
          refine xj_aload_n dX0_keepInOrder_26 rfl rfl ?_
          refine xj_get dX0_keepInOrder_27 K0 21 (by decide) q490 hO2 rfl ?_
          refine xj_iload_n dX0_keepInOrder_30 rfl ?_
          refine xj_ic1 dX0_keepInOrder_31 ?_
          refine xj_isub dX0_keepInOrder_32 ?_
          refine xj_iald dX0_keepInOrder_33 hF21 (by rw [hk0]; exact nI_pred k0) (by omega) (h1 k0 y (by omega) hy) ?_
          refine xj_iast dX0_keepInOrder_34 hF21 rfl (by omega) (by omega) ?_
          rw [gset_set]
          refine xj_iinc2 (cst := (-1)) dX0_keepInOrder_35 rfl rfl ?_
          rw [show nI k + -1 = nI k0 by rw [hk0]; exact pk_m1 k0]
          refine xj_goto (tgt := 5) dX0_keepInOrder_38 rfl ?_
          exact ih_lk k0 _ (by omega) (by omega) (by rw [List.length_set]; exact hF) (by rw [if_pos (by rw [hyr]; exact Nat.lt_of_not_le fun h => c18 ((nI_leI hy31 hv31).mpr h))] at hi; exact hi) (fun i x hi2 hx => by rw [List.getElem?_set_ne (by omega)]; exact h1 i x (by omega) hx) (fun i x hi2 hx => by
              by_cases e : i = k0
              · rw [e] at hx; rw [hy] at hx; cases hx; rw [e, ← hk0, List.getElem?_set_self (by omega)]
              · rw [List.getElem?_set_ne (by omega)]; exact h2 i x (by omega) hx)
  exact lk (l.length + 1) l.length F (by omega) (Nat.le_refl _) hF rfl (fun i x _ hx => hlk i x hx) (fun i x hi2 hx => absurd (List.getElem?_eq_some_iff.mp hx).1 (by omega))
theorem A_findRotations {r R g : Nat} {t : Bool} {L M30 M40 F0 : List Int32}  (hv : cV d e n G) (hn3 : e 3 = .long (lN g)) (hg : g < 2 ^ 64) (hL : G[r]? = some (cI 1 L)) (hR : rwL n R L) (hRm : R ∈ rws n) (h13 : G[13]? = some (cI 1 M30)) (h14 : G[14]? = some (cI 1 M40)) (h21 : G[21]? = some (cI 0 F0)) (hM30 : M30.length = 6) (hM40 : M40.length = 6) (hF0 : F0.length = 6) : xMet E yX0_findRotations cX0_findRotations 4 none 3 0 0 [.ref 0, .ref r, .int (b1 (!t))] G (xre (fun v G' => v = none ∧ ∃ M3 M4 F : List Int32, M3.length = 6 ∧ M4.length = 6 ∧ F.length = 6 ∧ lnk F (rot n g R t) ∧ gfr [0, 13, 14, 21] G G' ∧ G'[13]? = some (cI 1 M3) ∧ G'[14]? = some (cI 1 M4) ∧ G'[21]? = some (cI 0 F) ∧ G'[0]? = some (cO 0 (cFs (cu d 22 (.int (nI (rot n g R t).length))))))) := by
  obtain ⟨hO, hN, hn0, h1n, hn6⟩ := id hv
  have hfm : gos n t g R ∈ rws n := gos_mem' (by omega) hRm
  refine xMet.of (lv := [some (.ref 0), some (.ref r), some (.int (b1 (!t))), none]) rfl rfl (Nat.le_of_ble_eq_true rfl) ?_
  refine xj_aload_n dX0_findRotations_0 rfl rfl ?_
  refine xj_aload_n dX0_findRotations_1 rfl rfl ?_
  refine xj_aload_n dX0_findRotations_2 rfl rfl ?_
  refine xj_get dX0_findRotations_3 K0 10 (by decide) q479 hO rfl ?_
  refine xj_dV dX0_findRotations_6 q728 kV_X0_copy (A_copy hv hL h13 hR (by omega)) hO rfl rfl rfl rfl (Nat.le_of_ble_eq_true rfl) ⟨(Nat.le_of_ble_eq_true rfl), (Nat.le_of_ble_eq_true rfl)⟩ (Nat.le_of_ble_eq_true rfl) (Nat.le_of_ble_eq_true rfl) ?_
  rintro _ _ ⟨rfl, M1, hM1, hM1R, rfl⟩
  have hv2 : cV d e n (G.set 13 (cI 1 M1)) := hv.set (by decide) (by decide)
  obtain ⟨hO2, hN2, -⟩ := id hv2
  refine xj_aload_n dX0_findRotations_9 rfl rfl ?_
  refine xj_aload_n dX0_findRotations_10 rfl rfl ?_
  refine xj_get dX0_findRotations_11 K0 10 (by decide) q479 hO2 rfl ?_
  refine xj_iload_n dX0_findRotations_14 rfl ?_
  refine xj_sI_if_ne (tgt := 22) (M := 23) dX0_findRotations_15 rfl (fun c15 k => by
      refine xj_ic0 dX0_findRotations_22 ?_
      exact k) (fun c15 k => by
      refine xj_ic1 dX0_findRotations_18 ?_
      refine xj_goto (tgt := 23) dX0_findRotations_19 rfl ?_
      exact k) ?_
  refine xj_top (y := b1 t) (by cases t <;> rfl) ?_
  refine xj_dV dX0_findRotations_23 q1231 kV_X0_goes (A_goes hv2 hn3 hg (gset_self h13) (by decide) (by decide) hM1R hRm (by omega)) hO2 rfl rfl rfl rfl (Nat.le_of_ble_eq_true rfl) ⟨(Nat.le_of_ble_eq_true rfl), (Nat.le_of_ble_eq_true rfl)⟩ (Nat.le_of_ble_eq_true rfl) (Nat.le_of_ble_eq_true rfl) ?_
  rintro _ _ ⟨rfl, M3, hM3, hM3R, rfl⟩
  rw [gset_set]
  have hv3 : cV d e n (G.set 13 (cI 1 M3)) := hv.set (by decide) (by decide)
  obtain ⟨hO3, hN3, -⟩ := id hv3
  rw [hM1, hM30] at hM3
  refine xj_aload_n dX0_findRotations_26 rfl rfl ?_
  refine xj_ic0 dX0_findRotations_27 ?_
  refine xj_put dX0_findRotations_28 K0 22 (by decide) q491 rfl rfl hO3 (Nat.le_of_ble_eq_true rfl) ?_
  refine xj_ic0 dX0_findRotations_31 ?_
  refine xj_istn3 dX0_findRotations_32 rfl ?_
  have lp : ∀ (K : Nat) (p : Nat) (l : List Nat) (M4 : List Int32) (F : List Int32) (H : xH), n - 1 - p < K → (p ≤ n - 1) → (l.length ≤ p) → (M4.length = 6) → (F.length = 6) → (lnk F l) → (∀ x ∈ l, x ∈ rws n) → (lpN (rotF n g (gos n t g R) t) p (n - 1 - p) l = (rot n g R t)) → (gfr [0, 13, 14, 21] G H) → (H[13]? = some (cI 1 M3)) → (H[14]? = some (cI 1 M4)) → (H[21]? = some (cI 0 F)) → (H[0]? = some (cO 0 (cFs (cu d 22 (.int (nI l.length)))))) → xJ E (yX0_findRotations, cX0_findRotations, 4, none, []) (xR 3 0 0) (xre (fun v G' => v = none ∧ ∃ M3 M4 F : List Int32, M3.length = 6 ∧ M4.length = 6 ∧ F.length = 6 ∧ lnk F (rot n g R t) ∧ gfr [0, 13, 14, 21] G G' ∧ G'[13]? = some (cI 1 M3) ∧ G'[14]? = some (cI 1 M4) ∧ G'[21]? = some (cI 0 F) ∧ G'[0]? = some (cO 0 (cFs (cu d 22 (.int (nI (rot n g R t).length))))))) 0 0 33 [some (.ref 0), some (.ref r), some (.int (b1 (!t))), some (.int (nI p))] [] H := by
    intro K
    induction K with
    | zero => intro p l M4 F H h; exact absurd h (Nat.not_lt_zero _)
    | succ K ih_lp =>
      intro p l M4 F H hK hp hll hM4 hF hlk hm hs hfr h13 h14 h21 h0
      have hv2 : cV (cu d 22 (.int (nI l.length))) e n H := hv.mv h0 (hfr.2 4 (by decide))
      obtain ⟨hO2, hN2, -⟩ := id hv2
      refine xj_iload_n dX0_findRotations_33 rfl ?_
      refine xj_ic1 dX0_findRotations_34 ?_
      refine xj_iadd dX0_findRotations_35 ?_
      refine xj_aload_n dX0_findRotations_36 rfl rfl ?_
      refine xj_get dX0_findRotations_37 K0 4 (by decide) q473 hO2 rfl ?_
      refine xj_getN dX0_findRotations_40 K3 0 (by decide) q321 hN2 (congrArg some hn0) ?_
      rw [nI_1]
      refine xj_icmp_ge (tgt := 116) dX0_findRotations_43 rfl (fun c43 => ?_) (fun c43 => ?_)
      · exact xj_return dX0_findRotations_116 rfl (by have hpn : n - 1 ≤ p := (by have : n ≤ p + 1 := Nat.le_of_not_lt fun h => absurd c43 (nI_ge h (by omega)); omega); rw [lp_end _ hpn] at hs; subst hs; exact ⟨rfl, M3, M4, F, hM3, hM4, hF, hlk, hfr, h13, h14, h21, h0⟩)
      · have hpn : p < n - 1 := Nat.lt_of_not_le fun h => c43 (nI_le (by omega) (by omega))
        have hsm := f_sw (by omega) hfm (p := p) hpn
        have hvm := gos_mem' (g := g) (t := true) (by omega) hsm
        have hvv := R31 (by omega) hvm
        refine xj_aload_n dX0_findRotations_46 rfl rfl ?_
        refine xj_get dX0_findRotations_47 K0 10 (by decide) q479 hO2 rfl ?_
        refine xj_iload_n dX0_findRotations_50 rfl ?_
        refine xj_cS dX0_findRotations_51 q655 kS_X0_isDrop (A_isDrop h13 hM3R (by omega) (by omega)) rfl rfl (Nat.le_of_ble_eq_true rfl) ⟨(Nat.le_of_ble_eq_true rfl), (Nat.le_of_ble_eq_true rfl)⟩ (Nat.le_of_ble_eq_true rfl) (Nat.le_of_ble_eq_true rfl) ?_
        refine xj_iload_n dX0_findRotations_54 rfl ?_
        refine xj_sI_if_ne (tgt := 62) (M := 63) dX0_findRotations_55 rfl (fun c55 k => by
            refine xj_ic0 dX0_findRotations_62 ?_
            exact k) (fun c55 k => by
            refine xj_ic1 dX0_findRotations_58 ?_
            refine xj_goto (tgt := 63) dX0_findRotations_59 rfl ?_
            exact k) ?_
        refine xj_top (y := b1 t) (by cases t <;> rfl) ?_
        refine xj_icmp_eq (tgt := 69) dX0_findRotations_63 rfl (fun c63 => ?_) (fun c63 => ?_)
        · have hc : (isD n (gos n t g R) p == t) = true := by rw [beq_iff_eq]; exact b1_inj c63
          refine xj_aload_n dX0_findRotations_69 rfl rfl ?_
          refine xj_aload_n dX0_findRotations_70 rfl rfl ?_
          refine xj_get dX0_findRotations_71 K0 10 (by decide) q479 hO2 rfl ?_
          refine xj_aload_n dX0_findRotations_74 rfl rfl ?_
          refine xj_get dX0_findRotations_75 K0 11 (by decide) q480 hO2 rfl ?_
          refine xj_dV dX0_findRotations_78 q728 kV_X0_copy (A_copy hv2 h13 h14 hM3R (by omega)) hO2 rfl rfl rfl rfl (Nat.le_of_ble_eq_true rfl) ⟨(Nat.le_of_ble_eq_true rfl), (Nat.le_of_ble_eq_true rfl)⟩ (Nat.le_of_ble_eq_true rfl) (Nat.le_of_ble_eq_true rfl) ?_
          rintro _ _ ⟨rfl, M5, hM5, hM5R, rfl⟩
          have hv3 : cV (cu d 22 (.int (nI l.length))) e n (H.set 14 (cI 1 M5)) := hv2.set (by decide) (by decide)
          obtain ⟨hO3, hN3, -⟩ := id hv3
          refine xj_aload_n dX0_findRotations_81 rfl rfl ?_
          refine xj_get dX0_findRotations_82 K0 11 (by decide) q480 hO3 rfl ?_
          refine xj_iload_n dX0_findRotations_85 rfl ?_
          refine xj_cS dX0_findRotations_86 q827 kS_X0_swap (A_swap (gset_self h14) hM5R hfm (by omega) (by omega) (by omega)) rfl rfl (Nat.le_of_ble_eq_true rfl) ⟨(Nat.le_of_ble_eq_true rfl), (Nat.le_of_ble_eq_true rfl)⟩ (Nat.le_of_ble_eq_true rfl) (Nat.le_of_ble_eq_true rfl) ?_
          rw [gset_set]
          have hM6 := rwL_sw (by omega) hfm hM5R (show p + 1 < n by omega)
          have hv4 : cV (cu d 22 (.int (nI l.length))) e n (H.set 14 (cI 1 (chL M5 p (p + 1)))) := hv2.set (by decide) (by decide)
          obtain ⟨hO4, hN4, -⟩ := id hv4
          refine xj_aload_n dX0_findRotations_89 rfl rfl ?_
          refine xj_aload_n dX0_findRotations_90 rfl rfl ?_
          refine xj_get dX0_findRotations_91 K0 11 (by decide) q480 hO4 rfl ?_
          refine xj_ic1 dX0_findRotations_94 ?_
          refine xj_dV dX0_findRotations_95 q1231 kV_X0_goes (A_goes (t := true) hv4 hn3 hg (gset_self h14) (by decide) (by decide) hM6 hsm (by rw [chL_len]; omega)) hO4 rfl rfl rfl rfl (Nat.le_of_ble_eq_true rfl) ⟨(Nat.le_of_ble_eq_true rfl), (Nat.le_of_ble_eq_true rfl)⟩ (Nat.le_of_ble_eq_true rfl) (Nat.le_of_ble_eq_true rfl) ?_
          rintro _ _ ⟨rfl, M7, hM7, hM7R, rfl⟩
          rw [gset_set]
          rw [chL_len] at hM7
          have hv5 : cV (cu d 22 (.int (nI l.length))) e n (H.set 14 (cI 1 M7)) := hv2.set (by decide) (by decide)
          obtain ⟨hO5, hN5, -⟩ := id hv5
          refine xj_aload_n dX0_findRotations_98 rfl rfl ?_
          refine xj_aload_n dX0_findRotations_99 rfl rfl ?_
          refine xj_aload_n dX0_findRotations_100 rfl rfl ?_
          refine xj_get dX0_findRotations_101 K0 11 (by decide) q480 hO5 rfl ?_
          refine xj_cV dX0_findRotations_104 q632 kV_X0_told (A_told hv5 (gset_self h14) hM7R (f_tl n (by omega) _ hvm)) hO5 rfl rfl rfl rfl (Nat.le_of_ble_eq_true rfl) ⟨(Nat.le_of_ble_eq_true rfl), (Nat.le_of_ble_eq_true rfl)⟩ (Nat.le_of_ble_eq_true rfl) (Nat.le_of_ble_eq_true rfl) ?_
          refine xj_dV dX0_findRotations_107 q1365 kV_X0_keepInOrder (A_keepInOrder (l := l) hO5 (by rw [gset (by decide)]; exact h21) hF hlk (by omega) (fun x hx => R31 (by omega) (hm x hx)) hvv rfl) hO5 rfl rfl rfl rfl (Nat.le_of_ble_eq_true rfl) ⟨(Nat.le_of_ble_eq_true rfl), (Nat.le_of_ble_eq_true rfl)⟩ (Nat.le_of_ble_eq_true rfl) (Nat.le_of_ble_eq_true rfl) ?_
          rintro _ _ ⟨rfl, F2, hF2, hlk2, rfl⟩
          refine xj_iinc3 (cst := 1) dX0_findRotations_110 rfl rfl ?_
          rw [nI_1]
          refine xj_goto (tgt := 33) dX0_findRotations_113 rfl ?_
          first
          | exact ih_lp (p + 1) l M4 F H (by omega) (by omega) (by omega) hM4 hF hlk hm (by rw [← hs, lp_step _ hpn]; unfold rotF; rw [if_neg hc]) hfr h13 h14 h21 h0
          | exact ih_lp (p + 1) (insE l (gos n true g (sw n (gos n t g R) p))) M7 F2 _ (by omega) (by omega) (by rw [insE_len]; omega) (by omega) hF2 hlk2 (fun x hx => (insE_mem hx).elim (hm x) (fun e => by rw [e]; exact hvm)) (by rw [← hs, lp_step _ hpn]; unfold rotF; rw [if_pos hc]) (((hfr.set (by decide)).set (by decide)).set (by decide)) (by rw [gset (by decide), gset (by decide), gset (by decide)]; exact h13) (by rw [gset (by decide), gset (by decide)]; exact gset_self h14) (by rw [gset (by decide)]; exact gset_self (by rw [gset (by decide)]; exact h21)) (gset_self (by rw [gset (by decide)]; exact hO5))
        · have hc : ¬ (isD n (gos n t g R) p == t) = true := fun q => c63 (congrArg b1 (beq_iff_eq.mp q))
          refine xj_goto (tgt := 110) dX0_findRotations_66 rfl ?_
          refine xj_iinc3 (cst := 1) dX0_findRotations_110 rfl rfl ?_
          rw [nI_1]
          refine xj_goto (tgt := 33) dX0_findRotations_113 rfl ?_
          first
          | exact ih_lp (p + 1) l M4 F H (by omega) (by omega) (by omega) hM4 hF hlk hm (by rw [← hs, lp_step _ hpn]; unfold rotF; rw [if_neg hc]) hfr h13 h14 h21 h0
          | exact ih_lp (p + 1) (insE l (gos n true g (sw n (gos n t g R) p))) M7 F2 _ (by omega) (by omega) (by rw [insE_len]; omega) (by omega) hF2 hlk2 (fun x hx => (insE_mem hx).elim (hm x) (fun e => by rw [e]; exact hvm)) (by rw [← hs, lp_step _ hpn]; unfold rotF; rw [if_pos hc]) (((hfr.set (by decide)).set (by decide)).set (by decide)) (by rw [gset (by decide), gset (by decide), gset (by decide)]; exact h13) (by rw [gset (by decide), gset (by decide)]; exact gset_self h14) (by rw [gset (by decide)]; exact gset_self (by rw [gset (by decide)]; exact h21)) (gset_self (by rw [gset (by decide)]; exact hO5))
  exact lp n 0 [] M40 F0 _ (by omega) (by omega) (Nat.le_refl _) hM40 hF0 (fun i x hx => by cases hx) (fun x hx => by cases hx) rfl ((gfr.refl.set (by decide)).set (by decide)) (by rw [gset (by decide)]; exact gset_self h13) (by rw [gset (by decide), gset (by decide)]; exact h14) (by rw [gset (by decide), gset (by decide)]; exact h21) (gset_self hO3)
end A6
