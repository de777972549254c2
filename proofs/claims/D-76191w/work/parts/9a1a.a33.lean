/-! ===== the class: again ===== -/
set_option maxRecDepth 100000

def ke (q : Nat × Int32 × Nat × List (Nat × Nat)) : Nat → Value := fun i => match i with
  | 0 => .int (nI q.1)
  | 1 => .int (nI q.2.2.2.length)
  | 2 => .int q.2.1
  | _ => .long (lN q.2.2.1)
section A33
variable {E : xE} {G : xH} {d e : Nat → Value} {n : Nat}
theorem A_againN  (hv : cV d e n G) (hd7 : d 7 = .int 0) : xMet E yX0_again cX0_again 2 (some FieldType.int) 123 0 0 [.ref 0] G (xre (fun v_ G' => v_ = some (.int (-3)) ∧ G' = G)) := by
  obtain ⟨hO, hN, hn0, h1n, hn6⟩ := id hv
  refine xMet.of (lv := [some (.ref 0), none]) rfl rfl (Nat.le_of_ble_eq_true rfl) ?_
  refine xj_aload_n dX0_again_0 rfl rfl ?_
  refine xj_get dX0_again_1 K0 7 (by decide) q476 hO (congrArg some hd7) ?_
  refine xj_if_ne (tgt := 10) dX0_again_4 rfl (fun c4 => absurd rfl c4) (fun c4 => ?_)
  refine xj_bipush (v := -3) dX0_again_7 rfl ?_
  exact xj_ireturn dX0_again_9 rfl rfl ⟨rfl, rfl⟩
theorem A_again {mk : List (Nat × Nat)} {q : Nat × Int32 × Nat × List (Nat × Nat)}  (hv : cV d e n G) (hmk : cMk mk e G) (hkp : cKp (some q) d G) (hAB : cAB G) (hl83 : 83 ≤ G.length) : xMet E yX0_again cX0_again 2 (some FieldType.int) 123 64 753 [.ref 0] G (xre (fun v_ G' => v_ = some (.int (nI (pc64 q.2.2.1))) ∧ ∃ d', (∀ i, i ≠ 3 → d' i = d i) ∧ G'[0]? = some (cO 0 (cFs d')) ∧ G'[4]? = some (cO 3 (oFs (ke q))) ∧ cA d' q.1 G' ∧ cAB G' ∧ cMk q.2.2.2 (ke q) G' ∧ gfa [0, 3, 4, 5, 6, 10] G G')) := by
  obtain ⟨hO, hN, hn0, h1n, hn6⟩ := id hv
  obtain ⟨hn1, ⟨K5, M6, h5, h6m, hml0⟩, PL0, h10, hPL0, -⟩ := id hmk
  have hl5 := hml0.1
  have hl6 := hml0.2.1
  obtain ⟨u, KL, ML, hk7, hk8, hk9, hlK, hlM, hd7, u0, u1, u2, u3, h1q, hq6, hgq, hml⟩ := id hkp
  have hl66 := hml.2.2.1
  have hk7 : G[7]? = some (cO 3 [.int (nI q.1), .int (nI q.2.2.2.length), .int q.2.1, .long (lN q.2.2.1), .ref 8, .ref 9]) := by rw [hk7]; unfold kFs; rw [u0, u1, u2, u3]
  refine xMet.of (lv := [some (.ref 0), none]) rfl rfl (Nat.le_of_ble_eq_true rfl) ?_
  refine xj_aload_n dX0_again_0 rfl rfl ?_
  refine xj_get dX0_again_1 K0 7 (by decide) q476 hO (congrArg some hd7) ?_
  refine xj_if_ne (tgt := 10) dX0_again_4 rfl (fun c4 => ?_) (fun c4 => absurd c4 (by decide))
  refine xj_aload_n dX0_again_10 rfl rfl ?_
  refine xj_get dX0_again_11 K0 4 (by decide) q473 hO rfl ?_
  refine xj_aload_n dX0_again_14 rfl rfl ?_
  refine xj_get dX0_again_15 K0 5 (by decide) q474 hO rfl ?_
  refine xj_cV dX0_again_18 q1897 kV_X3_become (A_become hN hk7 h5 h6m hk8 hk9 hl5 hlK hl6 hlM (by decide) (by decide) (by decide) (by decide) (by decide) (by decide) (by decide) (by decide)) hN rfl rfl rfl rfl (Nat.le_of_ble_eq_true rfl) ⟨(Nat.le_of_ble_eq_true rfl), (Nat.le_of_ble_eq_true rfl)⟩ (Nat.le_of_ble_eq_true rfl) (Nat.le_of_ble_eq_true rfl) ?_
  refine xj_eq rfl rfl (show _ = (((G.set 4 (cO 3 (oFs (ke q)))).set 5 (cI 0 KL)).set 6 (cI 0 ML)) from rfl) ?_
  have lB : (((G.set 4 (cO 3 (oFs (ke q)))).set 5 (cI 0 KL)).set 6 (cI 0 ML)).length = G.length := by rw [List.length_set, List.length_set, List.length_set]
  have hvB : cV d (ke q) q.1 (((G.set 4 (cO 3 (oFs (ke q)))).set 5 (cI 0 KL)).set 6 (cI 0 ML)) := ⟨by rw [gset (by decide), gset (by decide), gset (by decide)]; exact hO, by rw [gset (by decide), gset (by decide)]; exact gset_self hN, rfl, h1q, hq6⟩
  have hOB := hvB.1
  have kB : kpt G (((G.set 4 (cO 3 (oFs (ke q)))).set 5 (cI 0 KL)).set 6 (cI 0 ML)) := ((kpt.refl.set (by decide)).set (by decide)).set (by decide)
  refine xj_aload_n dX0_again_21 rfl rfl ?_
  refine xj_dV dX0_again_22 q385 kV_X0_takeArcs (A_takeArcs hvB (hAB.mv (by rw [gset (by decide), gset (by decide), gset (by decide)]) kB) (by rw [lB]; unfold dynR; omega)) hOB rfl rfl rfl rfl (Nat.le_of_ble_eq_true rfl) ⟨(Nat.le_of_ble_eq_true rfl), (Nat.le_of_ble_eq_true rfl)⟩ (Nat.le_of_ble_eq_true rfl) (Nat.le_of_ble_eq_true rfl) ?_
  rintro _ H1 ⟨rfl, ar, k0, hA1, hB1, hf0, -⟩
  have hl1 := hf0.1
  rw [lB] at hl1
  have k4 := (hf0.2 4 (by rw [lB]; omega) (by decide)).trans hvB.2.1
  have k5 : H1[5]? = some (cI 0 KL) := (hf0.2 5 (by rw [lB]; omega) (by decide)).trans (by rw [gset (by decide)]; exact gset_self (by rw [gset (by decide)]; exact h5))
  have k6 : H1[6]? = some (cI 0 ML) := (hf0.2 6 (by rw [lB]; omega) (by decide)).trans (gset_self (by rw [gset (by decide), gset (by decide)]; exact h6m))
  have h101 : H1[10]? = some (cR 7 PL0) := (hf0.2 10 (by rw [lB]; omega) (by decide)).trans (by rw [gset (by decide), gset (by decide), gset (by decide)]; exact h10)
  have hf1 : gfa [0, 3, 4, 5, 6, 10] G H1 := (((gfa.refl.set (by decide)).set (by decide)).set (by decide)).trans (hf0.mono (by decide))
  refine xj_ic0 dX0_again_25 ?_
  refine xj_istn1 dX0_again_26 rfl ?_
  refine xj_wk (nc' := 6 - 0) (ns' := 2 * (6 - 0)) (by decide) (by decide) ?_
  have lp : ∀ (K : Nat) (k : Nat) (PL : List Value) (H : xH), 6 - k < K → (k ≤ q.2.2.2.length) → (gfa [10] H1 H) → (H[10]? = some (cR 7 PL)) → (PL.length = 6) → (∀ i, i < k → ∃ a : Nat, PL[i]? = some (.ref a) ∧ 82 < a ∧ H[a]? = some (mkO i (mkAt q.2.2.2 i))) → xJ E (yX0_again, cX0_again, 2, (some FieldType.int), []) (xR 123 64 753) (xre (fun v_ G' => v_ = some (.int (nI (pc64 q.2.2.1))) ∧ ∃ d', (∀ i, i ≠ 3 → d' i = d i) ∧ G'[0]? = some (cO 0 (cFs d')) ∧ G'[4]? = some (cO 3 (oFs (ke q))) ∧ cA d' q.1 G' ∧ cAB G' ∧ cMk q.2.2.2 (ke q) G' ∧ gfa [0, 3, 4, 5, 6, 10] G G')) (6 - k) (2 * (6 - k)) 27 [some (.ref 0), some (.int (nI k))] [] H := by
    intro K
    induction K with
    | zero => intro k PL H h; exact absurd h (Nat.not_lt_zero _)
    | succ K ih_lp =>
      intro k PL H hK hk hfr h10 hPL hPk
      have b0 : H[0]? = some (cO 0 (cFs (cu d 3 (.ref ar)))) := (hfr.2 0 (by omega) (by decide)).trans k0
      have b4 : H[4]? = some (cO 3 (oFs (ke q))) := (hfr.2 4 (by omega) (by decide)).trans k4
      have b5 : H[5]? = some (cI 0 KL) := (hfr.2 5 (by omega) (by decide)).trans k5
      have b6 : H[6]? = some (cI 0 ML) := (hfr.2 6 (by omega) (by decide)).trans k6
      have hlH := hfr.1
      refine xj_iload_n dX0_again_27 rfl ?_
      refine xj_aload_n dX0_again_28 rfl rfl ?_
      refine xj_get dX0_again_29 K0 4 (by decide) q473 b0 rfl ?_
      refine xj_getN dX0_again_32 K3 1 (by decide) q323 b4 rfl ?_
      refine xj_icmp_ge (tgt := 72) dX0_again_35 rfl (fun c35 => ?_) (fun c35 => ?_)
      · have hkn : k = q.2.2.2.length := by have := Nat.le_of_not_lt fun h => absurd c35 (nI_ge h (by omega)); omega
        subst hkn
        have hvH : cV (cu d 3 (.ref ar)) (ke q) q.1 H := ⟨b0, b4, rfl, h1q, hq6⟩
        refine xj_aload_n dX0_again_72 rfl rfl ?_
        refine xj_cV dX0_again_73 q811 kV_X0_manyGone (A_manyGone hvH rfl (Nat.lt_trans hgq (by decide))) b0 rfl rfl rfl rfl (Nat.le_of_ble_eq_true rfl) ⟨(Nat.le_of_ble_eq_true rfl), (Nat.le_of_ble_eq_true rfl)⟩ (Nat.le_of_ble_eq_true rfl) (Nat.le_of_ble_eq_true rfl) ?_
        exact xj_ireturn dX0_again_76 rfl rfl ⟨rfl, (cu d 3 (.ref ar)), fun i hi => (by unfold cu; rw [if_neg hi]), b0, b4, hA1.mv rfl (hfr.kpt (by decide)), hB1.mv (hfr.2 3 (by omega) (by decide)) (hfr.kpt (by decide)), ⟨rfl, ⟨KL, ML, b5, b6, hml⟩, PL, h10, hPL, fun i p hp => (by have hi := (List.getElem?_eq_some_iff.mp hp).1; have := hPk i hi; rw [mkAt_some hi] at hp; cases hp; exact this)⟩, hf1.trans (hfr.mono (by decide))⟩
      · have hkn : k < q.2.2.2.length := Nat.lt_of_not_le fun h => c35 (nI_le h (by omega))
        obtain ⟨r1, r2, r3, r4⟩ := hml.2.2.2 k _ (mkAt_some hkn)
        refine xj_aload_n dX0_again_38 rfl rfl ?_
        refine xj_get dX0_again_39 K0 6 (by decide) q475 b0 rfl ?_
        refine xj_iload_n dX0_again_42 rfl ?_
        refine xj_aload_n dX0_again_43 rfl rfl ?_
        refine xj_get dX0_again_44 K0 4 (by decide) q473 b0 rfl ?_
        refine xj_getN dX0_again_47 K3 4 (by decide) q329 b4 rfl ?_
        refine xj_iload_n dX0_again_50 rfl ?_
        refine xj_iald dX0_again_51 b5 rfl (by omega) r1 ?_
        refine xj_iload_n dX0_again_52 rfl ?_
        refine xj_aload_n dX0_again_53 rfl rfl ?_
        refine xj_get dX0_again_54 K0 4 (by decide) q473 b0 rfl ?_
        refine xj_getN dX0_again_57 K3 5 (by decide) q331 b4 rfl ?_
        refine xj_iload_n dX0_again_60 rfl ?_
        refine xj_iald dX0_again_61 b6 rfl (by omega) r2 ?_
        refine xj_dS dX0_again_62 q837 kS_X0_made (A_made r3) rfl rfl (Nat.le_of_ble_eq_true rfl) ⟨(Nat.le_of_ble_eq_true rfl), (Nat.le_of_ble_eq_true rfl)⟩ (by omega) (by omega) ?_
        rintro _ _ ⟨rfl, rfl⟩
        have z10 : (H ++ [cO (8 + (mkAt q.2.2.2 k).1) [.int (nI k), .int (nI (mkAt q.2.2.2 k).2)]])[10]? = some (cR 7 PL) := by rw [List.getElem?_append_left (by omega)]; exact h10
        refine xj_aastP dX0_again_65 z10 app_at r3 rfl (by omega) (by omega) ?_
        refine xj_iinc1 (cst := 1) dX0_again_66 rfl rfl ?_
        rw [nI_1]
        refine xj_goto (tgt := 27) dX0_again_69 rfl ?_
        refine xj_wk (nc' := 6 - (k + 1)) (ns' := 2 * (6 - (k + 1))) (by omega) (by omega) ?_
        exact ih_lp (k + 1) _ _ (by omega) (by omega) ((hfr.app).set (by decide)) (gset_self z10) (by rw [List.length_set]; exact hPL) (fun i hi => by
          by_cases ei : k = i
          · subst ei; exact ⟨H.length, List.getElem?_set_self (by omega), by omega, by rw [gset (by omega)]; exact app_at⟩
          · obtain ⟨a, a1, a2, a3⟩ := hPk i (by omega)
            exact ⟨a, by rw [List.getElem?_set_ne ei]; exact a1, a2, by rw [gset (by omega), List.getElem?_append_left (List.getElem?_eq_some_iff.mp a3).1]; exact a3⟩)
  exact lp 7 0 PL0 H1 (by omega) (Nat.zero_le _) gfa.refl h101 hPL0 (fun i hi => absurd hi (Nat.not_lt_zero _))
end A33
