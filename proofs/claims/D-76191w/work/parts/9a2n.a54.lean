/-! ===== the class: conditions parsed ===== -/
set_option maxRecDepth 100000
theorem kV_X0_all : xsV yX0_all cX0_all 3 (some (FieldType.object "CoarserOrders$Cond")) 1 := ⟨q1034, qs41, q151, q1035, by decide, by decide, by decide +kernel⟩
theorem kI_X19_init : xsI yX19_init cX19_init 3 2 := ⟨q1189, q182, q1190, rfl, by decide, by decide, by decide +kernel⟩
section A54
variable {E : xE} {d : Nat → Value} {n : Nat}
theorem A_allY {f : Nat} {LT : List Int32} {tp : List Nat} {r : Nat → Value} (i : ∀ f', f' ≤ f → (pYs E d r tp LT yX0_oneOf cX0_oneOf 4 (some (FieldType.object "CoarserOrders$Cond")) 0 f')) : (pYs E d r tp LT yX0_all cX0_all 3 (some (FieldType.object "CoarserOrders$Cond")) 1 (f + 1)) := by
  intro o e G q ho he hv0 hp
  obtain ⟨hO, hd17, h19, hLT, hN, fv, hF⟩ := id hv0
  have hl0 : 0 < G.length := (List.getElem?_eq_some_iff.mp hO).1
  have hnb := nxT_b he
  have hnf := nxF_b he
  have htp := hLT.2.1
  have hl200 := hLT.1
  rcases prs_1 hp with ⟨p, -, h⟩ | ⟨q0, hp0, hp2⟩
  · cases h
  · have b0 := prs_b f 0 o [] e q0 he hp0 (Or.inr (Or.inr (Or.inr rfl)))
    have b2 := prs_b f 2 o _ q0.2 q b0.2.1 hp2 (by simp)
    refine xMet.of (lv := [some (.ref 0), some (.int (nI o)), none]) rfl rfl (Nat.le_of_ble_eq_true rfl) ?_
    refine xj_aload_n dX0_all_0 rfl rfl ?_
    refine xj_iload_n dX0_all_1 rfl ?_
    refine xj_dV dX0_all_2 q1036 kV_X0_oneOf (i f (Nat.le_refl _) o e G q0 ho he hv0 hp0) hO rfl rfl rfl rfl (Nat.le_of_ble_eq_true rfl) (xR_ok (by omega) (by decide)) (by omega) (by omega) ?_
    rintro _ H0 ⟨a0, rfl, hc0, f0, z0⟩
    refine xj_astn2 dX0_all_5 rfl rfl ?_
    refine xj_wk (by omega : (q.2 - q0.2) ≤ _) (by omega : (3 * (q.2 - q0.2)) ≤ _) ?_
    have lp : ∀ (K : Nat) (fk : Nat) (acc : List Int32) (e1 : Nat) (H : xH) (a : Nat), fk < K → (fk ≤ f) → (e1 ≤ tp.length) → (e1 ≤ q.2) → (tpV d r tp LT e1 H) → (gfa [0] G H) → (cnd H acc.length a acc) → (prs tp fk 2 o acc e1 = some (.inr q)) → xJ E (yX0_all, cX0_all, 3, (some (FieldType.object "CoarserOrders$Cond")), []) (xR (10 + (f + 1)) (q.2 - e) (3 * (q.2 - e))) (pPy d tp q G) (q.2 - e1) (3 * (q.2 - e1)) 6 [some (.ref 0), some (.int (nI o)), some (.ref a)] [] H := by
      intro K
      induction K with
      | zero => intro fk acc e1 H a h; exact absurd h (Nat.not_lt_zero _)
      | succ K ih_lp =>
        intro fk acc e1 H a hK hfk he1 hle hv1 hfr hcd hpr
        obtain ⟨hO1, -, h191, -, hN1, fv1, hF1⟩ := id hv1
        have hl1 : 0 < H.length := (List.getElem?_eq_some_iff.mp hO1).1
        have hnb1 := nxT_b he1
        have hnf1 := nxF_b he1
        obtain ⟨fk, rfl⟩ : ∃ j, fk = j + 1 := (by cases fk with | zero => cases hpr | succ j => exact ⟨j, rfl⟩)
        cases hw8 : isW tp e1 8 with
        | true =>
          have hwl : nxT tp e1 = nxF tp e1 + 3 := isW_len he1 hw8
          rcases prs_2t hpr hw8 with ⟨p, -, h⟩ | ⟨q1, hp1, hp2⟩
          · cases h
          · have b1 := prs_b fk 0 o [] (nxT tp e1) q1 hnb1.2 hp1 (Or.inr (Or.inr (Or.inr rfl)))
            have b2 := prs_b fk 2 o _ q1.2 q b1.2.1 hp2 (by simp)
            refine xj_aload_n dX0_all_6 rfl rfl ?_
            refine xj_ldcSw (u := 8) dX0_all_7 (List.mem_of_getElem? (i := 8) rfl) ?_
            refine xj_cV dX0_all_10 q1041 kV_X0_goesOn (A_goesOnWY (u := 8) hO1 hd17 h191 hLT he1 (by decide) hw8) hO1 rfl rfl rfl rfl (Nat.le_of_ble_eq_true rfl) (xR_ok (by omega) (by decide)) (Nat.le_of_ble_eq_true rfl) (Nat.le_of_ble_eq_true rfl) ?_
            refine xj_if_eq (tgt := 33) dX0_all_13 rfl (fun c13 => absurd c13 (by decide)) (fun c13 => ?_)
            refine xj_new (fs := [.null, .null]) dX0_all_16 K18 q1168 q1169 q181 rfl (by omega) (by omega) ?_
            rw [gtE_len]
            obtain ⟨l2, f2, z2, c2⟩ := nx_facts (G := H) (x := cO 18 [.null, .null]) (d := d) (tp := tp) (e := nxT tp e1) hO1
            obtain ⟨H1, hH1⟩ : ∃ H1, H1 = gtE H d tp (nxT tp e1) ++ [cO 18 [.null, .null]] := ⟨_, rfl⟩
            rw [← hH1] at l2 f2 z2 c2 ⊢
            have hv2 := hv1.mv f2 z2
            refine xj_dup dX0_all_19 rfl ?_
            refine xj_aload_n dX0_all_20 rfl rfl ?_
            refine xj_aload_n dX0_all_21 rfl rfl ?_
            refine xj_iload_n dX0_all_22 rfl ?_
            refine xj_dV dX0_all_23 q1036 kV_X0_oneOf (i fk (by omega) o (nxT tp e1) H1 q1 ho hnb1.2 hv2 hp1) z2 rfl rfl rfl rfl (Nat.le_of_ble_eq_true rfl) (xR_ok (by omega) (by decide)) (by omega) (by omega) ?_
            rintro _ H2 ⟨a2, rfl, hc2, f3, z3⟩
            have k2 : H2[H.length]? = some (cO 18 [.null, .null]) := (f3.2 H.length (by omega) (n0 (by omega))).trans c2
            refine xj_cI dX0_all_26 q1170 kI_X18_init (A_init18 k2) rfl rfl (Nat.le_of_ble_eq_true rfl) (xR_ok (by omega) (by decide)) (Nat.le_of_ble_eq_true rfl) (Nat.le_of_ble_eq_true rfl) ?_
            refine xj_astn2 dX0_all_29 rfl rfl ?_
            have hcA : cnd (H2.set H.length (cO 18 [.ref a, .ref a2])) (acc ++ q1.1 ++ [-10]).length H.length (acc ++ q1.1 ++ [-10]) := by
              rw [List.length_append, List.length_append]
              exact Or.inr (Or.inr (Or.inl ⟨a, a2, acc, q1.1, gset_self k2, (((hcd.gfa f2 hO1).gfa f3 z2).put k2 cdC_18).up (by omega), (hc2.put k2 cdC_18).up (by omega), rfl⟩))
            have z4 : (H2.set H.length (cO 18 [.ref a, .ref a2]))[0]? = some (cO 0 (cFs (dT d (nxF tp q1.2) (nxT tp q1.2)))) := by rw [gset (by omega)]; exact z3
            have f4 : gfa [0] H (H2.set H.length (cO 18 [.ref a, .ref a2])) := (f2.trans f3).new (Nat.le_refl _)
            refine xj_goto (tgt := 6) dX0_all_30 rfl ?_
            exact xj_wk (by omega) (by omega) (ih_lp fk _ q1.2 _ _ (by omega) (by omega) b1.2.1 b2.1 (hv1.mv f4 z4) (hfr.trans f4) hcA hp2)
        | false =>
          have hqe : q = (acc, e1) := Sum.inr.inj (prs_2f hpr hw8)
          refine xj_aload_n dX0_all_6 rfl rfl ?_
          refine xj_ldcSw (u := 8) dX0_all_7 (List.mem_of_getElem? (i := 8) rfl) ?_
          refine xj_cV dX0_all_10 q1041 kV_X0_goesOn (A_goesOnWN (u := 8) hO1 hd17 h191 hLT he1 (by decide) hw8) hO1 rfl rfl rfl rfl (Nat.le_of_ble_eq_true rfl) (xR_ok (by omega) (by decide)) (Nat.le_of_ble_eq_true rfl) (Nat.le_of_ble_eq_true rfl) ?_
          refine xj_if_eq (tgt := 33) dX0_all_13 rfl (fun c13 => ?_) (fun c13 => absurd rfl c13)
          refine xj_aload_n dX0_all_33 rfl rfl ?_
          exact xj_areturn dX0_all_34 rfl (Or.inl ⟨_, rfl⟩) rfl ⟨_, rfl, by rw [hqe]; exact hcd, hfr, by rw [hqe]; exact hO1⟩
    exact lp (f + 1) f q0.1 q0.2 H0 a0 (Nat.lt_succ_self _) (Nat.le_refl _) b0.2.1 b2.1 (hv0.mv f0 z0) f0 hc0 hp2
theorem A_allN {f : Nat} {LT : List Int32} {tp : List Nat} {r : Nat → Value} (i : ∀ f', f' ≤ f → (pYs E d r tp LT yX0_oneOf cX0_oneOf 4 (some (FieldType.object "CoarserOrders$Cond")) 0 f')) (iN : ∀ f', f' ≤ f → (pNs E d r tp LT yX0_oneOf cX0_oneOf 4 (some (FieldType.object "CoarserOrders$Cond")) 0 f')) : (pNs E d r tp LT yX0_all cX0_all 3 (some (FieldType.object "CoarserOrders$Cond")) 1 (f + 1)) := by
  intro o e G p ho he hv0 hp
  obtain ⟨hO, hd17, h19, hLT, hN, fv, hF⟩ := id hv0
  have hl0 : 0 < G.length := (List.getElem?_eq_some_iff.mp hO).1
  have hnb := nxT_b he
  have hnf := nxF_b he
  have htp := hLT.2.1
  have hl200 := hLT.1
  rcases prs_1 hp with ⟨p1, hp0, h⟩ | ⟨q0, hp0, hp2⟩
  · cases h
    refine xMet.of (lv := [some (.ref 0), some (.int (nI o)), none]) rfl rfl (Nat.le_of_ble_eq_true rfl) ?_
    refine xj_aload_n dX0_all_0 rfl rfl ?_
    refine xj_iload_n dX0_all_1 rfl ?_
    refine xj_tV dX0_all_2 q1036 kV_X0_oneOf (iN f (Nat.le_refl _) o e G p ho he hv0 hp0) hO rfl rfl rfl rfl (Nat.le_of_ble_eq_true rfl) (xR_ok (by omega) (by decide)) (by omega) (by omega) ?_
    rintro H2 ⟨t2, f3, z3⟩
    exact xjT_out (fun _ hx => by cases hx) ⟨rfl, t2, f3, z3⟩
  · have b0 := prs_b f 0 o [] e q0 he hp0 (Or.inr (Or.inr (Or.inr rfl)))
    refine xMet.of (lv := [some (.ref 0), some (.int (nI o)), none]) rfl rfl (Nat.le_of_ble_eq_true rfl) ?_
    refine xj_aload_n dX0_all_0 rfl rfl ?_
    refine xj_iload_n dX0_all_1 rfl ?_
    refine xj_dV dX0_all_2 q1036 kV_X0_oneOf (i f (Nat.le_refl _) o e G q0 ho he hv0 hp0) hO rfl rfl rfl rfl (Nat.le_of_ble_eq_true rfl) (xR_ok (by omega) (by decide)) (by omega) (by omega) ?_
    rintro _ H0 ⟨a0, rfl, hc0, f0, z0⟩
    refine xj_astn2 dX0_all_5 rfl rfl ?_
    refine xj_wk (by omega : (tp.length - q0.2 + 1) ≤ _) (by omega : (3 * (tp.length - q0.2 + 1)) ≤ _) ?_
    have lp : ∀ (K : Nat) (fk : Nat) (acc : List Int32) (e1 : Nat) (H : xH) (a : Nat), fk < K → (fk ≤ f) → (e1 ≤ tp.length) → (tpV d r tp LT e1 H) → (gfa [0] G H) → (cnd H acc.length a acc) → (prs tp fk 2 o acc e1 = some (.inl p)) → xJ E (yX0_all, cX0_all, 3, (some (FieldType.object "CoarserOrders$Cond")), []) (xR (10 + (f + 1)) (tp.length - e + 1) (3 * (tp.length - e + 1))) (pPn d r p G) (tp.length - e1 + 1) (3 * (tp.length - e1 + 1)) 6 [some (.ref 0), some (.int (nI o)), some (.ref a)] [] H := by
      intro K
      induction K with
      | zero => intro fk acc e1 H a h; exact absurd h (Nat.not_lt_zero _)
      | succ K ih_lp =>
        intro fk acc e1 H a hK hfk he1 hv1 hfr hcd hpr
        obtain ⟨hO1, -, h191, -, hN1, fv1, hF1⟩ := id hv1
        have hl1 : 0 < H.length := (List.getElem?_eq_some_iff.mp hO1).1
        have hnb1 := nxT_b he1
        have hnf1 := nxF_b he1
        obtain ⟨fk, rfl⟩ : ∃ j, fk = j + 1 := (by cases fk with | zero => cases hpr | succ j => exact ⟨j, rfl⟩)
        cases hw8 : isW tp e1 8 with
        | true =>
          have hwl : nxT tp e1 = nxF tp e1 + 3 := isW_len he1 hw8
          rcases prs_2t hpr hw8 with ⟨p1, hp1, h⟩ | ⟨q1, hp1, hp2⟩
          · cases h
            refine xj_aload_n dX0_all_6 rfl rfl ?_
            refine xj_ldcSw (u := 8) dX0_all_7 (List.mem_of_getElem? (i := 8) rfl) ?_
            refine xj_cV dX0_all_10 q1041 kV_X0_goesOn (A_goesOnWY (u := 8) hO1 hd17 h191 hLT he1 (by decide) hw8) hO1 rfl rfl rfl rfl (Nat.le_of_ble_eq_true rfl) (xR_ok (by omega) (by decide)) (Nat.le_of_ble_eq_true rfl) (Nat.le_of_ble_eq_true rfl) ?_
            refine xj_if_eq (tgt := 33) dX0_all_13 rfl (fun c13 => absurd c13 (by decide)) (fun c13 => ?_)
            refine xj_new (fs := [.null, .null]) dX0_all_16 K18 q1168 q1169 q181 rfl (by omega) (by omega) ?_
            rw [gtE_len]
            obtain ⟨l2, f2, z2, c2⟩ := nx_facts (G := H) (x := cO 18 [.null, .null]) (d := d) (tp := tp) (e := nxT tp e1) hO1
            obtain ⟨H1, hH1⟩ : ∃ H1, H1 = gtE H d tp (nxT tp e1) ++ [cO 18 [.null, .null]] := ⟨_, rfl⟩
            rw [← hH1] at l2 f2 z2 c2 ⊢
            have hv2 := hv1.mv f2 z2
            refine xj_dup dX0_all_19 rfl ?_
            refine xj_aload_n dX0_all_20 rfl rfl ?_
            refine xj_aload_n dX0_all_21 rfl rfl ?_
            refine xj_iload_n dX0_all_22 rfl ?_
            refine xj_tV dX0_all_23 q1036 kV_X0_oneOf (iN fk (by omega) o (nxT tp e1) H1 p ho hnb1.2 hv2 hp1) z2 rfl rfl rfl rfl (Nat.le_of_ble_eq_true rfl) (xR_ok (by omega) (by decide)) (by omega) (by omega) ?_
            rintro H2 ⟨t2, f3, z3⟩
            exact xjT_out (fun _ hx => by cases hx) ⟨rfl, t2, ((hfr.trans f2).mono (by decide)).trans f3, z3⟩
          · have b1 := prs_b fk 0 o [] (nxT tp e1) q1 hnb1.2 hp1 (Or.inr (Or.inr (Or.inr rfl)))
            refine xj_aload_n dX0_all_6 rfl rfl ?_
            refine xj_ldcSw (u := 8) dX0_all_7 (List.mem_of_getElem? (i := 8) rfl) ?_
            refine xj_cV dX0_all_10 q1041 kV_X0_goesOn (A_goesOnWY (u := 8) hO1 hd17 h191 hLT he1 (by decide) hw8) hO1 rfl rfl rfl rfl (Nat.le_of_ble_eq_true rfl) (xR_ok (by omega) (by decide)) (Nat.le_of_ble_eq_true rfl) (Nat.le_of_ble_eq_true rfl) ?_
            refine xj_if_eq (tgt := 33) dX0_all_13 rfl (fun c13 => absurd c13 (by decide)) (fun c13 => ?_)
            refine xj_new (fs := [.null, .null]) dX0_all_16 K18 q1168 q1169 q181 rfl (by omega) (by omega) ?_
            rw [gtE_len]
            obtain ⟨l2, f2, z2, c2⟩ := nx_facts (G := H) (x := cO 18 [.null, .null]) (d := d) (tp := tp) (e := nxT tp e1) hO1
            obtain ⟨H1, hH1⟩ : ∃ H1, H1 = gtE H d tp (nxT tp e1) ++ [cO 18 [.null, .null]] := ⟨_, rfl⟩
            rw [← hH1] at l2 f2 z2 c2 ⊢
            have hv2 := hv1.mv f2 z2
            refine xj_dup dX0_all_19 rfl ?_
            refine xj_aload_n dX0_all_20 rfl rfl ?_
            refine xj_aload_n dX0_all_21 rfl rfl ?_
            refine xj_iload_n dX0_all_22 rfl ?_
            refine xj_dV dX0_all_23 q1036 kV_X0_oneOf (i fk (by omega) o (nxT tp e1) H1 q1 ho hnb1.2 hv2 hp1) z2 rfl rfl rfl rfl (Nat.le_of_ble_eq_true rfl) (xR_ok (by omega) (by decide)) (by omega) (by omega) ?_
            rintro _ H2 ⟨a2, rfl, hc2, f3, z3⟩
            have k2 : H2[H.length]? = some (cO 18 [.null, .null]) := (f3.2 H.length (by omega) (n0 (by omega))).trans c2
            refine xj_cI dX0_all_26 q1170 kI_X18_init (A_init18 k2) rfl rfl (Nat.le_of_ble_eq_true rfl) (xR_ok (by omega) (by decide)) (Nat.le_of_ble_eq_true rfl) (Nat.le_of_ble_eq_true rfl) ?_
            refine xj_astn2 dX0_all_29 rfl rfl ?_
            have hcA : cnd (H2.set H.length (cO 18 [.ref a, .ref a2])) (acc ++ q1.1 ++ [-10]).length H.length (acc ++ q1.1 ++ [-10]) := by
              rw [List.length_append, List.length_append]
              exact Or.inr (Or.inr (Or.inl ⟨a, a2, acc, q1.1, gset_self k2, (((hcd.gfa f2 hO1).gfa f3 z2).put k2 cdC_18).up (by omega), (hc2.put k2 cdC_18).up (by omega), rfl⟩))
            have z4 : (H2.set H.length (cO 18 [.ref a, .ref a2]))[0]? = some (cO 0 (cFs (dT d (nxF tp q1.2) (nxT tp q1.2)))) := by rw [gset (by omega)]; exact z3
            have f4 : gfa [0] H (H2.set H.length (cO 18 [.ref a, .ref a2])) := (f2.trans f3).new (Nat.le_refl _)
            refine xj_goto (tgt := 6) dX0_all_30 rfl ?_
            exact xj_wk (by omega) (by omega) (ih_lp fk _ q1.2 _ _ (by omega) (by omega) b1.2.1 (hv1.mv f4 z4) (hfr.trans f4) hcA hp2)
        | false =>
          have h := prs_2f hpr hw8
          cases h
    exact lp (f + 1) f q0.1 q0.2 H0 a0 (Nat.lt_succ_self _) (Nat.le_refl _) b0.2.1 (hv0.mv f0 z0) f0 hc0 hp2
theorem A_condY {f : Nat} {LT : List Int32} {tp : List Nat} {r : Nat → Value} (i : ∀ f', f' ≤ f → (pYs E d r tp LT yX0_all cX0_all 3 (some (FieldType.object "CoarserOrders$Cond")) 1 f')) : (pYs E d r tp LT yX0_cond cX0_cond 3 (some (FieldType.object "CoarserOrders$Cond")) 3 (f + 1)) := by
  intro o e G q ho he hv0 hp
  obtain ⟨hO, hd17, h19, hLT, hN, fv, hF⟩ := id hv0
  have hl0 : 0 < G.length := (List.getElem?_eq_some_iff.mp hO).1
  have hnb := nxT_b he
  have hnf := nxF_b he
  have htp := hLT.2.1
  have hl200 := hLT.1
  rcases prs_3 hp with ⟨p, -, h⟩ | ⟨q0, hp0, hp2⟩
  · cases h
  · have b0 := prs_b f 1 o [] e q0 he hp0 (Or.inr (Or.inr (Or.inr rfl)))
    have b2 := prs_b f 4 o _ q0.2 q b0.2.1 hp2 (by simp)
    refine xMet.of (lv := [some (.ref 0), some (.int (nI o)), none]) rfl rfl (Nat.le_of_ble_eq_true rfl) ?_
    refine xj_aload_n dX0_cond_0 rfl rfl ?_
    refine xj_iload_n dX0_cond_1 rfl ?_
    refine xj_dV dX0_cond_2 q1032 kV_X0_all (i f (Nat.le_refl _) o e G q0 ho he hv0 hp0) hO rfl rfl rfl rfl (Nat.le_of_ble_eq_true rfl) (xR_ok (by omega) (by decide)) (by omega) (by omega) ?_
    rintro _ H0 ⟨a0, rfl, hc0, f0, z0⟩
    refine xj_astn2 dX0_cond_5 rfl rfl ?_
    refine xj_wk (by omega : (q.2 - q0.2) ≤ _) (by omega : (3 * (q.2 - q0.2)) ≤ _) ?_
    have lp : ∀ (K : Nat) (fk : Nat) (acc : List Int32) (e1 : Nat) (H : xH) (a : Nat), fk < K → (fk ≤ f) → (e1 ≤ tp.length) → (e1 ≤ q.2) → (tpV d r tp LT e1 H) → (gfa [0] G H) → (cnd H acc.length a acc) → (prs tp fk 4 o acc e1 = some (.inr q)) → xJ E (yX0_cond, cX0_cond, 3, (some (FieldType.object "CoarserOrders$Cond")), []) (xR (10 + (f + 1)) (q.2 - e) (3 * (q.2 - e))) (pPy d tp q G) (q.2 - e1) (3 * (q.2 - e1)) 6 [some (.ref 0), some (.int (nI o)), some (.ref a)] [] H := by
      intro K
      induction K with
      | zero => intro fk acc e1 H a h; exact absurd h (Nat.not_lt_zero _)
      | succ K ih_lp =>
        intro fk acc e1 H a hK hfk he1 hle hv1 hfr hcd hpr
        obtain ⟨hO1, -, h191, -, hN1, fv1, hF1⟩ := id hv1
        have hl1 : 0 < H.length := (List.getElem?_eq_some_iff.mp hO1).1
        have hnb1 := nxT_b he1
        have hnf1 := nxF_b he1
        obtain ⟨fk, rfl⟩ : ∃ j, fk = j + 1 := (by cases fk with | zero => cases hpr | succ j => exact ⟨j, rfl⟩)
        cases hw8 : isW tp e1 9 with
        | true =>
          have hwl : nxT tp e1 = nxF tp e1 + 2 := isW_len he1 hw8
          rcases prs_4t hpr hw8 with ⟨p, -, h⟩ | ⟨q1, hp1, hp2⟩
          · cases h
          · have b1 := prs_b fk 1 o [] (nxT tp e1) q1 hnb1.2 hp1 (Or.inr (Or.inr (Or.inr rfl)))
            have b2 := prs_b fk 4 o _ q1.2 q b1.2.1 hp2 (by simp)
            refine xj_aload_n dX0_cond_6 rfl rfl ?_
            refine xj_ldcSw (u := 9) dX0_cond_7 (List.mem_of_getElem? (i := 9) rfl) ?_
            refine xj_cV dX0_cond_10 q1041 kV_X0_goesOn (A_goesOnWY (u := 9) hO1 hd17 h191 hLT he1 (by decide) hw8) hO1 rfl rfl rfl rfl (Nat.le_of_ble_eq_true rfl) (xR_ok (by omega) (by decide)) (Nat.le_of_ble_eq_true rfl) (Nat.le_of_ble_eq_true rfl) ?_
            refine xj_if_eq (tgt := 33) dX0_cond_13 rfl (fun c13 => absurd c13 (by decide)) (fun c13 => ?_)
            refine xj_new (fs := [.null, .null]) dX0_cond_16 K19 q1186 q1187 q182 rfl (by omega) (by omega) ?_
            rw [gtE_len]
            obtain ⟨l2, f2, z2, c2⟩ := nx_facts (G := H) (x := cO 19 [.null, .null]) (d := d) (tp := tp) (e := nxT tp e1) hO1
            obtain ⟨H1, hH1⟩ : ∃ H1, H1 = gtE H d tp (nxT tp e1) ++ [cO 19 [.null, .null]] := ⟨_, rfl⟩
            rw [← hH1] at l2 f2 z2 c2 ⊢
            have hv2 := hv1.mv f2 z2
            refine xj_dup dX0_cond_19 rfl ?_
            refine xj_aload_n dX0_cond_20 rfl rfl ?_
            refine xj_aload_n dX0_cond_21 rfl rfl ?_
            refine xj_iload_n dX0_cond_22 rfl ?_
            refine xj_dV dX0_cond_23 q1032 kV_X0_all (i fk (by omega) o (nxT tp e1) H1 q1 ho hnb1.2 hv2 hp1) z2 rfl rfl rfl rfl (Nat.le_of_ble_eq_true rfl) (xR_ok (by omega) (by decide)) (by omega) (by omega) ?_
            rintro _ H2 ⟨a2, rfl, hc2, f3, z3⟩
            have k2 : H2[H.length]? = some (cO 19 [.null, .null]) := (f3.2 H.length (by omega) (n0 (by omega))).trans c2
            refine xj_cI dX0_cond_26 q1188 kI_X19_init (A_someInit k2) rfl rfl (Nat.le_of_ble_eq_true rfl) (xR_ok (by omega) (by decide)) (Nat.le_of_ble_eq_true rfl) (Nat.le_of_ble_eq_true rfl) ?_
            refine xj_astn2 dX0_cond_29 rfl rfl ?_
            have hcA : cnd (H2.set H.length (cO 19 [.ref a, .ref a2])) (acc ++ q1.1 ++ [-11]).length H.length (acc ++ q1.1 ++ [-11]) := by
              rw [List.length_append, List.length_append]
              exact Or.inr (Or.inr (Or.inr ⟨a, a2, acc, q1.1, gset_self k2, (((hcd.gfa f2 hO1).gfa f3 z2).put k2 cdC_19).up (by omega), (hc2.put k2 cdC_19).up (by omega), rfl⟩))
            have z4 : (H2.set H.length (cO 19 [.ref a, .ref a2]))[0]? = some (cO 0 (cFs (dT d (nxF tp q1.2) (nxT tp q1.2)))) := by rw [gset (by omega)]; exact z3
            have f4 : gfa [0] H (H2.set H.length (cO 19 [.ref a, .ref a2])) := (f2.trans f3).new (Nat.le_refl _)
            refine xj_goto (tgt := 6) dX0_cond_30 rfl ?_
            exact xj_wk (by omega) (by omega) (ih_lp fk _ q1.2 _ _ (by omega) (by omega) b1.2.1 b2.1 (hv1.mv f4 z4) (hfr.trans f4) hcA hp2)
        | false =>
          have hqe : q = (acc, e1) := Sum.inr.inj (prs_4f hpr hw8)
          refine xj_aload_n dX0_cond_6 rfl rfl ?_
          refine xj_ldcSw (u := 9) dX0_cond_7 (List.mem_of_getElem? (i := 9) rfl) ?_
          refine xj_cV dX0_cond_10 q1041 kV_X0_goesOn (A_goesOnWN (u := 9) hO1 hd17 h191 hLT he1 (by decide) hw8) hO1 rfl rfl rfl rfl (Nat.le_of_ble_eq_true rfl) (xR_ok (by omega) (by decide)) (Nat.le_of_ble_eq_true rfl) (Nat.le_of_ble_eq_true rfl) ?_
          refine xj_if_eq (tgt := 33) dX0_cond_13 rfl (fun c13 => ?_) (fun c13 => absurd rfl c13)
          refine xj_aload_n dX0_cond_33 rfl rfl ?_
          exact xj_areturn dX0_cond_34 rfl (Or.inl ⟨_, rfl⟩) rfl ⟨_, rfl, by rw [hqe]; exact hcd, hfr, by rw [hqe]; exact hO1⟩
    exact lp (f + 1) f q0.1 q0.2 H0 a0 (Nat.lt_succ_self _) (Nat.le_refl _) b0.2.1 b2.1 (hv0.mv f0 z0) f0 hc0 hp2
theorem A_condN {f : Nat} {LT : List Int32} {tp : List Nat} {r : Nat → Value} (i : ∀ f', f' ≤ f → (pYs E d r tp LT yX0_all cX0_all 3 (some (FieldType.object "CoarserOrders$Cond")) 1 f')) (iN : ∀ f', f' ≤ f → (pNs E d r tp LT yX0_all cX0_all 3 (some (FieldType.object "CoarserOrders$Cond")) 1 f')) : (pNs E d r tp LT yX0_cond cX0_cond 3 (some (FieldType.object "CoarserOrders$Cond")) 3 (f + 1)) := by
  intro o e G p ho he hv0 hp
  obtain ⟨hO, hd17, h19, hLT, hN, fv, hF⟩ := id hv0
  have hl0 : 0 < G.length := (List.getElem?_eq_some_iff.mp hO).1
  have hnb := nxT_b he
  have hnf := nxF_b he
  have htp := hLT.2.1
  have hl200 := hLT.1
  rcases prs_3 hp with ⟨p1, hp0, h⟩ | ⟨q0, hp0, hp2⟩
  · cases h
    refine xMet.of (lv := [some (.ref 0), some (.int (nI o)), none]) rfl rfl (Nat.le_of_ble_eq_true rfl) ?_
    refine xj_aload_n dX0_cond_0 rfl rfl ?_
    refine xj_iload_n dX0_cond_1 rfl ?_
    refine xj_tV dX0_cond_2 q1032 kV_X0_all (iN f (Nat.le_refl _) o e G p ho he hv0 hp0) hO rfl rfl rfl rfl (Nat.le_of_ble_eq_true rfl) (xR_ok (by omega) (by decide)) (by omega) (by omega) ?_
    rintro H2 ⟨t2, f3, z3⟩
    exact xjT_out (fun _ hx => by cases hx) ⟨rfl, t2, f3, z3⟩
  · have b0 := prs_b f 1 o [] e q0 he hp0 (Or.inr (Or.inr (Or.inr rfl)))
    refine xMet.of (lv := [some (.ref 0), some (.int (nI o)), none]) rfl rfl (Nat.le_of_ble_eq_true rfl) ?_
    refine xj_aload_n dX0_cond_0 rfl rfl ?_
    refine xj_iload_n dX0_cond_1 rfl ?_
    refine xj_dV dX0_cond_2 q1032 kV_X0_all (i f (Nat.le_refl _) o e G q0 ho he hv0 hp0) hO rfl rfl rfl rfl (Nat.le_of_ble_eq_true rfl) (xR_ok (by omega) (by decide)) (by omega) (by omega) ?_
    rintro _ H0 ⟨a0, rfl, hc0, f0, z0⟩
    refine xj_astn2 dX0_cond_5 rfl rfl ?_
    refine xj_wk (by omega : (tp.length - q0.2 + 1) ≤ _) (by omega : (3 * (tp.length - q0.2 + 1)) ≤ _) ?_
    have lp : ∀ (K : Nat) (fk : Nat) (acc : List Int32) (e1 : Nat) (H : xH) (a : Nat), fk < K → (fk ≤ f) → (e1 ≤ tp.length) → (tpV d r tp LT e1 H) → (gfa [0] G H) → (cnd H acc.length a acc) → (prs tp fk 4 o acc e1 = some (.inl p)) → xJ E (yX0_cond, cX0_cond, 3, (some (FieldType.object "CoarserOrders$Cond")), []) (xR (10 + (f + 1)) (tp.length - e + 1) (3 * (tp.length - e + 1))) (pPn d r p G) (tp.length - e1 + 1) (3 * (tp.length - e1 + 1)) 6 [some (.ref 0), some (.int (nI o)), some (.ref a)] [] H := by
      intro K
      induction K with
      | zero => intro fk acc e1 H a h; exact absurd h (Nat.not_lt_zero _)
      | succ K ih_lp =>
        intro fk acc e1 H a hK hfk he1 hv1 hfr hcd hpr
        obtain ⟨hO1, -, h191, -, hN1, fv1, hF1⟩ := id hv1
        have hl1 : 0 < H.length := (List.getElem?_eq_some_iff.mp hO1).1
        have hnb1 := nxT_b he1
        have hnf1 := nxF_b he1
        obtain ⟨fk, rfl⟩ : ∃ j, fk = j + 1 := (by cases fk with | zero => cases hpr | succ j => exact ⟨j, rfl⟩)
        cases hw8 : isW tp e1 9 with
        | true =>
          have hwl : nxT tp e1 = nxF tp e1 + 2 := isW_len he1 hw8
          rcases prs_4t hpr hw8 with ⟨p1, hp1, h⟩ | ⟨q1, hp1, hp2⟩
          · cases h
            refine xj_aload_n dX0_cond_6 rfl rfl ?_
            refine xj_ldcSw (u := 9) dX0_cond_7 (List.mem_of_getElem? (i := 9) rfl) ?_
            refine xj_cV dX0_cond_10 q1041 kV_X0_goesOn (A_goesOnWY (u := 9) hO1 hd17 h191 hLT he1 (by decide) hw8) hO1 rfl rfl rfl rfl (Nat.le_of_ble_eq_true rfl) (xR_ok (by omega) (by decide)) (Nat.le_of_ble_eq_true rfl) (Nat.le_of_ble_eq_true rfl) ?_
            refine xj_if_eq (tgt := 33) dX0_cond_13 rfl (fun c13 => absurd c13 (by decide)) (fun c13 => ?_)
            refine xj_new (fs := [.null, .null]) dX0_cond_16 K19 q1186 q1187 q182 rfl (by omega) (by omega) ?_
            rw [gtE_len]
            obtain ⟨l2, f2, z2, c2⟩ := nx_facts (G := H) (x := cO 19 [.null, .null]) (d := d) (tp := tp) (e := nxT tp e1) hO1
            obtain ⟨H1, hH1⟩ : ∃ H1, H1 = gtE H d tp (nxT tp e1) ++ [cO 19 [.null, .null]] := ⟨_, rfl⟩
            rw [← hH1] at l2 f2 z2 c2 ⊢
            have hv2 := hv1.mv f2 z2
            refine xj_dup dX0_cond_19 rfl ?_
            refine xj_aload_n dX0_cond_20 rfl rfl ?_
            refine xj_aload_n dX0_cond_21 rfl rfl ?_
            refine xj_iload_n dX0_cond_22 rfl ?_
            refine xj_tV dX0_cond_23 q1032 kV_X0_all (iN fk (by omega) o (nxT tp e1) H1 p ho hnb1.2 hv2 hp1) z2 rfl rfl rfl rfl (Nat.le_of_ble_eq_true rfl) (xR_ok (by omega) (by decide)) (by omega) (by omega) ?_
            rintro H2 ⟨t2, f3, z3⟩
            exact xjT_out (fun _ hx => by cases hx) ⟨rfl, t2, ((hfr.trans f2).mono (by decide)).trans f3, z3⟩
          · have b1 := prs_b fk 1 o [] (nxT tp e1) q1 hnb1.2 hp1 (Or.inr (Or.inr (Or.inr rfl)))
            refine xj_aload_n dX0_cond_6 rfl rfl ?_
            refine xj_ldcSw (u := 9) dX0_cond_7 (List.mem_of_getElem? (i := 9) rfl) ?_
            refine xj_cV dX0_cond_10 q1041 kV_X0_goesOn (A_goesOnWY (u := 9) hO1 hd17 h191 hLT he1 (by decide) hw8) hO1 rfl rfl rfl rfl (Nat.le_of_ble_eq_true rfl) (xR_ok (by omega) (by decide)) (Nat.le_of_ble_eq_true rfl) (Nat.le_of_ble_eq_true rfl) ?_
            refine xj_if_eq (tgt := 33) dX0_cond_13 rfl (fun c13 => absurd c13 (by decide)) (fun c13 => ?_)
            refine xj_new (fs := [.null, .null]) dX0_cond_16 K19 q1186 q1187 q182 rfl (by omega) (by omega) ?_
            rw [gtE_len]
            obtain ⟨l2, f2, z2, c2⟩ := nx_facts (G := H) (x := cO 19 [.null, .null]) (d := d) (tp := tp) (e := nxT tp e1) hO1
            obtain ⟨H1, hH1⟩ : ∃ H1, H1 = gtE H d tp (nxT tp e1) ++ [cO 19 [.null, .null]] := ⟨_, rfl⟩
            rw [← hH1] at l2 f2 z2 c2 ⊢
            have hv2 := hv1.mv f2 z2
            refine xj_dup dX0_cond_19 rfl ?_
            refine xj_aload_n dX0_cond_20 rfl rfl ?_
            refine xj_aload_n dX0_cond_21 rfl rfl ?_
            refine xj_iload_n dX0_cond_22 rfl ?_
            refine xj_dV dX0_cond_23 q1032 kV_X0_all (i fk (by omega) o (nxT tp e1) H1 q1 ho hnb1.2 hv2 hp1) z2 rfl rfl rfl rfl (Nat.le_of_ble_eq_true rfl) (xR_ok (by omega) (by decide)) (by omega) (by omega) ?_
            rintro _ H2 ⟨a2, rfl, hc2, f3, z3⟩
            have k2 : H2[H.length]? = some (cO 19 [.null, .null]) := (f3.2 H.length (by omega) (n0 (by omega))).trans c2
            refine xj_cI dX0_cond_26 q1188 kI_X19_init (A_someInit k2) rfl rfl (Nat.le_of_ble_eq_true rfl) (xR_ok (by omega) (by decide)) (Nat.le_of_ble_eq_true rfl) (Nat.le_of_ble_eq_true rfl) ?_
            refine xj_astn2 dX0_cond_29 rfl rfl ?_
            have hcA : cnd (H2.set H.length (cO 19 [.ref a, .ref a2])) (acc ++ q1.1 ++ [-11]).length H.length (acc ++ q1.1 ++ [-11]) := by
              rw [List.length_append, List.length_append]
              exact Or.inr (Or.inr (Or.inr ⟨a, a2, acc, q1.1, gset_self k2, (((hcd.gfa f2 hO1).gfa f3 z2).put k2 cdC_19).up (by omega), (hc2.put k2 cdC_19).up (by omega), rfl⟩))
            have z4 : (H2.set H.length (cO 19 [.ref a, .ref a2]))[0]? = some (cO 0 (cFs (dT d (nxF tp q1.2) (nxT tp q1.2)))) := by rw [gset (by omega)]; exact z3
            have f4 : gfa [0] H (H2.set H.length (cO 19 [.ref a, .ref a2])) := (f2.trans f3).new (Nat.le_refl _)
            refine xj_goto (tgt := 6) dX0_cond_30 rfl ?_
            exact xj_wk (by omega) (by omega) (ih_lp fk _ q1.2 _ _ (by omega) (by omega) b1.2.1 (hv1.mv f4 z4) (hfr.trans f4) hcA hp2)
        | false =>
          have h := prs_4f hpr hw8
          cases h
    exact lp (f + 1) f q0.1 q0.2 H0 a0 (Nat.lt_succ_self _) (Nat.le_refl _) b0.2.1 (hv0.mv f0 z0) f0 hc0 hp2
theorem A_prs {LT : List Int32} {tp : List Nat} {r : Nat → Value} : ∀ f, (pYs E d r tp LT yX0_oneOf cX0_oneOf 4 (some (FieldType.object "CoarserOrders$Cond")) 0 f) ∧ (pYs E d r tp LT yX0_all cX0_all 3 (some (FieldType.object "CoarserOrders$Cond")) 1 f) ∧ (pYs E d r tp LT yX0_cond cX0_cond 3 (some (FieldType.object "CoarserOrders$Cond")) 3 f) ∧ (pNs E d r tp LT yX0_oneOf cX0_oneOf 4 (some (FieldType.object "CoarserOrders$Cond")) 0 f) ∧ (pNs E d r tp LT yX0_all cX0_all 3 (some (FieldType.object "CoarserOrders$Cond")) 1 f) ∧ (pNs E d r tp LT yX0_cond cX0_cond 3 (some (FieldType.object "CoarserOrders$Cond")) 3 f) := by
  intro f
  induction f using Nat.strongRecOn with
  | ind f ih =>
    cases f with
    | zero => exact ⟨fun _ _ _ _ _ _ _ h => (by cases h), fun _ _ _ _ _ _ _ h => (by cases h), fun _ _ _ _ _ _ _ h => (by cases h), fun _ _ _ _ _ _ _ h => (by cases h), fun _ _ _ _ _ _ _ h => (by cases h), fun _ _ _ _ _ _ _ h => (by cases h)⟩
    | succ f =>
      obtain ⟨y0, y1, y3, n0, n1, n3⟩ := ih f (Nat.lt_succ_self _)
      exact ⟨A_oneY y0 y3, A_allY (fun f' h => (ih f' (by omega)).1), A_condY (fun f' h => (ih f' (by omega)).2.1), A_oneN n0 n3 y3, A_allN (fun f' h => (ih f' (by omega)).1) (fun f' h => (ih f' (by omega)).2.2.2.1), A_condN (fun f' h => (ih f' (by omega)).2.1) (fun f' h => (ih f' (by omega)).2.2.2.2.1)⟩
end A54
