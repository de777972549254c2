/-! ===== the reference: stairs, on ===== -/
set_option maxRecDepth 100000
theorem kV_X7_isRight : xsV yX7_isRight cX7_isRight 4 (some FieldType.boolean) 2 := ⟨q2493, qs136, q161, q2494, by decide, by decide, by decide +kernel⟩
section M15
variable {E : xE} {G : xH} {c : Nat → Value} {n : Nat}
theorem M_prove {l0 : List (Int32 × Int32)} {x : Int32} {g : Nat} (hv : mV c n G) (ha : mA n G) (hf3 : c 3 = .long (lN g)) (hg : g < 2 ^ 57) (hs0 : mS c l0 G) : xMet E yX7_prove cX7_prove 4 (some FieldType.int) 4 0 0 [.ref 54, .int x] G (xre (fun v G' => v = some (.int (o_prove n g x)) ∧ ∃ L : List Int32, mSL L (s_prove n g x l0) ∧ G' = (G.set 74 (cI 0 L)).set 54 (cO 7 (mFs (cu c 36 (.int (nI (s_prove n g x l0).length))))))) := by
  obtain ⟨hO, hf0, h1n, hn6, hPw, hWy⟩ := id hv
  obtain ⟨hf36, L0, h74, hSL⟩ := id hs0
  obtain ⟨hL30, hl15, hLl⟩ := id hSL
  refine xMet.of (lv := [some (.ref 54), some (.int x), none, none]) rfl rfl (Nat.le_of_ble_eq_true rfl) ?_
  refine xj_aload_n dX7_prove_0 rfl rfl ?_
  refine xj_iload_n dX7_prove_1 rfl ?_
  refine xj_cV dX7_prove_2 q2096 kV_X7_isRow (M_isRow hv) hO rfl rfl rfl rfl (Nat.le_of_ble_eq_true rfl) ⟨(Nat.le_of_ble_eq_true rfl), (Nat.le_of_ble_eq_true rfl)⟩ (Nat.le_of_ble_eq_true rfl) (Nat.le_of_ble_eq_true rfl) ?_
  refine xj_if_ne (tgt := 10) dX7_prove_5 rfl (fun c5 => ?_) (fun c5 => ?_)
  · have hb1 := b1_nz c5
    obtain ⟨r1, hr1, rfl⟩ := rowB_t (by omega) h1n hb1
    have e1 := tn_nI (by omega) hr1
    refine xj_iload_n dX7_prove_10 rfl ?_
    refine xj_istn2 dX7_prove_11 rfl ?_
    refine xj_aload_n dX7_prove_12 rfl rfl ?_
    refine xj_ic0 dX7_prove_13 ?_
    refine xj_put dX7_prove_14 K7 36 (by decide) q1965 rfl rfl hO (Nat.le_of_ble_eq_true rfl) ?_
    refine xj_eq rfl rfl (show _ = (G.set 74 (cI 0 L0)).set 54 (cO 7 (mFs (cu c 36 (.int (nI ([] : List (Int32 × Int32)).length))))) by rw [gset_id h74]; rfl) ?_
    have hv1 := (hv.set (a := 74) (x := cI 0 L0) (by decide) (by decide) (by decide)).upd (i := 36) (v := .int (nI ([] : List (Int32 × Int32)).length)) (by decide)
    have ha1 : mA n ((G.set 74 (cI 0 L0)).set 54 (cO 7 (mFs (cu c 36 (.int (nI ([] : List (Int32 × Int32)).length)))))) := (ha.set (a := 74) (by decide) (by decide) (by decide)).set (by decide) (by decide) (by decide)
    refine xj_aload_n dX7_prove_17 rfl rfl ?_
    refine xj_iload_n dX7_prove_18 rfl ?_
    refine xj_ic1 dX7_prove_19 ?_
    refine xj_aload_n dX7_prove_20 rfl rfl ?_
    refine xj_get dX7_prove_21 K7 3 (by decide) q1932 hv1.1 (congrArg some hf3) ?_
    refine xj_cV dX7_prove_24 q2366 kV_X7_placeIn (M_placeIn (t := true) hv1 ha1 hr1 (Nat.lt_trans hg (by decide))) hv1.1 rfl rfl rfl rfl (Nat.le_of_ble_eq_true rfl) ⟨(Nat.le_of_ble_eq_true rfl), (Nat.le_of_ble_eq_true rfl)⟩ (Nat.le_of_ble_eq_true rfl) (Nat.le_of_ble_eq_true rfl) ?_
    refine xj_istn3 dX7_prove_27 rfl ?_
    have lp : ∀ (K : Nat) (q : Nat) (l : List (Int32 × Int32)) (L : List Int32), gmu n true q < K → (q ∈ rws n) → (l.length + gmu n true q ≤ 15) → (mSL L l) → (prv n g K q l = prv n g 16 r1 []) → xJ E (yX7_prove, cX7_prove, 4, (some FieldType.int), []) (xR 4 0 0) (xre (fun v G' => v = some (.int (o_prove n g (nI r1))) ∧ ∃ L : List Int32, mSL L (s_prove n g (nI r1) l0) ∧ G' = (G.set 74 (cI 0 L)).set 54 (cO 7 (mFs (cu c 36 (.int (nI (s_prove n g (nI r1) l0).length))))))) 0 0 28 [some (.ref 54), some (.int (nI r1)), some (.int (nI q)), some (.int (plI (pin n q true g (n - 1) 0)))] [] ((G.set 74 (cI 0 L)).set 54 (cO 7 (mFs (cu c 36 (.int (nI l.length)))))) := by
      intro K
      induction K with
      | zero => intro q l L h; exact absurd h (Nat.not_lt_zero _)
      | succ K ih_lp =>
        intro q l L hK hq hll hL hs
        have hv2 : mV (cu c 36 (.int (nI l.length))) n ((G.set 74 (cI 0 L)).set 54 (cO 7 (mFs (cu c 36 (.int (nI l.length)))))) := (hv.set (a := 74) (by decide) (by decide) (by decide)).upd (by decide)
        have ha2 : mA n ((G.set 74 (cI 0 L)).set 54 (cO 7 (mFs (cu c 36 (.int (nI l.length)))))) := (ha.set (a := 74) (by decide) (by decide) (by decide)).set (by decide) (by decide) (by decide)
        have hO2 := hv2.1
        have h742 : ((G.set 74 (cI 0 L)).set 54 (cO 7 (mFs (cu c 36 (.int (nI l.length))))))[74]? = some (cI 0 L) := by rw [gset (by decide)]; exact gset_self h74
        refine xj_iload_n dX7_prove_28 rfl ?_
        refine xj_if_lt (tgt := 94) dX7_prove_29 rfl (fun c29 => ?_) (fun c29 => ?_)
        · refine xj_aload_n dX7_prove_94 rfl rfl ?_
          refine xj_get dX7_prove_95 K7 36 (by decide) q1965 hO2 rfl ?_
          exact xj_ireturn dX7_prove_98 rfl rfl (by rw [prv_none (plI_neg (by omega) c29)] at hs; exact ⟨by unfold o_prove; rw [if_pos hb1, e1, hs], L, by unfold s_prove; rw [if_pos hb1, e1, ← hs]; exact hL, by unfold s_prove; rw [if_pos hb1, e1, ← hs]⟩)
        · obtain ⟨p, hp⟩ : ∃ p, pin n q true g (n - 1) 0 = some p := by
            cases h : pin n q true g (n - 1) 0 with
            | none => rw [h] at c29; exact absurd (by decide) c29
            | some p => exact ⟨p, rfl⟩
          obtain ⟨-, h2, h3, -⟩ := pin_some _ _ _ hp
          have hlt := gmu_step (by omega) hq (by omega) h3
          have hq2 := f_sw (by omega) hq (p := p) (by omega)
          have hL30 := hL.1
          rw [show plI (pin n q true g (n - 1) 0) = nI p by rw [hp]; rfl]
          rw [prv_some hp] at hs
          refine xj_aload_n dX7_prove_32 rfl rfl ?_
          refine xj_get dX7_prove_33 K7 35 (by decide) q1964 hO2 rfl ?_
          refine xj_ic2 dX7_prove_36 ?_
          refine xj_aload_n dX7_prove_37 rfl rfl ?_
          refine xj_get dX7_prove_38 K7 36 (by decide) q1965 hO2 rfl ?_
          refine xj_imul dX7_prove_41 ?_
          refine xj_ic1 dX7_prove_42 ?_
          refine xj_iadd dX7_prove_43 ?_
          refine xj_aload_n dX7_prove_44 rfl rfl ?_
          refine xj_iload_n dX7_prove_45 rfl ?_
          refine xj_iload_n dX7_prove_46 rfl ?_
          refine xj_cV dX7_prove_47 q2180 kV_X7_arcAt (M_arcAt hv2 ha2 hq (by omega)) hO2 rfl rfl rfl rfl (Nat.le_of_ble_eq_true rfl) ⟨(Nat.le_of_ble_eq_true rfl), (Nat.le_of_ble_eq_true rfl)⟩ (Nat.le_of_ble_eq_true rfl) (Nat.le_of_ble_eq_true rfl) ?_
          refine xj_iast dX7_prove_50 h742 (nI_2k l.length 1) (by omega) (by omega) ?_
          rw [gset_comm (i := 54) (j := 74) (by decide), gset_set]
          have hv3 : mV (cu c 36 (.int (nI l.length))) n ((G.set 74 (cI 0 (L.set (2 * l.length + 1) (nI (aa n q p))))).set 54 (cO 7 (mFs (cu c 36 (.int (nI l.length)))))) := (hv.set (a := 74) (by decide) (by decide) (by decide)).upd (by decide)
          have ha3 : mA n ((G.set 74 (cI 0 (L.set (2 * l.length + 1) (nI (aa n q p))))).set 54 (cO 7 (mFs (cu c 36 (.int (nI l.length)))))) := (ha.set (a := 74) (by decide) (by decide) (by decide)).set (by decide) (by decide) (by decide)
          have hO3 := hv3.1
          have h743 : ((G.set 74 (cI 0 (L.set (2 * l.length + 1) (nI (aa n q p))))).set 54 (cO 7 (mFs (cu c 36 (.int (nI l.length))))))[74]? = some (cI 0 (L.set (2 * l.length + 1) (nI (aa n q p)))) := by rw [gset (by decide)]; exact gset_self h74
          refine xj_aload_n dX7_prove_51 rfl rfl ?_
          refine xj_iload_n dX7_prove_52 rfl ?_
          refine xj_iload_n dX7_prove_53 rfl ?_
          refine xj_cV dX7_prove_54 q2172 kV_X7_swapAt (M_swapAt hv3 hq (by omega)) hO3 rfl rfl rfl rfl (Nat.le_of_ble_eq_true rfl) ⟨(Nat.le_of_ble_eq_true rfl), (Nat.le_of_ble_eq_true rfl)⟩ (Nat.le_of_ble_eq_true rfl) (Nat.le_of_ble_eq_true rfl) ?_
          refine xj_istn2 dX7_prove_57 rfl ?_
          refine xj_aload_n dX7_prove_58 rfl rfl ?_
          refine xj_get dX7_prove_59 K7 35 (by decide) q1964 hO3 rfl ?_
          refine xj_ic2 dX7_prove_62 ?_
          refine xj_aload_n dX7_prove_63 rfl rfl ?_
          refine xj_get dX7_prove_64 K7 36 (by decide) q1965 hO3 rfl ?_
          refine xj_imul dX7_prove_67 ?_
          refine xj_iload_n dX7_prove_68 rfl ?_
          refine xj_iast dX7_prove_69 h743 (show (2 : Int32) * nI l.length = nI (2 * l.length) from pk_mul 2 _) (by omega) (by rw [List.length_set]; omega) ?_
          rw [gset_comm (i := 54) (j := 74) (by decide), gset_set]
          have hv4 : mV (cu c 36 (.int (nI l.length))) n ((G.set 74 (cI 0 ((L.set (2 * l.length + 1) (nI (aa n q p))).set (2 * l.length) (nI (sw n q p))))).set 54 (cO 7 (mFs (cu c 36 (.int (nI l.length)))))) := (hv.set (a := 74) (by decide) (by decide) (by decide)).upd (by decide)
          have hO4 := hv4.1
          refine xj_aload_n dX7_prove_70 rfl rfl ?_
          refine xj_dup dX7_prove_71 rfl ?_
          refine xj_get dX7_prove_72 K7 36 (by decide) q1965 hO4 rfl ?_
          refine xj_ic1 dX7_prove_75 ?_
          refine xj_iadd dX7_prove_76 ?_
          refine xj_put dX7_prove_77 K7 36 (by decide) q1965 rfl rfl hO4 (Nat.le_of_ble_eq_true rfl) ?_
          rw [gset_set, nI_1]
          have hv5 := (hv.set (a := 74) (x := cI 0 ((L.set (2 * l.length + 1) (nI (aa n q p))).set (2 * l.length) (nI (sw n q p)))) (by decide) (by decide) (by decide)).upd (i := 36) (v := .int (nI (l.length + 1))) (by decide)
          have ha5 : mA n ((G.set 74 (cI 0 ((L.set (2 * l.length + 1) (nI (aa n q p))).set (2 * l.length) (nI (sw n q p))))).set 54 (cO 7 (mFs (cu c 36 (.int (nI (l.length + 1))))))) := (ha.set (a := 74) (by decide) (by decide) (by decide)).set (by decide) (by decide) (by decide)
          refine xj_eq rfl rfl (show _ = (G.set 74 (cI 0 ((L.set (2 * l.length + 1) (nI (aa n q p))).set (2 * l.length) (nI (sw n q p))))).set 54 (cO 7 (mFs (cu c 36 (.int (nI (l.length + 1)))))) from rfl) ?_
          refine xj_aload_n dX7_prove_80 rfl rfl ?_
          refine xj_iload_n dX7_prove_81 rfl ?_
          refine xj_ic1 dX7_prove_82 ?_
          refine xj_aload_n dX7_prove_83 rfl rfl ?_
          refine xj_get dX7_prove_84 K7 3 (by decide) q1932 hv5.1 (congrArg some hf3) ?_
          refine xj_cV dX7_prove_87 q2366 kV_X7_placeIn (M_placeIn (t := true) hv5 ha5 hq2 (Nat.lt_trans hg (by decide))) hv5.1 rfl rfl rfl rfl (Nat.le_of_ble_eq_true rfl) ⟨(Nat.le_of_ble_eq_true rfl), (Nat.le_of_ble_eq_true rfl)⟩ (Nat.le_of_ble_eq_true rfl) (Nat.le_of_ble_eq_true rfl) ?_
          refine xj_istn3 dX7_prove_90 rfl ?_
          refine xj_goto (tgt := 28) dX7_prove_91 rfl ?_
          rw [show nI (l.length + 1) = nI (l ++ [(nI (sw n q p), nI (aa n q p))]).length by rw [List.length_append]; rfl]
          exact ih_lp (sw n q p) _ _ (by omega) hq2 (by rw [List.length_append, List.length_singleton]; omega) (mSL_push hL (by omega)) hs
    exact lp 16 r1 [] L0 (gmu_lt (by omega) hr1) hr1 (by have := gmu_lt (t := true) (by omega : n < 7) hr1; rw [List.length_nil]; omega) (mSL_nil hSL) rfl
  · refine xj_icm1 dX7_prove_8 ?_
    exact xj_ireturn dX7_prove_9 rfl rfl ⟨by unfold o_prove; rw [b1_z c5]; rfl, L0, by unfold s_prove; rw [b1_z c5]; exact hSL, by unfold s_prove; rw [b1_z c5]; show G = (G.set 74 (cI 0 L0)).set 54 (cO 7 (mFs (cu c 36 (.int (nI l0.length))))); rw [gset_id h74, ← hf36]; exact (gset_id hO).symm⟩
theorem M_isRight {l0 : List (Int32 × Int32)} {r i g : Nat} (hv : mV c n G) (ha : mA n G) (hf3 : c 3 = .long (lN g)) (hg : g < 2 ^ 57) (hs0 : mS c l0 G) (hr : r ∈ rws n) (hi : i < l0.length) : xMet E yX7_isRight cX7_isRight 4 (some FieldType.boolean) 2 0 0 [.ref 54, .int (nI r), .int (nI i)] G (xrv (some (.int (b1 (rgB n g r (stAt l0 i) (n - 1) 0)))) G) := by
  obtain ⟨hO, hf0, h1n, hn6, hPw, hWy⟩ := id hv
  obtain ⟨hf36, L0, h74, hSL⟩ := id hs0
  obtain ⟨hL30, hl15, hLl⟩ := id hSL
  have hr31 := R31 (by omega) hr
  have hst := hLl i _ (stAt_some hi)
  have hna := na_lt n (by omega)
  refine xMet.of (lv := [some (.ref 54), some (.int (nI r)), some (.int (nI i)), none]) rfl rfl (Nat.le_of_ble_eq_true rfl) ?_
  refine xj_ic0 dX7_isRight_0 ?_
  refine xj_istn3 dX7_isRight_1 rfl ?_
  have lp : ∀ (K : Nat) (k : Nat) (p : Nat), k < K → (p + k = n - 1) → (rgB n g r (stAt l0 i) k p = rgB n g r (stAt l0 i) (n - 1) 0) → xJ E (yX7_isRight, cX7_isRight, 4, (some FieldType.boolean), []) (xR 2 0 0) (xrv (some (.int (b1 (rgB n g r (stAt l0 i) (n - 1) 0)))) G) 0 0 2 [some (.ref 54), some (.int (nI r)), some (.int (nI i)), some (.int (nI p))] [] G := by
    intro K
    induction K with
    | zero => intro k p h; exact absurd h (Nat.not_lt_zero _)
    | succ K ih_lp =>
      intro k p hK hk hs
      refine xj_iload_n dX7_isRight_2 rfl ?_
      refine xj_aload_n dX7_isRight_3 rfl rfl ?_
      refine xj_get dX7_isRight_4 K7 0 (by decide) q1929 hO (congrArg some hf0) ?_
      refine xj_ic1 dX7_isRight_7 ?_
      refine xj_isub dX7_isRight_8 ?_
      refine xj_top (nI_sub1 h1n) ?_
      refine xj_icmp_ge (tgt := 81) dX7_isRight_9 rfl (fun c9 => ?_) (fun c9 => ?_)
      · refine xj_ic0 dX7_isRight_81 ?_
        exact xj_ireturn dX7_isRight_82 rfl (by rfl) (xrv_i (by have hk0 : k = 0 := (by have := Nat.le_of_not_lt fun h => absurd c9 (nI_ge h (by omega)); omega); subst hk0; rw [← hs]; rfl))
      · have hpn : p < n - 1 := Nat.lt_of_not_le fun h => c9 (nI_le h (by omega))
        obtain ⟨k, rfl⟩ : ∃ k0, k = k0 + 1 := ⟨k - 1, by omega⟩
        have hs : (if isD n r p ∧ nI (sw n r p) = (stAt l0 i).1 ∧ nI (aa n r p) = (stAt l0 i).2 ∧ g.testBit (aa n r p) = true then true else rgB n g r (stAt l0 i) k (p + 1)) = rgB n g r (stAt l0 i) (n - 1) 0 := hs
        have haa := (f_aa n (by omega) r hr p hpn).1
        refine xj_aload_n dX7_isRight_12 rfl rfl ?_
        refine xj_iload_n dX7_isRight_13 rfl ?_
        refine xj_iload_n dX7_isRight_14 rfl ?_
        refine xj_cV dX7_isRight_15 q2144 kV_X7_isDrop (M_isDrop hv hr31 (by omega)) hO rfl rfl rfl rfl (Nat.le_of_ble_eq_true rfl) ⟨(Nat.le_of_ble_eq_true rfl), (Nat.le_of_ble_eq_true rfl)⟩ (Nat.le_of_ble_eq_true rfl) (Nat.le_of_ble_eq_true rfl) ?_
        refine xj_if_eq (tgt := 75) dX7_isRight_18 rfl (fun c18 => ?_) (fun c18 => ?_)
        · rw [if_neg (by rintro ⟨q1, q2, q3, q4⟩; first | exact absurd (q1 : isD n r p = true) (by have := b1_z c18; intro q; exact absurd (this.symm.trans q) (by decide)) | exact c35 q2 | exact c54 q3 | (rw [q4] at c70; exact absurd c70 (by decide)))] at hs
          refine xj_iinc3 (cst := 1) dX7_isRight_75 rfl rfl ?_
          rw [nI_1]
          refine xj_goto (tgt := 2) dX7_isRight_78 rfl ?_
          exact ih_lp k (p + 1) (by omega) (by omega) hs
        · refine xj_aload_n dX7_isRight_21 rfl rfl ?_
          refine xj_iload_n dX7_isRight_22 rfl ?_
          refine xj_iload_n dX7_isRight_23 rfl ?_
          refine xj_cV dX7_isRight_24 q2172 kV_X7_swapAt (M_swapAt hv hr hpn) hO rfl rfl rfl rfl (Nat.le_of_ble_eq_true rfl) ⟨(Nat.le_of_ble_eq_true rfl), (Nat.le_of_ble_eq_true rfl)⟩ (Nat.le_of_ble_eq_true rfl) (Nat.le_of_ble_eq_true rfl) ?_
          refine xj_aload_n dX7_isRight_27 rfl rfl ?_
          refine xj_get dX7_isRight_28 K7 35 (by decide) q1964 hO rfl ?_
          refine xj_ic2 dX7_isRight_31 ?_
          refine xj_iload_n dX7_isRight_32 rfl ?_
          refine xj_imul dX7_isRight_33 ?_
          refine xj_iald dX7_isRight_34 h74 (show (2 : Int32) * nI i = nI (2 * i) from pk_mul 2 _) (by omega) hst.1 ?_
          refine xj_icmp_ne (tgt := 75) dX7_isRight_35 rfl (fun c35 => ?_) (fun c35 => ?_)
          · rw [if_neg (by rintro ⟨q1, q2, q3, q4⟩; first | exact absurd (q1 : isD n r p = true) (by have := b1_z c18; intro q; exact absurd (this.symm.trans q) (by decide)) | exact c35 q2 | exact c54 q3 | (rw [q4] at c70; exact absurd c70 (by decide)))] at hs
            refine xj_iinc3 (cst := 1) dX7_isRight_75 rfl rfl ?_
            rw [nI_1]
            refine xj_goto (tgt := 2) dX7_isRight_78 rfl ?_
            exact ih_lp k (p + 1) (by omega) (by omega) hs
          · refine xj_aload_n dX7_isRight_38 rfl rfl ?_
            refine xj_iload_n dX7_isRight_39 rfl ?_
            refine xj_iload_n dX7_isRight_40 rfl ?_
            refine xj_cV dX7_isRight_41 q2180 kV_X7_arcAt (M_arcAt hv ha hr hpn) hO rfl rfl rfl rfl (Nat.le_of_ble_eq_true rfl) ⟨(Nat.le_of_ble_eq_true rfl), (Nat.le_of_ble_eq_true rfl)⟩ (Nat.le_of_ble_eq_true rfl) (Nat.le_of_ble_eq_true rfl) ?_
            refine xj_aload_n dX7_isRight_44 rfl rfl ?_
            refine xj_get dX7_isRight_45 K7 35 (by decide) q1964 hO rfl ?_
            refine xj_ic2 dX7_isRight_48 ?_
            refine xj_iload_n dX7_isRight_49 rfl ?_
            refine xj_imul dX7_isRight_50 ?_
            refine xj_ic1 dX7_isRight_51 ?_
            refine xj_iadd dX7_isRight_52 ?_
            refine xj_iald dX7_isRight_53 h74 (nI_2k i 1) (by omega) hst.2 ?_
            refine xj_icmp_ne (tgt := 75) dX7_isRight_54 rfl (fun c54 => ?_) (fun c54 => ?_)
            · rw [if_neg (by rintro ⟨q1, q2, q3, q4⟩; first | exact absurd (q1 : isD n r p = true) (by have := b1_z c18; intro q; exact absurd (this.symm.trans q) (by decide)) | exact c35 q2 | exact c54 q3 | (rw [q4] at c70; exact absurd c70 (by decide)))] at hs
              refine xj_iinc3 (cst := 1) dX7_isRight_75 rfl rfl ?_
              rw [nI_1]
              refine xj_goto (tgt := 2) dX7_isRight_78 rfl ?_
              exact ih_lp k (p + 1) (by omega) (by omega) hs
            · refine xj_aload_n dX7_isRight_57 rfl rfl ?_
              refine xj_get dX7_isRight_58 K7 3 (by decide) q1932 hO (congrArg some hf3) ?_
              refine xj_aload_n dX7_isRight_61 rfl rfl ?_
              refine xj_iload_n dX7_isRight_62 rfl ?_
              refine xj_iload_n dX7_isRight_63 rfl ?_
              refine xj_cV dX7_isRight_64 q2180 kV_X7_arcAt (M_arcAt hv ha hr hpn) hO rfl rfl rfl rfl (Nat.le_of_ble_eq_true rfl) ⟨(Nat.le_of_ble_eq_true rfl), (Nat.le_of_ble_eq_true rfl)⟩ (Nat.le_of_ble_eq_true rfl) (Nat.le_of_ble_eq_true rfl) ?_
              refine xj_cS dX7_isRight_67 q1926 kS_X7_has (M_has (Nat.lt_trans hg (by decide)) (by omega)) rfl rfl (Nat.le_of_ble_eq_true rfl) ⟨(Nat.le_of_ble_eq_true rfl), (Nat.le_of_ble_eq_true rfl)⟩ (Nat.le_of_ble_eq_true rfl) (Nat.le_of_ble_eq_true rfl) ?_
              refine xj_if_eq (tgt := 75) dX7_isRight_70 rfl (fun c70 => ?_) (fun c70 => ?_)
              · rw [if_neg (by rintro ⟨q1, q2, q3, q4⟩; first | exact absurd (q1 : isD n r p = true) (by have := b1_z c18; intro q; exact absurd (this.symm.trans q) (by decide)) | exact c35 q2 | exact c54 q3 | (rw [q4] at c70; exact absurd c70 (by decide)))] at hs
                refine xj_iinc3 (cst := 1) dX7_isRight_75 rfl rfl ?_
                rw [nI_1]
                refine xj_goto (tgt := 2) dX7_isRight_78 rfl ?_
                exact ih_lp k (p + 1) (by omega) (by omega) hs
              · refine xj_ic1 dX7_isRight_73 ?_
                exact xj_ireturn dX7_isRight_74 rfl (by rfl) (xrv_i (by rw [if_pos ⟨b1_nz c18, by first | exact c35 | exact Decidable.not_not.mp c35, by first | exact c54 | exact Decidable.not_not.mp c54, b1_nz c70⟩] at hs; rw [← hs]; rfl))
  exact lp n (n - 1) 0 (by omega) (by omega) rfl
theorem M_judge {l0 : List (Int32 × Int32)} {x : Int32} {g : Nat} (hv : mV c n G) (ha : mA n G) (hf3 : c 3 = .long (lN g)) (hg : g < 2 ^ 57) (hs0 : mS c l0 G) : xMet E yX7_judge cX7_judge 4 (some FieldType.int) 3 0 0 [.ref 54, .int x] G (xrv (some (.int (o_judge n g l0 x))) G) := by
  obtain ⟨hO, hf0, h1n, hn6, hPw, hWy⟩ := id hv
  obtain ⟨hf36, L0, h74, hSL⟩ := id hs0
  obtain ⟨hL30, hl15, hLl⟩ := id hSL
  refine xMet.of (lv := [some (.ref 54), some (.int x), none, none]) rfl rfl (Nat.le_of_ble_eq_true rfl) ?_
  refine xj_aload_n dX7_judge_0 rfl rfl ?_
  refine xj_iload_n dX7_judge_1 rfl ?_
  refine xj_cV dX7_judge_2 q2096 kV_X7_isRow (M_isRow hv) hO rfl rfl rfl rfl (Nat.le_of_ble_eq_true rfl) ⟨(Nat.le_of_ble_eq_true rfl), (Nat.le_of_ble_eq_true rfl)⟩ (Nat.le_of_ble_eq_true rfl) (Nat.le_of_ble_eq_true rfl) ?_
  refine xj_if_ne (tgt := 10) dX7_judge_5 rfl (fun c5 => ?_) (fun c5 => ?_)
  · have hb1 := b1_nz c5
    obtain ⟨r1, hr1, rfl⟩ := rowB_t (by omega) h1n hb1
    have e1 := tn_nI (by omega) hr1
    refine xj_iload_n dX7_judge_10 rfl ?_
    refine xj_istn2 dX7_judge_11 rfl ?_
    refine xj_ic0 dX7_judge_12 ?_
    refine xj_istn3 dX7_judge_13 rfl ?_
    have lp : ∀ (K : Nat) (k : Nat) (i : Nat) (r : Nat), k < K → (i + k = l0.length) → (r ∈ rws n) → (jdg n g l0 k i r = o_judge n g l0 (nI r1)) → xJ E (yX7_judge, cX7_judge, 4, (some FieldType.int), []) (xR 3 0 0) (xrv (some (.int (o_judge n g l0 (nI r1)))) G) 0 0 14 [some (.ref 54), some (.int (nI r1)), some (.int (nI r)), some (.int (nI i))] [] G := by
      intro K
      induction K with
      | zero => intro k i r h; exact absurd h (Nat.not_lt_zero _)
      | succ K ih_lp =>
        intro k i r hK hk hr hs
        refine xj_iload_n dX7_judge_14 rfl ?_
        refine xj_aload_n dX7_judge_15 rfl rfl ?_
        refine xj_get dX7_judge_16 K7 36 (by decide) q1965 hO (congrArg some hf36) ?_
        refine xj_icmp_ge (tgt := 50) dX7_judge_19 rfl (fun c19 => ?_) (fun c19 => ?_)
        · refine xj_ic0 dX7_judge_50 ?_
          exact xj_ireturn dX7_judge_51 rfl rfl (xrv_i (by have hk0 : k = 0 := (by have := Nat.le_of_not_lt fun h => absurd c19 (nI_ge h (by omega)); omega); subst hk0; exact hs))
        · have hil : i < l0.length := Nat.lt_of_not_le fun h => c19 (nI_le h (by omega))
          obtain ⟨k, rfl⟩ : ∃ k0, k = k0 + 1 := ⟨k - 1, by omega⟩
          have hs : (if rgB n g r (stAt l0 i) (n - 1) 0 then jdg n g l0 k (i + 1) (tn (stAt l0 i).1) else nI (i + 1)) = o_judge n g l0 (nI r1) := hs
          have hst := hLl i _ (stAt_some hil)
          refine xj_aload_n dX7_judge_22 rfl rfl ?_
          refine xj_iload_n dX7_judge_23 rfl ?_
          refine xj_iload_n dX7_judge_24 rfl ?_
          refine xj_cV dX7_judge_25 q2491 kV_X7_isRight (M_isRight hv ha hf3 hg hs0 hr hil) hO rfl rfl rfl rfl (Nat.le_of_ble_eq_true rfl) ⟨(Nat.le_of_ble_eq_true rfl), (Nat.le_of_ble_eq_true rfl)⟩ (Nat.le_of_ble_eq_true rfl) (Nat.le_of_ble_eq_true rfl) ?_
          refine xj_if_ne (tgt := 35) dX7_judge_28 rfl (fun c28 => ?_) (fun c28 => ?_)
          · have hb := b1_nz c28
            rw [if_pos hb] at hs
            obtain ⟨q, hq, hq2⟩ := rgB_t _ _ hb
            have hsm := f_sw (by omega) hr (p := q) (by omega)
            refine xj_aload_n dX7_judge_35 rfl rfl ?_
            refine xj_get dX7_judge_36 K7 35 (by decide) q1964 hO rfl ?_
            refine xj_ic2 dX7_judge_39 ?_
            refine xj_iload_n dX7_judge_40 rfl ?_
            refine xj_imul dX7_judge_41 ?_
            refine xj_iald dX7_judge_42 h74 (show (2 : Int32) * nI i = nI (2 * i) from pk_mul 2 _) (by omega) hst.1 ?_
            rw [← hq2]
            rw [← hq2, tn_nI (by omega) hsm] at hs
            refine xj_istn2 dX7_judge_43 rfl ?_
            refine xj_iinc3 (cst := 1) dX7_judge_44 rfl rfl ?_
            rw [nI_1]
            refine xj_goto (tgt := 14) dX7_judge_47 rfl ?_
            exact ih_lp k (i + 1) _ (by omega) (by omega) hsm hs
          · refine xj_iload_n dX7_judge_31 rfl ?_
            refine xj_ic1 dX7_judge_32 ?_
            refine xj_iadd dX7_judge_33 ?_
            exact xj_ireturn dX7_judge_34 rfl rfl (xrv_i (by rw [b1_z c28] at hs; rw [nI_1]; exact hs))
    exact lp (l0.length + 1) l0.length 0 r1 (by omega) (by omega) hr1 (by unfold o_judge; rw [if_pos hb1, e1])
  · refine xj_icm1 dX7_judge_8 ?_
    exact xj_ireturn dX7_judge_9 rfl rfl (xrv_i (by unfold o_judge; rw [b1_z c5]; rfl))
end M15
