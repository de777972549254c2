/-! ===== the reference: lots, collapse, many ===== -/
set_option maxRecDepth 100000
theorem kV_X7_manyClasses : xsV yX7_manyClasses cX7_manyClasses 5 (some FieldType.int) 1 := ⟨q2596, qs149, q161, q2597, by decide, by decide, by decide +kernel⟩
theorem kV_X7_rowByLot : xsV yX7_rowByLot cX7_rowByLot 4 (some FieldType.int) 0 := ⟨q2468, qs134, q161, q2469, by decide, by decide, by decide +kernel⟩
theorem sF_put {G : xH} {c : Nat → Value} {v w : Value} : (sF G c 1 v).set 54 (cO 7 ((mFs (cu c 1 v)).set 1 w)) = sF G c 1 w := gset_set
section M16
variable {E : xE} {G : xH} {c : Nat → Value} {n : Nat}
theorem M_rowByLot {z : Int32} (hv : mV c n G) (hf1 : c 1 = .int z) : xMet E yX7_rowByLot cX7_rowByLot 4 (some FieldType.int) 2 0 0 [.ref 54] G (xrv (some (.int (nI (lotR n z)))) (sF G c 1 (.int (ltK z (n - 1))))) := by
  obtain ⟨hO, hf0, h1n, hn6, hPw, hWy⟩ := id hv
  refine xMet.of (lv := [some (.ref 54), none, none, none]) rfl rfl (Nat.le_of_ble_eq_true rfl) ?_
  refine xj_aload_n dX7_rowByLot_0 rfl rfl ?_
  refine xj_ic0 dX7_rowByLot_1 ?_
  refine xj_cV dX7_rowByLot_2 q2120 kV_X7_rowBy (M_rowBy hv (i := 0) (wy_in n (by omega)).1) hO rfl rfl rfl rfl (Nat.le_of_ble_eq_true rfl) ⟨(Nat.le_of_ble_eq_true rfl), (Nat.le_of_ble_eq_true rfl)⟩ (Nat.le_of_ble_eq_true rfl) (Nat.le_of_ble_eq_true rfl) ?_
  refine xj_istn1 dX7_rowByLot_5 rfl ?_
  refine xj_aload_n dX7_rowByLot_6 rfl rfl ?_
  refine xj_get dX7_rowByLot_7 K7 0 (by decide) q1929 hO (congrArg some hf0) ?_
  refine xj_ic1 dX7_rowByLot_10 ?_
  refine xj_isub dX7_rowByLot_11 ?_
  refine xj_top (nI_sub1 h1n) ?_
  refine xj_istn2 dX7_rowByLot_12 rfl ?_
  refine xj_eq rfl rfl (show G = sF G c 1 (.int z) from sF_1 hO hf1) ?_
  have lp : ∀ (K : Nat) (k : Nat) (r : Nat), n - 1 - k < K → (k ≤ n - 1) → (r ∈ rws n) → (lpN (lrF n z) k (n - 1 - k) r = lotR n z) → xJ E (yX7_rowByLot, cX7_rowByLot, 4, (some FieldType.int), []) (xR 2 0 0) (xrv (some (.int (nI (lotR n z)))) (sF G c 1 (.int (ltK z (n - 1))))) 0 0 13 [some (.ref 54), some (.int (nI r)), some (.int (nI (n - 1 - k))), none] [] (sF G c 1 (.int (ltK z k))) := by
    intro K
    induction K with
    | zero => intro k r h; exact absurd h (Nat.not_lt_zero _)
    | succ K ih_lp =>
      intro k r hK hk hr hs
      have hO2 := sF_O (i := 1) (v := .int (ltK z k)) hO
      refine xj_iload_n dX7_rowByLot_13 rfl ?_
      refine xj_if_le (tgt := 95) dX7_rowByLot_14 rfl (fun c14 => ?_) (fun c14 => ?_)
      · have hp0 : n - 1 - k = 0 := by
          rcases Nat.eq_zero_or_pos (n - 1 - k) with h | h
          · exact h
          · exact absurd c14 (nI_ge (a := 0) h (by omega))
        rw [lp_end _ (by omega)] at hs
        refine xj_iload_n dX7_rowByLot_95 rfl ?_
        exact xj_ireturn dX7_rowByLot_96 rfl rfl (by rw [hs, show k = n - 1 by omega]; exact ⟨rfl, rfl⟩)
      · have hk1 : k < n - 1 := Nat.lt_of_not_le fun h => c14 (by rw [show n - 1 - k = 0 by omega]; decide)
        have hr31 := R31 (by omega) hr
        have hq : lq (ltK z (k + 1)) % (n - 1 - k + 1) < n - 1 - k + 1 := Nat.mod_lt _ (by omega)
        have hs2 : lpN (lrF n z) (k + 1) (n - 1 - (k + 1)) (swp n r (n - 1 - k) (lq (ltK z (k + 1)) % (n - 1 - k + 1))) = lotR n z := by rw [← hs, lp_step _ hk1]; unfold lrF; rw [show n - k = n - 1 - k + 1 by omega]
        refine xj_aload_n dX7_rowByLot_17 rfl rfl ?_
        refine xj_aload_n dX7_rowByLot_18 rfl rfl ?_
        refine xj_get dX7_rowByLot_19 K7 1 (by decide) q1930 hO2 rfl ?_
        refine xj_ldcw dX7_rowByLot_22 q2470 ?_
        refine xj_imul dX7_rowByLot_25 ?_
        refine xj_sipush (v := 12345) dX7_rowByLot_26 rfl ?_
        refine xj_iadd dX7_rowByLot_29 ?_
        refine xj_put dX7_rowByLot_30 K7 1 (by decide) q1930 rfl rfl hO2 (Nat.le_of_ble_eq_true rfl) ?_
        refine xj_eq rfl rfl (show _ = sF G c 1 (.int (ltK z (k + 1))) from (sF_put (w := .int (lot (ltK z k)))).trans (by rw [ltK_s])) ?_
        have hv3 : mV (cu c 1 (.int (ltK z (k + 1)))) n (sF G c 1 (.int (ltK z (k + 1)))) := sF_V hv (by decide)
        have hO3 := hv3.1
        refine xj_aload_n dX7_rowByLot_33 rfl rfl ?_
        refine xj_get dX7_rowByLot_34 K7 1 (by decide) q1930 hO3 rfl ?_
        refine xj_bipush (v := 16) dX7_rowByLot_37 rfl ?_
        refine xj_iushr dX7_rowByLot_39 ?_
        refine xj_top (ushr16 (ltK z (k + 1))) ?_
        refine xj_iload_n dX7_rowByLot_40 rfl ?_
        refine xj_ic1 dX7_rowByLot_41 ?_
        refine xj_iadd dX7_rowByLot_42 ?_
        refine xj_top (nI_1 _) ?_
        refine xj_irem dX7_rowByLot_43 (nI_ne0 (by omega) (by omega)) ?_
        refine xj_top (pk_rem (Nat.lt_trans (lq_lt _) (by decide)) (by omega) (by omega)) ?_
        refine xj_istn3 dX7_rowByLot_44 rfl ?_
        refine xj_iload_n dX7_rowByLot_45 rfl ?_
        refine xj_aload_n dX7_rowByLot_46 rfl rfl ?_
        refine xj_iload_n dX7_rowByLot_47 rfl ?_
        refine xj_iload_n dX7_rowByLot_48 rfl ?_
        refine xj_cV dX7_rowByLot_49 q2100 kV_X7_digit (M_digit hv3 hr31 (by omega)) hO3 rfl rfl rfl rfl (Nat.le_of_ble_eq_true rfl) ⟨(Nat.le_of_ble_eq_true rfl), (Nat.le_of_ble_eq_true rfl)⟩ (Nat.le_of_ble_eq_true rfl) (Nat.le_of_ble_eq_true rfl) ?_
        refine xj_aload_n dX7_rowByLot_52 rfl rfl ?_
        refine xj_iload_n dX7_rowByLot_53 rfl ?_
        refine xj_iload_n dX7_rowByLot_54 rfl ?_
        refine xj_cV dX7_rowByLot_55 q2100 kV_X7_digit (M_digit hv3 hr31 (by omega)) hO3 rfl rfl rfl rfl (Nat.le_of_ble_eq_true rfl) ⟨(Nat.le_of_ble_eq_true rfl), (Nat.le_of_ble_eq_true rfl)⟩ (Nat.le_of_ble_eq_true rfl) (Nat.le_of_ble_eq_true rfl) ?_
        refine xj_isub dX7_rowByLot_58 ?_
        refine xj_aload_n dX7_rowByLot_59 rfl rfl ?_
        refine xj_get dX7_rowByLot_60 K7 18 (by decide) q1947 hO3 rfl ?_
        refine xj_aload_n dX7_rowByLot_63 rfl rfl ?_
        refine xj_get dX7_rowByLot_64 K7 0 (by decide) q1929 hO3 (congrArg some hf0) ?_
        refine xj_ic1 dX7_rowByLot_67 ?_
        refine xj_isub dX7_rowByLot_68 ?_
        refine xj_iload_n dX7_rowByLot_69 rfl ?_
        refine xj_isub dX7_rowByLot_70 ?_
        refine xj_iald dX7_rowByLot_71 hv3.2.2.2.2.1 (by rw [nI_sub1 h1n, pk_sub (by omega)]) (by omega) (powL_at (by omega)) ?_
        refine xj_aload_n dX7_rowByLot_72 rfl rfl ?_
        refine xj_get dX7_rowByLot_73 K7 18 (by decide) q1947 hO3 rfl ?_
        refine xj_aload_n dX7_rowByLot_76 rfl rfl ?_
        refine xj_get dX7_rowByLot_77 K7 0 (by decide) q1929 hO3 (congrArg some hf0) ?_
        refine xj_ic1 dX7_rowByLot_80 ?_
        refine xj_isub dX7_rowByLot_81 ?_
        refine xj_iload_n dX7_rowByLot_82 rfl ?_
        refine xj_isub dX7_rowByLot_83 ?_
        refine xj_iald dX7_rowByLot_84 hv3.2.2.2.2.1 (by rw [nI_sub1 h1n, pk_sub (by omega)]) (by omega) (powL_at (by omega)) ?_
        refine xj_isub dX7_rowByLot_85 ?_
        refine xj_imul dX7_rowByLot_86 ?_
        refine xj_iadd dX7_rowByLot_87 ?_
        refine xj_top (f_swpI (by omega) hq) ?_
        refine xj_istn1 dX7_rowByLot_88 rfl ?_
        refine xj_iinc2 (cst := (-1)) dX7_rowByLot_89 rfl rfl ?_
        rw [nI_m1 (by omega), show n - 1 - k - 1 = n - 1 - (k + 1) by omega]
        refine xj_goto (tgt := 13) dX7_rowByLot_92 rfl ?_
        exact xj_fg3 (ih_lp (k + 1) _ (by omega) (by omega) (f_swp (by omega) hr (by omega) hq) hs2)
  exact lp n 0 (rb n 0) (by omega) (by omega) (rb_mem (by omega) h1n (wy_in n (by omega)).1) rfl
theorem M_drawn {x z : Int32} {g : Nat} (hv : mV c n G) (ha : mA n G) (hf3 : c 3 = .long (lN g)) (hg : g < 2 ^ 57) (hf1 : c 1 = .int z) : xMet E yX7_drawn cX7_drawn 4 (some FieldType.int) 4 0 0 [.ref 54, .int x] G (xrv (some (.int (o_drawn n g z x))) (sF G c 1 (.int (s_drawn n z x)))) := by
  obtain ⟨hO, hf0, h1n, hn6, hPw, hWy⟩ := id hv
  refine xMet.of (lv := [some (.ref 54), some (.int x), none, none]) rfl rfl (Nat.le_of_ble_eq_true rfl) ?_
  refine xj_iload_n dX7_drawn_0 rfl ?_
  refine xj_i2l dX7_drawn_1 ?_
  refine xj_lc1 dX7_drawn_2 ?_
  refine xj_ldc2 dX7_drawn_3 q2465 ?_
  refine xj_cS dX7_drawn_6 q2085 kS_X7_in M_in rfl rfl (Nat.le_of_ble_eq_true rfl) ⟨(Nat.le_of_ble_eq_true rfl), (Nat.le_of_ble_eq_true rfl)⟩ (Nat.le_of_ble_eq_true rfl) (Nat.le_of_ble_eq_true rfl) ?_
  refine xj_if_ne (tgt := 14) dX7_drawn_9 rfl (fun c9 => ?_) (fun c9 => ?_)
  · have hb1 := b1_nz c9
    rw [inB_60] at hb1
    obtain ⟨j, hj, rfl, hj31⟩ := in1_t hb1
    have e1 : tn (nI (j + 1)) = j + 1 := nI_clamp hj31
    refine xj_ic0 dX7_drawn_14 ?_
    refine xj_istn2 dX7_drawn_15 rfl ?_
    refine xj_ic0 dX7_drawn_16 ?_
    refine xj_istn3 dX7_drawn_17 rfl ?_
    refine xj_eq rfl rfl (show G = sF G c 1 (.int (ltK z ((n - 1) * 0))) from sF_1 hO hf1) ?_
    have lp : ∀ (K : Nat) (i : Nat) (s : Nat), j + 1 - i < K → (i ≤ j + 1) → (lpN (drF n g z) i (j + 1 - i) s = lpN (drF n g z) 0 (j + 1) 0) → xJ E (yX7_drawn, cX7_drawn, 4, (some FieldType.int), []) (xR 4 0 0) (xrv (some (.int (o_drawn n g z (nI (j + 1))))) (sF G c 1 (.int (s_drawn n z (nI (j + 1)))))) 0 0 18 [some (.ref 54), some (.int (nI (j + 1))), some (.int (nI s)), some (.int (nI i))] [] (sF G c 1 (.int (ltK z ((n - 1) * i)))) := by
      intro K
      induction K with
      | zero => intro i s h; exact absurd h (Nat.not_lt_zero _)
      | succ K ih_lp =>
        intro i s hK hi hs
        have hv2 : mV (cu c 1 (.int (ltK z ((n - 1) * i)))) n (sF G c 1 (.int (ltK z ((n - 1) * i)))) := sF_V hv (by decide)
        refine xj_iload_n dX7_drawn_18 rfl ?_
        refine xj_iload_n dX7_drawn_19 rfl ?_
        refine xj_icmp_ge (tgt := 48) dX7_drawn_20 rfl (fun c20 => ?_) (fun c20 => ?_)
        · refine xj_iload_n dX7_drawn_48 rfl ?_
          exact xj_ireturn dX7_drawn_49 rfl rfl (by have hij : j + 1 ≤ i := Nat.le_of_not_lt fun h => absurd c20 (nI_ge h (by omega)); rw [lp_end _ hij] at hs; have hi1 : i = j + 1 := (by omega); exact ⟨by unfold o_drawn; rw [if_pos hb1, e1, ← hs], by unfold s_drawn; rw [if_pos hb1, e1, ← hi1]⟩)
        · have hij : i < j + 1 := Nat.lt_of_not_le fun h => c20 (nI_le h (by omega))
          have hz : ltK (ltK z ((n - 1) * i)) (n - 1) = (ltK z ((n - 1) * (i + 1))) := by rw [Nat.mul_succ, ltK_add]
          have hv3 : mV (cu c 1 (.int (ltK z ((n - 1) * (i + 1))))) n (sF G c 1 (.int (ltK z ((n - 1) * (i + 1))))) := sF_V hv (by decide)
          have ha3 : mA n (sF G c 1 (.int (ltK z ((n - 1) * (i + 1))))) := sF_A ha
          have hm : lotR n (ltK z ((n - 1) * i)) ∈ rws n := lrF_mem (by omega) _ _ _ (by omega) (rb_mem (by omega) h1n (wy_in n (by omega)).1)
          rw [lp_step _ hij] at hs
          refine xj_iload_n dX7_drawn_23 rfl ?_
          refine xj_aload_n dX7_drawn_24 rfl rfl ?_
          refine xj_aload_n dX7_drawn_25 rfl rfl ?_
          refine xj_cV dX7_drawn_26 q2466 kV_X7_rowByLot (M_rowByLot (z := (ltK z ((n - 1) * i))) hv2 rfl) hv2.1 rfl rfl rfl rfl (Nat.le_of_ble_eq_true rfl) ⟨(Nat.le_of_ble_eq_true rfl), (Nat.le_of_ble_eq_true rfl)⟩ (Nat.le_of_ble_eq_true rfl) (Nat.le_of_ble_eq_true rfl) ?_
          refine xj_eq rfl rfl (show _ = sF G c 1 (.int (ltK z ((n - 1) * (i + 1)))) by rw [sF_sF, hz]) ?_
          refine xj_cV dX7_drawn_29 q2382 kV_X7_isLeast (M_isLeast hv3 ha3 hf3 hg hm) hv3.1 rfl rfl rfl rfl (Nat.le_of_ble_eq_true rfl) ⟨(Nat.le_of_ble_eq_true rfl), (Nat.le_of_ble_eq_true rfl)⟩ (Nat.le_of_ble_eq_true rfl) (Nat.le_of_ble_eq_true rfl) ?_
          refine xj_sI_if_eq (tgt := 39) (M := 40) dX7_drawn_32 rfl (fun c32 k => by
              refine xj_ic0 dX7_drawn_39 ?_
              exact k) (fun c32 k => by
              refine xj_ic1 dX7_drawn_35 ?_
              refine xj_goto (tgt := 40) dX7_drawn_36 rfl ?_
              exact k) ?_
          refine xj_top (y := nI (if lst n g (lotR n (ltK z ((n - 1) * i))) then 1 else 0)) (by cases lst n g (lotR n (ltK z ((n - 1) * i))) <;> decide) ?_
          refine xj_iadd dX7_drawn_40 ?_
          rw [nI_add]
          refine xj_istn2 dX7_drawn_41 rfl ?_
          refine xj_iinc3 (cst := 1) dX7_drawn_42 rfl rfl ?_
          rw [nI_1]
          refine xj_goto (tgt := 18) dX7_drawn_45 rfl ?_
          exact ih_lp (i + 1) _ (by omega) (by omega) hs
    exact lp (j + 2) 0 0 (by omega) (by omega) rfl
  · refine xj_icm1 dX7_drawn_12 ?_
    exact xj_ireturn dX7_drawn_13 rfl rfl (by have hb1 := b1_z c9; rw [inB_60] at hb1; exact ⟨by unfold o_drawn; rw [hb1]; rfl, by unfold s_drawn; rw [hb1]; exact sF_1 hO hf1⟩)
theorem M_collapse {x y : Int32} {g : Nat} (hv : mV c n G) (ha : mA n G) (hf : mF c n G) (hf3 : c 3 = .long (lN g)) (hg : g < 2 ^ 57) : xMet E yX7_collapse cX7_collapse 6 (some FieldType.int) 6 0 0 [.ref 54, .int x, .int y] G (xrv (some (.int (o_collapse n g x y))) (sG G c (s_collapse n g x y))) := by
  obtain ⟨hO, hf0, h1n, hn6, hPw, hWy⟩ := id hv
  obtain ⟨hf17, L4, hL4, hFo⟩ := id hf
  have hna := na_lt n (by omega)
  refine xMet.of (lv := [some (.ref 54), some (.int x), some (.int y), none, none, none]) rfl rfl (Nat.le_of_ble_eq_true rfl) ?_
  refine xj_aload_n dX7_collapse_0 rfl rfl ?_
  refine xj_iload_n dX7_collapse_1 rfl ?_
  refine xj_iload_n dX7_collapse_2 rfl ?_
  refine xj_cV dX7_collapse_3 q2092 kV_X7_areRows (M_areRows hv) hO rfl rfl rfl rfl (Nat.le_of_ble_eq_true rfl) ⟨(Nat.le_of_ble_eq_true rfl), (Nat.le_of_ble_eq_true rfl)⟩ (Nat.le_of_ble_eq_true rfl) (Nat.le_of_ble_eq_true rfl) ?_
  refine xj_if_ne (tgt := 11) dX7_collapse_6 rfl (fun c6 => ?_) (fun c6 => ?_)
  · have hb := b1_nz c6
    obtain ⟨r1, r2, hr1, hr2, rfl, rfl⟩ := rows2 (by omega) h1n hb
    have e1 := tn_nI (by omega) hr1
    have e2 := tn_nI (by omega) hr2
    have hmt := mtS_mem (n := n) (B := inv n r1 &&& inv n r2) (by omega) h1n
    have ht := jn2_mem (by omega) h1n hr1 hr2
    have hms := mj_sub (by omega) h1n hr1 hr2
    refine xj_aload_n dX7_collapse_11 rfl rfl ?_
    refine xj_iload_n dX7_collapse_12 rfl ?_
    refine xj_iload_n dX7_collapse_13 rfl ?_
    refine xj_cV dX7_collapse_14 q2116 kV_X7_meetOf (M_meetOf hv hr1 hr2) hO rfl rfl rfl rfl (Nat.le_of_ble_eq_true rfl) ⟨(Nat.le_of_ble_eq_true rfl), (Nat.le_of_ble_eq_true rfl)⟩ (Nat.le_of_ble_eq_true rfl) (Nat.le_of_ble_eq_true rfl) ?_
    refine xj_istn3 dX7_collapse_17 rfl ?_
    refine xj_aload_n dX7_collapse_18 rfl rfl ?_
    refine xj_iload_n dX7_collapse_19 rfl ?_
    refine xj_iload_n dX7_collapse_20 rfl ?_
    refine xj_cV dX7_collapse_21 q2131 kV_X7_joinOf (M_joinOf hv hr1 hr2) hO rfl rfl rfl rfl (Nat.le_of_ble_eq_true rfl) ⟨(Nat.le_of_ble_eq_true rfl), (Nat.le_of_ble_eq_true rfl)⟩ (Nat.le_of_ble_eq_true rfl) (Nat.le_of_ble_eq_true rfl) ?_
    refine xj_ist4 dX7_collapse_24 rfl ?_
    obtain ⟨t, et⟩ : ∃ t, t = jnS n (inv n r1 ||| inv n r2) := ⟨_, rfl⟩
    rw [← et] at ht hms
    rw [← et]
    have ht31 := R31 (by omega) ht
    refine xj_eq rfl rfl (sG_id hO hf3) ?_
    have lp : ∀ (K : Nat) (q : Nat) (gg : Nat), gmu n false q < K → (q ∈ rws n) → (subB n q t = true) → (gg < 2 ^ 57) → (clp n t K q gg = clp n t 16 (mtS n (inv n r1 &&& inv n r2)) g) → xJ E (yX7_collapse, cX7_collapse, 6, (some FieldType.int), []) (xR 6 0 0) (xrv (some (.int (o_collapse n g (nI r1) (nI r2)))) (sG G c (s_collapse n g (nI r1) (nI r2)))) 0 0 26 [some (.ref 54), some (.int (nI r1)), some (.int (nI r2)), some (.int (nI q)), some (.int (nI t)), none] [] (sG G c gg) := by
      intro K
      induction K with
      | zero => intro q gg h; exact absurd h (Nat.not_lt_zero _)
      | succ K ih_lp =>
        intro q gg hK hq hqt hgg hs
        have hv2 : mV (cu c 3 (.long (lN gg))) n (sG G c gg) := hv.upd (by decide)
        have ha2 : mA n (sG G c gg) := ha.set (by decide) (by decide) (by decide)
        have hL42 : (sG G c gg)[62]? = some (cL 4 L4) := by unfold sG; rw [gset (by decide)]; exact hL4
        have hq31 := R31 (by omega) hq
        refine xj_iload_n dX7_collapse_26 rfl ?_
        refine xj_iload dX7_collapse_27 rfl ?_
        refine xj_icmp_eq (tgt := 99) dX7_collapse_29 rfl (fun c29 => ?_) (fun c29 => ?_)
        · have he : q = t := (nI_eq hq31 ht31).mp c29
          have hs : (if q = t then gg else clp n t K (sw n q (upP n q t)) (gg ||| fo n (aa n q (upP n q t)))) = _ := hs
          rw [if_pos he] at hs
          refine xj_aload_n dX7_collapse_99 rfl rfl ?_
          refine xj_get dX7_collapse_100 K7 3 (by decide) q1932 hv2.1 rfl ?_
          refine xj_cS dX7_collapse_103 q2124 kS_X7_ones (M_ones (Nat.lt_trans hgg (by decide))) rfl rfl (Nat.le_of_ble_eq_true rfl) ⟨(Nat.le_of_ble_eq_true rfl), (Nat.le_of_ble_eq_true rfl)⟩ (Nat.le_of_ble_eq_true rfl) (Nat.le_of_ble_eq_true rfl) ?_
          exact xj_ireturn dX7_collapse_106 rfl rfl (by subst hs; exact ⟨by unfold o_collapse s_collapse; rw [if_pos hb, if_pos hb, e1, e2, ← et], by unfold s_collapse; rw [if_pos hb, e1, e2, ← et]⟩)
        · have hne : q ≠ t := fun h => c29 (by rw [h])
          have hs : (if q = t then gg else clp n t K (sw n q (upP n q t)) (gg ||| fo n (aa n q (upP n q t)))) = _ := hs
          rw [if_neg hne] at hs
          have hok := upP_ok (by omega) hq ht hqt hne
          have hlt := gmu_step (by omega) hq hok.1 hok.2.1
          refine xj_ic0 dX7_collapse_32 ?_
          refine xj_ist5 dX7_collapse_33 rfl ?_
          have lq : ∀ (K : Nat) (k : Nat) (p : Nat), k < K → (p + k = n - 1) → (upL n q (t) k p = upP n q (t)) → xJ E (yX7_collapse, cX7_collapse, 6, (some FieldType.int), []) (xR 6 0 0) (xrv (some (.int (o_collapse n g (nI r1) (nI r2)))) (sG G c (s_collapse n g (nI r1) (nI r2)))) 0 0 35 [some (.ref 54), some (.int (nI r1)), some (.int (nI r2)), some (.int (nI q)), some (.int (nI (t))), some (.int (nI p))] [] (sG G c gg) := by
            intro K
            induction K with
            | zero => intro k p h; exact absurd h (Nat.not_lt_zero _)
            | succ K ih_lq =>
              intro k p hK hk hu
              obtain ⟨k, rfl⟩ : ∃ k0, k = k0 + 1 := ⟨k - 1, by
                have : k ≠ 0 := fun h => by subst h; have : p = upP n q t := hu; omega
                omega⟩
              have hu : (if isD n q p = false ∧ subB n (sw n q p) t = true then p else upL n q t k (p + 1)) = upP n q t := hu
              have hsp := f_sw (by omega) hq (p := p) (by omega)
              have haa := (f_aa n (by omega) q hq p (by omega)).1
              refine xj_aload_n dX7_collapse_35 rfl rfl ?_
              refine xj_iload_n dX7_collapse_36 rfl ?_
              refine xj_iload dX7_collapse_37 rfl ?_
              refine xj_cV dX7_collapse_39 q2144 kV_X7_isDrop (M_isDrop hv2 hq31 (by omega)) hv2.1 rfl rfl rfl rfl (Nat.le_of_ble_eq_true rfl) ⟨(Nat.le_of_ble_eq_true rfl), (Nat.le_of_ble_eq_true rfl)⟩ (Nat.le_of_ble_eq_true rfl) (Nat.le_of_ble_eq_true rfl) ?_
              refine xj_if_ne (tgt := 61) dX7_collapse_42 rfl (fun c42 => ?_) (fun c42 => ?_)
              · refine xj_iinc5 (cst := 1) dX7_collapse_61 rfl rfl ?_
                rw [nI_1]
                refine xj_goto (tgt := 35) dX7_collapse_64 rfl ?_
                exact ih_lq k (p + 1) (by omega) (by omega) (by rw [if_neg (by first | exact fun h => c42 (by show b1 (isD n q p) = 0; rw [h.1]; rfl) | exact fun h => absurd h.2 (by rw [b1_z c58]; decide))] at hu; exact hu)
              · refine xj_aload_n dX7_collapse_45 rfl rfl ?_
                refine xj_aload_n dX7_collapse_46 rfl rfl ?_
                refine xj_iload_n dX7_collapse_47 rfl ?_
                refine xj_iload dX7_collapse_48 rfl ?_
                refine xj_cV dX7_collapse_50 q2172 kV_X7_swapAt (M_swapAt hv2 hq (by omega)) hv2.1 rfl rfl rfl rfl (Nat.le_of_ble_eq_true rfl) ⟨(Nat.le_of_ble_eq_true rfl), (Nat.le_of_ble_eq_true rfl)⟩ (Nat.le_of_ble_eq_true rfl) (Nat.le_of_ble_eq_true rfl) ?_
                refine xj_iload dX7_collapse_53 rfl ?_
                refine xj_cV dX7_collapse_55 q2104 kV_X7_isBelow (M_isBelow hv2 hsp ht) hv2.1 rfl rfl rfl rfl (Nat.le_of_ble_eq_true rfl) ⟨(Nat.le_of_ble_eq_true rfl), (Nat.le_of_ble_eq_true rfl)⟩ (Nat.le_of_ble_eq_true rfl) (Nat.le_of_ble_eq_true rfl) ?_
                refine xj_if_ne (tgt := 67) dX7_collapse_58 rfl (fun c58 => ?_) (fun c58 => ?_)
                · rw [if_pos ⟨b1_z c42, b1_nz c58⟩] at hu
                  rw [← hu] at hs hok hlt
                  refine xj_aload_n dX7_collapse_67 rfl rfl ?_
                  refine xj_dup dX7_collapse_68 rfl ?_
                  refine xj_get dX7_collapse_69 K7 3 (by decide) q1932 hv2.1 rfl ?_
                  refine xj_aload_n dX7_collapse_72 rfl rfl ?_
                  refine xj_get dX7_collapse_73 K7 16 (by decide) q1945 hv2.1 rfl ?_
                  refine xj_aload_n dX7_collapse_76 rfl rfl ?_
                  refine xj_iload_n dX7_collapse_77 rfl ?_
                  refine xj_iload dX7_collapse_78 rfl ?_
                  refine xj_cV dX7_collapse_80 q2180 kV_X7_arcAt (M_arcAt hv2 ha2 hq (by omega)) hv2.1 rfl rfl rfl rfl (Nat.le_of_ble_eq_true rfl) ⟨(Nat.le_of_ble_eq_true rfl), (Nat.le_of_ble_eq_true rfl)⟩ (Nat.le_of_ble_eq_true rfl) (Nat.le_of_ble_eq_true rfl) ?_
                  refine xj_lald dX7_collapse_83 hL42 rfl (by omega) (hFo _ haa) ?_
                  refine xj_lor dX7_collapse_84 ?_
                  rw [wb_or (Nat.lt_trans hgg (by decide)) (Nat.lt_trans (fo_lt (by omega) _) (by decide))]
                  refine xj_put dX7_collapse_85 K7 3 (by decide) q1932 rfl rfl hv2.1 (Nat.le_of_ble_eq_true rfl) ?_
                  refine xj_eq rfl rfl (show _ = sG G c (gg ||| fo n (aa n q p)) from gset_set) ?_
                  have hv4 : mV (cu c 3 (.long (lN (gg ||| fo n (aa n q p))))) n (sG G c (gg ||| fo n (aa n q p))) := hv.upd (by decide)
                  refine xj_aload_n dX7_collapse_88 rfl rfl ?_
                  refine xj_iload_n dX7_collapse_89 rfl ?_
                  refine xj_iload dX7_collapse_90 rfl ?_
                  refine xj_cV dX7_collapse_92 q2172 kV_X7_swapAt (M_swapAt hv4 hq (by omega)) hv4.1 rfl rfl rfl rfl (Nat.le_of_ble_eq_true rfl) ⟨(Nat.le_of_ble_eq_true rfl), (Nat.le_of_ble_eq_true rfl)⟩ (Nat.le_of_ble_eq_true rfl) (Nat.le_of_ble_eq_true rfl) ?_
                  refine xj_istn3 dX7_collapse_95 rfl ?_
                  refine xj_goto (tgt := 26) dX7_collapse_96 rfl ?_
                  exact xj_fg5 (ih_lp (sw n q p) _ (by omega) hsp hok.2.2 (Nat.or_lt_two_pow hgg (fo_lt (by omega) _)) hs)
                · refine xj_iinc5 (cst := 1) dX7_collapse_61 rfl rfl ?_
                  rw [nI_1]
                  refine xj_goto (tgt := 35) dX7_collapse_64 rfl ?_
                  exact ih_lq k (p + 1) (by omega) (by omega) (by rw [if_neg (by first | exact fun h => c42 (by show b1 (isD n q p) = 0; rw [h.1]; rfl) | exact fun h => absurd h.2 (by rw [b1_z c58]; decide))] at hu; exact hu)
          exact lq n (n - 1) 0 (by omega) (by omega) rfl
    exact lp 16 (mtS n (inv n r1 &&& inv n r2)) g (gmu_lt (by omega) hmt) hmt hms hg rfl
  · refine xj_icm1 dX7_collapse_9 ?_
    exact xj_ireturn dX7_collapse_10 rfl rfl (by have hb := b1_z c6; exact ⟨by unfold o_collapse; rw [hb]; rfl, by unfold s_collapse; rw [hb]; exact sG_id hO hf3⟩)
theorem M_many {x : Int32} {g mk st tp tr : Nat} (hv : mV c n G) (ha : mA n G) (hf3 : c 3 = .long (lN g)) (hg : g < 2 ^ 57) (hf17 : c 17 = .int (nI (na n))) (hf2 : c 2 = .int (nI mk)) (hf36 : c 36 = .int (nI st)) (hf23 : c 23 = .int (nI tp)) (hf45 : c 45 = .int (nI tr)) : xMet E yX7_many cX7_many 2 (some FieldType.int) 5 0 0 [.ref 54, .int x] G (xrv (some (.int (o_many n g mk st tp tr x))) G) := by
  obtain ⟨hO, hf0, h1n, hn6, hPw, hWy⟩ := id hv
  refine xMet.of (lv := [some (.ref 54), some (.int x)]) rfl rfl (Nat.le_of_ble_eq_true rfl) ?_
  refine xj_iload_n dX7_many_0 rfl ?_
  refine xj_tabs (tg := [52, 57, 62, 70, 76, 82, 87, 92, 97]) (tgt := 102) dX7_many_1 rfl rfl rfl ⟨fun c1 => ?_, fun c1 => ?_, fun c1 => ?_, fun c1 => ?_, fun c1 => ?_, fun c1 => ?_, fun c1 => ?_, fun c1 => ?_, fun c1 => ?_, trivial⟩ (fun c1 => ?_)
  · refine xj_aload_n dX7_many_52 rfl rfl ?_
    refine xj_get dX7_many_53 K7 0 (by decide) q1929 hO (congrArg some hf0) ?_
    exact xj_ireturn dX7_many_56 rfl rfl (xrv_i (by unfold o_many; rw [show x = 0 from c1]; rfl))
  · refine xj_aload_n dX7_many_57 rfl rfl ?_
    refine xj_get dX7_many_58 K7 17 (by decide) q1946 hO (congrArg some hf17) ?_
    exact xj_ireturn dX7_many_61 rfl rfl (xrv_i (by unfold o_many; rw [show x = 1 from c1]; rfl))
  · refine xj_aload_n dX7_many_62 rfl rfl ?_
    refine xj_get dX7_many_63 K7 3 (by decide) q1932 hO (congrArg some hf3) ?_
    refine xj_cS dX7_many_66 q2124 kS_X7_ones (M_ones (Nat.lt_trans hg (by decide))) rfl rfl (Nat.le_of_ble_eq_true rfl) ⟨(Nat.le_of_ble_eq_true rfl), (Nat.le_of_ble_eq_true rfl)⟩ (Nat.le_of_ble_eq_true rfl) (Nat.le_of_ble_eq_true rfl) ?_
    exact xj_ireturn dX7_many_69 rfl rfl (xrv_i (by unfold o_many; rw [show x = 2 from c1]; rfl))
  · refine xj_aload_n dX7_many_70 rfl rfl ?_
    refine xj_ic0 dX7_many_71 ?_
    refine xj_cV dX7_many_72 q2594 kV_X7_manyClasses (M_manyClasses (t := false) hv ha hf3 hg) hO rfl rfl rfl rfl (Nat.le_of_ble_eq_true rfl) ⟨(Nat.le_of_ble_eq_true rfl), (Nat.le_of_ble_eq_true rfl)⟩ (Nat.le_of_ble_eq_true rfl) (Nat.le_of_ble_eq_true rfl) ?_
    exact xj_ireturn dX7_many_75 rfl rfl (xrv_i (by unfold o_many; rw [show x = 3 from c1]; rfl))
  · refine xj_aload_n dX7_many_76 rfl rfl ?_
    refine xj_ic1 dX7_many_77 ?_
    refine xj_cV dX7_many_78 q2594 kV_X7_manyClasses (M_manyClasses (t := true) hv ha hf3 hg) hO rfl rfl rfl rfl (Nat.le_of_ble_eq_true rfl) ⟨(Nat.le_of_ble_eq_true rfl), (Nat.le_of_ble_eq_true rfl)⟩ (Nat.le_of_ble_eq_true rfl) (Nat.le_of_ble_eq_true rfl) ?_
    exact xj_ireturn dX7_many_81 rfl rfl (xrv_i (by unfold o_many; rw [show x = 4 from c1]; rfl))
  · refine xj_aload_n dX7_many_82 rfl rfl ?_
    refine xj_get dX7_many_83 K7 2 (by decide) q1931 hO (congrArg some hf2) ?_
    exact xj_ireturn dX7_many_86 rfl rfl (xrv_i (by unfold o_many; rw [show x = 5 from c1]; rfl))
  · refine xj_aload_n dX7_many_87 rfl rfl ?_
    refine xj_get dX7_many_88 K7 36 (by decide) q1965 hO (congrArg some hf36) ?_
    exact xj_ireturn dX7_many_91 rfl rfl (xrv_i (by unfold o_many; rw [show x = 6 from c1]; rfl))
  · refine xj_aload_n dX7_many_92 rfl rfl ?_
    refine xj_get dX7_many_93 K7 23 (by decide) q1952 hO (congrArg some hf23) ?_
    exact xj_ireturn dX7_many_96 rfl rfl (xrv_i (by unfold o_many; rw [show x = 7 from c1]; rfl))
  · refine xj_aload_n dX7_many_97 rfl rfl ?_
    refine xj_get dX7_many_98 K7 45 (by decide) q1974 hO (congrArg some hf45) ?_
    exact xj_ireturn dX7_many_101 rfl rfl (xrv_i (by unfold o_many; rw [show x = 8 from c1]; rfl))
  · refine xj_icm1 dX7_many_102 ?_
    exact xj_ireturn dX7_many_103 rfl rfl (xrv_i (by unfold o_many; repeat rw [if_neg (fun q => by rw [q] at c1; revert c1; decide)]))
end M16
