/-! ===== the reference: closed sets, makers ===== -/
set_option maxRecDepth 100000
theorem kV_X7_closedFrom : xsV yX7_closedFrom cX7_closedFrom 6 (some FieldType.int) 3 := ⟨q2440, qs131, q161, q2441, by decide, by decide, by decide +kernel⟩
theorem kV_X7_isSigned : xsV yX7_isSigned cX7_isSigned 5 (some FieldType.boolean) 2 := ⟨q2258, qs105, q161, q2259, by decide, by decide, by decide +kernel⟩
theorem kV_X7_takes : xsV yX7_takes cX7_takes 7 (some FieldType.boolean) 3 := ⟨q2254, qs104, q161, q2255, by decide, by decide, by decide +kernel⟩
theorem nI_lt0 {a : Nat} (h : ¬ nI a ≤ 0) : 0 < a := Nat.pos_of_ne_zero fun q => h (by rw [q]; decide)
theorem nI_nlt0 {a : Nat} (ha : a < 2 ^ 31) (h : nI a ≤ 0) : ¬ 0 < a := fun q => absurd ((nI_leI ha (by decide)).mp (show nI a ≤ nI 0 from h)) (by omega)
section M12
variable {E : xE} {G : xH} {c : Nat → Value} {n : Nat}
theorem M_closedFrom (hv : mV c n G) (hf : mF c n G) : ∀ (k a i o : Nat), a + k = na n → i < 2 ^ 57 → o < 2 ^ 57 → xMet E yX7_closedFrom cX7_closedFrom 6 (some FieldType.int) (k + 3) 0 0 [.ref 54, .int (nI a), .long (lN i), .long (lN o)] G (xrv (some (.int (cfr n k a i o))) G) := by
  obtain ⟨hO, hf0, h1n, hn6, hPw, hWy⟩ := id hv
  obtain ⟨hf17, L4, hL4, hFo⟩ := id hf
  have hna := na_lt n (by omega)
  intro k
  induction k with
  | zero =>
    intro a i o hk hi ho
    refine xMet.of (lv := [some (.ref 54), some (.int (nI a)), some (.long (lN i)), none, some (.long (lN o)), none]) rfl rfl (Nat.le_of_ble_eq_true rfl) ?_
    refine xj_iload_n dX7_closedFrom_0 rfl ?_
    refine xj_aload_n dX7_closedFrom_1 rfl rfl ?_
    refine xj_get dX7_closedFrom_2 K7 17 (by decide) q1946 hO (congrArg some hf17) ?_
    refine xj_icmp_ne (tgt := 10) dX7_closedFrom_5 rfl (fun c5 => ?_) (fun c5 => ?_)
    · exact absurd (by rw [show a = na n by omega]) c5
    · refine xj_ic1 dX7_closedFrom_8 ?_
      exact xj_ireturn dX7_closedFrom_9 rfl rfl (xrv_i rfl)
  | succ k ih =>
    intro a i o hk hi ho
    have hio := Nat.or_lt_two_pow hi ho
    have hfo := fo_lt (n := n) (by omega) a
    have hfc := fcr_lt (n := n) (by omega) a
    refine xMet.of (lv := [some (.ref 54), some (.int (nI a)), some (.long (lN i)), none, some (.long (lN o)), none]) rfl rfl (Nat.le_of_ble_eq_true rfl) ?_
    refine xj_iload_n dX7_closedFrom_0 rfl ?_
    refine xj_aload_n dX7_closedFrom_1 rfl rfl ?_
    refine xj_get dX7_closedFrom_2 K7 17 (by decide) q1946 hO (congrArg some hf17) ?_
    refine xj_icmp_ne (tgt := 10) dX7_closedFrom_5 rfl (fun c5 => ?_) (fun c5 => ?_)
    · refine xj_lload_n dX7_closedFrom_10 rfl ?_
      refine xj_lload dX7_closedFrom_11 rfl ?_
      refine xj_lor dX7_closedFrom_13 ?_
      rw [wb_or (Nat.lt_trans hi (by decide)) (Nat.lt_trans ho (by decide))]
      refine xj_iload_n dX7_closedFrom_14 rfl ?_
      refine xj_cS dX7_closedFrom_15 q1926 kS_X7_has (M_has (Nat.lt_trans hio (by decide)) (by omega)) rfl rfl (Nat.le_of_ble_eq_true rfl) (xR_ok (by omega) (by decide)) (Nat.le_of_ble_eq_true rfl) (Nat.le_of_ble_eq_true rfl) ?_
      refine xj_if_eq (tgt := 32) dX7_closedFrom_18 rfl (fun c18 => ?_) (fun c18 => ?_)
      · refine xj_aload_n dX7_closedFrom_32 rfl rfl ?_
        refine xj_iload_n dX7_closedFrom_33 rfl ?_
        refine xj_ic1 dX7_closedFrom_34 ?_
        refine xj_iadd dX7_closedFrom_35 ?_
        refine xj_lload_n dX7_closedFrom_36 rfl ?_
        refine xj_aload_n dX7_closedFrom_37 rfl rfl ?_
        refine xj_get dX7_closedFrom_38 K7 16 (by decide) q1945 hO rfl ?_
        refine xj_iload_n dX7_closedFrom_41 rfl ?_
        refine xj_lald dX7_closedFrom_42 hL4 rfl (by omega) (hFo a (by omega)) ?_
        refine xj_lor dX7_closedFrom_43 ?_
        refine xj_lload dX7_closedFrom_44 rfl ?_
        rw [nI_1, wb_or (Nat.lt_trans hi (by decide)) (Nat.lt_trans hfo (by decide))]
        refine xj_cV dX7_closedFrom_46 q2438 kV_X7_closedFrom (ih (a + 1) (i ||| fo n a) o (by omega) (Nat.or_lt_two_pow hi hfo) ho) hO rfl rfl rfl rfl (Nat.le_of_ble_eq_true rfl) (xR_ok (by omega) (by decide)) (Nat.le_of_ble_eq_true rfl) (Nat.le_of_ble_eq_true rfl) ?_
        refine xj_aload_n dX7_closedFrom_49 rfl rfl ?_
        refine xj_iload_n dX7_closedFrom_50 rfl ?_
        refine xj_ic1 dX7_closedFrom_51 ?_
        refine xj_iadd dX7_closedFrom_52 ?_
        refine xj_lload_n dX7_closedFrom_53 rfl ?_
        refine xj_lload dX7_closedFrom_54 rfl ?_
        refine xj_aload_n dX7_closedFrom_56 rfl rfl ?_
        refine xj_iload_n dX7_closedFrom_57 rfl ?_
        refine xj_cV dX7_closedFrom_58 q2192 kV_X7_forcers (M_forcers hv hf (by omega)) hO rfl rfl rfl rfl (Nat.le_of_ble_eq_true rfl) (xR_ok (by omega) (by decide)) (Nat.le_of_ble_eq_true rfl) (Nat.le_of_ble_eq_true rfl) ?_
        refine xj_lor dX7_closedFrom_61 ?_
        rw [nI_1, wb_or (Nat.lt_trans ho (by decide)) (Nat.lt_trans hfc (by decide))]
        refine xj_cV dX7_closedFrom_62 q2438 kV_X7_closedFrom (ih (a + 1) i (o ||| fcr n a) (by omega) hi (Nat.or_lt_two_pow ho hfc)) hO rfl rfl rfl rfl (Nat.le_of_ble_eq_true rfl) (xR_ok (by omega) (by decide)) (Nat.le_of_ble_eq_true rfl) (Nat.le_of_ble_eq_true rfl) ?_
        refine xj_iadd dX7_closedFrom_65 ?_
        exact xj_ireturn dX7_closedFrom_66 rfl rfl (xrv_i (by show _ = (if (i ||| o).testBit a then _ else _); rw [if_neg (fun q => by rw [q] at c18; exact absurd c18 (by decide))]))
      · refine xj_aload_n dX7_closedFrom_21 rfl rfl ?_
        refine xj_iload_n dX7_closedFrom_22 rfl ?_
        refine xj_ic1 dX7_closedFrom_23 ?_
        refine xj_iadd dX7_closedFrom_24 ?_
        refine xj_lload_n dX7_closedFrom_25 rfl ?_
        refine xj_lload dX7_closedFrom_26 rfl ?_
        rw [nI_1]
        refine xj_cV dX7_closedFrom_28 q2438 kV_X7_closedFrom (ih (a + 1) i o (by omega) hi ho) hO rfl rfl rfl rfl (Nat.le_of_ble_eq_true rfl) (xR_ok (by omega) (by decide)) (Nat.le_of_ble_eq_true rfl) (Nat.le_of_ble_eq_true rfl) ?_
        exact xj_ireturn dX7_closedFrom_31 rfl rfl (xrv_i (by show _ = (if (i ||| o).testBit a then _ else _); rw [if_pos (b1_nz c18)]))
    · exact absurd ((nI_eq (by omega) (by omega)).mp c5) (by omega)
theorem M_closed {g : Nat} {w : Int32} (hv : mV c n G) (hf : mF c n G) (hf3 : c 3 = .long (lN g)) (hg : g < 2 ^ 57) : xMet E yX7_closed cX7_closed 2 (some FieldType.int) 70 0 0 [.ref 54, .int w] G (xrv (some (.int (o_closed n g w))) G) := by
  obtain ⟨hO, hf0, h1n, hn6, hPw, hWy⟩ := id hv
  obtain ⟨hf17, L4, hL4, hFo⟩ := id hf
  have hna := na_lt n (by omega)
  refine xMet.of (lv := [some (.ref 54), some (.int w)]) rfl rfl (Nat.le_of_ble_eq_true rfl) ?_
  refine xj_iload_n dX7_closed_0 rfl ?_
  refine xj_i2l dX7_closed_1 ?_
  refine xj_lc0 dX7_closed_2 ?_
  refine xj_lc1 dX7_closed_3 ?_
  refine xj_cS dX7_closed_4 q2085 kS_X7_in M_in rfl rfl (Nat.le_of_ble_eq_true rfl) (xR_ok (by omega) (by decide)) (Nat.le_of_ble_eq_true rfl) (Nat.le_of_ble_eq_true rfl) ?_
  refine xj_if_ne (tgt := 12) dX7_closed_7 rfl (fun c7 => ?_) (fun c7 => ?_)
  · have hb := b1_nz c7
    rw [inB_c1] at hb
    refine xj_aload_n dX7_closed_12 rfl rfl ?_
    refine xj_get dX7_closed_13 K7 0 (by decide) q1929 hO (congrArg some hf0) ?_
    refine xj_bipush (v := 6) dX7_closed_16 rfl ?_
    refine xj_icmp_ne (tgt := 26) dX7_closed_18 rfl (fun c18 => ?_) (fun c18 => ?_)
    · have h6 : ¬ n = 6 := fun h => c18 (by rw [h]; rfl)
      refine xj_aload_n dX7_closed_26 rfl rfl ?_
      refine xj_ic0 dX7_closed_27 ?_
      refine xj_iload_n dX7_closed_28 rfl ?_
      refine xj_if_ne (tgt := 36) dX7_closed_29 rfl (fun c29 => ?_) (fun c29 => ?_)
      · refine xj_aload_n dX7_closed_36 rfl rfl ?_
        refine xj_get dX7_closed_37 K7 3 (by decide) q1932 hO (congrArg some hf3) ?_
        refine xj_lc0 dX7_closed_40 ?_
        refine xj_cV dX7_closed_41 q2438 kV_X7_closedFrom (M_closedFrom hv hf (na n) 0 g 0 (by omega) (by first | decide | exact hg) (by decide)) hO rfl rfl rfl rfl (Nat.le_of_ble_eq_true rfl) (xR_ok (by omega) (by decide)) (Nat.le_of_ble_eq_true rfl) (Nat.le_of_ble_eq_true rfl) ?_
        exact xj_ireturn dX7_closed_44 rfl rfl (xrv_i (by unfold o_closed; rw [if_pos hb]; first | (rw [if_neg h6, if_pos c29]; done) | (rw [if_neg h6, if_neg c29]; done) | (rw [if_pos ((nI_eq (by omega) (by decide)).mp (show nI n = nI 6 from c18))]; done)))
      · refine xj_lc0 dX7_closed_32 ?_
        refine xj_goto (tgt := 40) dX7_closed_33 rfl ?_
        refine xj_lc0 dX7_closed_40 ?_
        refine xj_cV dX7_closed_41 q2438 kV_X7_closedFrom (M_closedFrom hv hf (na n) 0 0 0 (by omega) (by first | decide | exact hg) (by decide)) hO rfl rfl rfl rfl (Nat.le_of_ble_eq_true rfl) (xR_ok (by omega) (by decide)) (Nat.le_of_ble_eq_true rfl) (Nat.le_of_ble_eq_true rfl) ?_
        exact xj_ireturn dX7_closed_44 rfl rfl (xrv_i (by unfold o_closed; rw [if_pos hb]; first | (rw [if_neg h6, if_pos c29]; done) | (rw [if_neg h6, if_neg c29]; done) | (rw [if_pos ((nI_eq (by omega) (by decide)).mp (show nI n = nI 6 from c18))]; done)))
    · refine xj_bipush (v := -4) dX7_closed_21 rfl ?_
      refine xj_goto (tgt := 44) dX7_closed_23 rfl ?_
      exact xj_ireturn dX7_closed_44 rfl rfl (xrv_i (by unfold o_closed; rw [if_pos hb]; first | (rw [if_neg h6, if_pos c29]; done) | (rw [if_neg h6, if_neg c29]; done) | (rw [if_pos ((nI_eq (by omega) (by decide)).mp (show nI n = nI 6 from c18))]; done)))
  · refine xj_icm1 dX7_closed_10 ?_
    exact xj_ireturn dX7_closed_11 rfl rfl (xrv_i (by have hb := b1_z c7; rw [inB_c1] at hb; unfold o_closed; rw [hb]; rfl))
theorem M_isSigned {m a : Nat} (hv : mV c n G) (ha : mA n G) (hA : a < na n) (hm : m < 16) : xMet E yX7_isSigned cX7_isSigned 5 (some FieldType.boolean) 2 0 0 [.ref 54, .int (nI m), .int (nI a)] G (xrv (some (.int (b1 (sgB n m a)))) G) := by
  obtain ⟨hO, hf0, h1n, hn6, hPw, hWy⟩ := id hv
  obtain ⟨L1, L2, L3, h59, h60, h61, hAr⟩ := id ha
  have hna := na_lt n (by omega)
  have hac := f_ac n (by omega) a hA
  refine xMet.of (lv := [some (.ref 54), some (.int (nI m)), some (.int (nI a)), none, none]) rfl rfl (Nat.le_of_ble_eq_true rfl) ?_
  refine xj_ic0 dX7_isSigned_0 ?_
  refine xj_istn3 dX7_isSigned_1 rfl ?_
  refine xj_aload_n dX7_isSigned_2 rfl rfl ?_
  refine xj_get dX7_isSigned_3 K7 13 (by decide) q1942 hO rfl ?_
  refine xj_iload_n dX7_isSigned_6 rfl ?_
  refine xj_iald dX7_isSigned_7 h59 rfl (by omega) (hAr a hA).1 ?_
  refine xj_ic1 dX7_isSigned_8 ?_
  refine xj_iadd dX7_isSigned_9 ?_
  refine xj_ist4 dX7_isSigned_10 rfl ?_
  rw [nI_1]
  have lp : ∀ (K : Nat) (e : Nat) (t : Bool), aH n a - e < K → (aL n a < e ∧ e ≤ aH n a) → (lpN (sgF n m a) e (aH n a - e) t = sgB n m a) → xJ E (yX7_isSigned, cX7_isSigned, 5, (some FieldType.boolean), []) (xR 2 0 0) (xrv (some (.int (b1 (sgB n m a)))) G) 0 0 12 [some (.ref 54), some (.int (nI m)), some (.int (nI a)), some (.int (b1 t)), some (.int (nI e))] [] G := by
    intro K
    induction K with
    | zero => intro e t h; exact absurd h (Nat.not_lt_zero _)
    | succ K ih_lp =>
      intro e t hK he hs
      refine xj_iload dX7_isSigned_12 rfl ?_
      refine xj_aload_n dX7_isSigned_14 rfl rfl ?_
      refine xj_get dX7_isSigned_15 K7 14 (by decide) q1943 hO rfl ?_
      refine xj_iload_n dX7_isSigned_18 rfl ?_
      refine xj_iald dX7_isSigned_19 h60 rfl (by omega) (hAr a hA).2.1 ?_
      refine xj_icmp_ge (tgt := 56) dX7_isSigned_20 rfl (fun c20 => ?_) (fun c20 => ?_)
      · refine xj_iload_n dX7_isSigned_56 rfl ?_
        exact xj_ireturn dX7_isSigned_57 rfl (b1_nar _) (xrv_i (by rw [lp_end _ (Nat.le_of_not_lt fun h => absurd c20 (nI_ge h (by omega)))] at hs; rw [hs]))
      · have hen : e < aH n a := Nat.lt_of_not_le fun h => c20 (nI_le h (by omega))
        refine xj_iload_n dX7_isSigned_23 rfl ?_
        refine xj_aload_n dX7_isSigned_24 rfl rfl ?_
        refine xj_iload_n dX7_isSigned_25 rfl ?_
        refine xj_iload dX7_isSigned_26 rfl ?_
        refine xj_cV dX7_isSigned_28 q1922 kV_X7_isLeft (M_isLeft hv ha hA he.1 (by omega)) hO rfl rfl rfl rfl (Nat.le_of_ble_eq_true rfl) ⟨(Nat.le_of_ble_eq_true rfl), (Nat.le_of_ble_eq_true rfl)⟩ (Nat.le_of_ble_eq_true rfl) (Nat.le_of_ble_eq_true rfl) ?_
        refine xj_iload_n dX7_isSigned_31 rfl ?_
        refine xj_i2l dX7_isSigned_32 ?_
        refine xj_iload dX7_isSigned_33 rfl ?_
        refine xj_ic2 dX7_isSigned_35 ?_
        refine xj_isub dX7_isSigned_36 ?_
        refine xj_top (show nI e - nI 2 = nI (e - 2) from pk_sub (by omega)) ?_
        refine xj_eq rfl (by rw [nI_l (by omega)]) rfl ?_
        refine xj_cS dX7_isSigned_37 q1926 kS_X7_has (M_has (m := m) (k := e - 2) (by omega) (by omega)) rfl rfl (Nat.le_of_ble_eq_true rfl) ⟨(Nat.le_of_ble_eq_true rfl), (Nat.le_of_ble_eq_true rfl)⟩ (Nat.le_of_ble_eq_true rfl) (Nat.le_of_ble_eq_true rfl) ?_
        refine xj_sI_icmp_eq (tgt := 47) (M := 48) dX7_isSigned_40 rfl (fun c40 k => by
            refine xj_ic0 dX7_isSigned_47 ?_
            exact k) (fun c40 k => by
            refine xj_ic1 dX7_isSigned_43 ?_
            refine xj_goto (tgt := 48) dX7_isSigned_44 rfl ?_
            exact k) ?_
        refine xj_ior dX7_isSigned_48 ?_
        refine xj_top (y := b1 (sgF n m a e t)) (by unfold sgF; cases t <;> cases lft n a e <;> cases m.testBit (e - 2) <;> rfl) ?_
        refine xj_istn3 dX7_isSigned_49 rfl ?_
        refine xj_iinc4 (cst := 1) dX7_isSigned_50 rfl rfl ?_
        rw [nI_1]
        refine xj_goto (tgt := 12) dX7_isSigned_53 rfl ?_
        exact ih_lp (e + 1) _ (by omega) (by omega) (by rw [← hs, lp_step _ hen])
  exact lp (aH n a + 1) (aL n a + 1) false (by omega) (by omega) rfl
theorem M_takes {kd m a : Nat} (hv : mV c n G) (ha : mA n G) (hA : a < na n) (hm : m < 16) (hkd : kd < 6) : xMet E yX7_takes cX7_takes 7 (some FieldType.boolean) 3 0 0 [.ref 54, .int (nI kd), .int (nI m), .int (nI a)] G (xrv (some (.int (b1 (tkB n kd m a)))) G) := by
  obtain ⟨hO, hf0, h1n, hn6, hPw, hWy⟩ := id hv
  obtain ⟨L1, L2, L3, h59, h60, h61, hAr⟩ := id ha
  have hna := na_lt n (by omega)
  have hac := f_ac n (by omega) a hA
  have hl := f_lf n (by omega) a hA
  have hbw : bw n a < 8 := by unfold bw; omega
  refine xMet.of (lv := [some (.ref 54), some (.int (nI kd)), some (.int (nI m)), some (.int (nI a)), none, none, none]) rfl rfl (Nat.le_of_ble_eq_true rfl) ?_
  refine xj_aload_n dX7_takes_0 rfl rfl ?_
  refine xj_get dX7_takes_1 K7 14 (by decide) q1943 hO rfl ?_
  refine xj_iload_n dX7_takes_4 rfl ?_
  refine xj_iald dX7_takes_5 h60 rfl (by omega) (hAr a hA).2.1 ?_
  refine xj_aload_n dX7_takes_6 rfl rfl ?_
  refine xj_get dX7_takes_7 K7 13 (by decide) q1942 hO rfl ?_
  refine xj_iload_n dX7_takes_10 rfl ?_
  refine xj_iald dX7_takes_11 h59 rfl (by omega) (hAr a hA).1 ?_
  refine xj_isub dX7_takes_12 ?_
  refine xj_ic1 dX7_takes_13 ?_
  refine xj_isub dX7_takes_14 ?_
  refine xj_top (y := nI (bw n a)) (by rw [pk_sub (by omega), nI_sub1 (by omega)]; rfl) ?_
  refine xj_ist4 dX7_takes_15 rfl ?_
  refine xj_aload_n dX7_takes_17 rfl rfl ?_
  refine xj_get dX7_takes_18 K7 15 (by decide) q1944 hO rfl ?_
  refine xj_iload_n dX7_takes_21 rfl ?_
  refine xj_iald dX7_takes_22 h61 rfl (by omega) (hAr a hA).2.2 ?_
  refine xj_i2l dX7_takes_23 ?_
  refine xj_topl (nI_l (by omega)) ?_
  refine xj_cS dX7_takes_24 q2124 kS_X7_ones (M_ones (by omega)) rfl rfl (Nat.le_of_ble_eq_true rfl) ⟨(Nat.le_of_ble_eq_true rfl), (Nat.le_of_ble_eq_true rfl)⟩ (Nat.le_of_ble_eq_true rfl) (Nat.le_of_ble_eq_true rfl) ?_
  refine xj_top (y := nI (lf n a)) rfl ?_
  refine xj_ist5 dX7_takes_27 rfl ?_
  refine xj_iload dX7_takes_29 rfl ?_
  refine xj_iload dX7_takes_31 rfl ?_
  refine xj_isub dX7_takes_33 ?_
  refine xj_top (y := nI (bw n a - lf n a)) (pk_sub hl) ?_
  refine xj_ist6 dX7_takes_34 rfl ?_
  refine xj_iload_n dX7_takes_36 rfl ?_
  refine xj_tabs (tg := [72, 83, 97, 113, 120]) (tgt := 141) dX7_takes_37 rfl rfl rfl ⟨fun c37 => ?_, fun c37 => ?_, fun c37 => ?_, fun c37 => ?_, fun c37 => ?_, trivial⟩ (fun c37 => ?_)
  · refine xj_iload dX7_takes_72 rfl ?_
    refine xj_if_le (tgt := 81) dX7_takes_74 rfl (fun c74 => ?_) (fun c74 => ?_)
    · refine xj_ic0 dX7_takes_81 ?_
      exact xj_ireturn dX7_takes_82 rfl (by rfl) (xrv_i (by rw [show kd = 1 from (nI_eq (by omega) (by decide)).mp c37]; show _ = b1 (decide (0 < lf n a)); first | (rw [decide_eq_true (nI_lt0 c74)]; rfl) | (rw [decide_eq_false (nI_nlt0 (by omega) c74)]; rfl)))
    · refine xj_ic1 dX7_takes_77 ?_
      refine xj_goto (tgt := 82) dX7_takes_78 rfl ?_
      exact xj_ireturn dX7_takes_82 rfl (by rfl) (xrv_i (by rw [show kd = 1 from (nI_eq (by omega) (by decide)).mp c37]; show _ = b1 (decide (0 < lf n a)); first | (rw [decide_eq_true (nI_lt0 c74)]; rfl) | (rw [decide_eq_false (nI_nlt0 (by omega) c74)]; rfl)))
  · refine xj_iload dX7_takes_83 rfl ?_
    refine xj_ic1 dX7_takes_85 ?_
    refine xj_iadd dX7_takes_86 ?_
    refine xj_iload_n dX7_takes_87 rfl ?_
    rw [nI_1]
    refine xj_icmp_le (tgt := 95) dX7_takes_88 rfl (fun c88 => ?_) (fun c88 => ?_)
    · refine xj_ic0 dX7_takes_95 ?_
      exact xj_ireturn dX7_takes_96 rfl (by rfl) (xrv_i (by rw [show kd = 2 from (nI_eq (by omega) (by decide)).mp c37]; show _ = b1 (decide (m < bw n a + 1)); first | (rw [decide_eq_false (Nat.not_lt.mpr ((nI_leI (by omega) (by omega)).mp c88))]; rfl) | (rw [decide_eq_true (Nat.lt_of_not_le fun h => c88 ((nI_leI (by omega) (by omega)).mpr h))]; rfl)))
    · refine xj_ic1 dX7_takes_91 ?_
      refine xj_goto (tgt := 96) dX7_takes_92 rfl ?_
      exact xj_ireturn dX7_takes_96 rfl (by rfl) (xrv_i (by rw [show kd = 2 from (nI_eq (by omega) (by decide)).mp c37]; show _ = b1 (decide (m < bw n a + 1)); first | (rw [decide_eq_false (Nat.not_lt.mpr ((nI_leI (by omega) (by omega)).mp c88))]; rfl) | (rw [decide_eq_true (Nat.lt_of_not_le fun h => c88 ((nI_leI (by omega) (by omega)).mpr h))]; rfl)))
  · refine xj_iload dX7_takes_97 rfl ?_
    refine xj_if_le (tgt := 111) dX7_takes_99 rfl (fun c99 => ?_) (fun c99 => ?_)
    · refine xj_ic0 dX7_takes_111 ?_
      exact xj_ireturn dX7_takes_112 rfl (by rfl) (xrv_i (by rw [show kd = 3 from (nI_eq (by omega) (by decide)).mp c37]; show _ = b1 (decide (0 < lf n a) && decide (0 < bw n a - lf n a)); first | (rw [decide_eq_true (nI_lt0 c99), decide_eq_true (nI_lt0 c104)]; rfl) | (rw [decide_eq_true (nI_lt0 c99), decide_eq_false (nI_nlt0 (by omega) c104)]; rfl) | (rw [decide_eq_false (nI_nlt0 (by omega) c99)]; rfl)))
    · refine xj_iload dX7_takes_102 rfl ?_
      refine xj_if_le (tgt := 111) dX7_takes_104 rfl (fun c104 => ?_) (fun c104 => ?_)
      · refine xj_ic0 dX7_takes_111 ?_
        exact xj_ireturn dX7_takes_112 rfl (by rfl) (xrv_i (by rw [show kd = 3 from (nI_eq (by omega) (by decide)).mp c37]; show _ = b1 (decide (0 < lf n a) && decide (0 < bw n a - lf n a)); first | (rw [decide_eq_true (nI_lt0 c99), decide_eq_true (nI_lt0 c104)]; rfl) | (rw [decide_eq_true (nI_lt0 c99), decide_eq_false (nI_nlt0 (by omega) c104)]; rfl) | (rw [decide_eq_false (nI_nlt0 (by omega) c99)]; rfl)))
      · refine xj_ic1 dX7_takes_107 ?_
        refine xj_goto (tgt := 112) dX7_takes_108 rfl ?_
        exact xj_ireturn dX7_takes_112 rfl (by rfl) (xrv_i (by rw [show kd = 3 from (nI_eq (by omega) (by decide)).mp c37]; show _ = b1 (decide (0 < lf n a) && decide (0 < bw n a - lf n a)); first | (rw [decide_eq_true (nI_lt0 c99), decide_eq_true (nI_lt0 c104)]; rfl) | (rw [decide_eq_true (nI_lt0 c99), decide_eq_false (nI_nlt0 (by omega) c104)]; rfl) | (rw [decide_eq_false (nI_nlt0 (by omega) c99)]; rfl)))
  · refine xj_aload_n dX7_takes_113 rfl rfl ?_
    refine xj_iload_n dX7_takes_114 rfl ?_
    refine xj_iload_n dX7_takes_115 rfl ?_
    refine xj_cV dX7_takes_116 q2256 kV_X7_isSigned (M_isSigned hv ha hA hm) hO rfl rfl rfl rfl (Nat.le_of_ble_eq_true rfl) ⟨(Nat.le_of_ble_eq_true rfl), (Nat.le_of_ble_eq_true rfl)⟩ (Nat.le_of_ble_eq_true rfl) (Nat.le_of_ble_eq_true rfl) ?_
    exact xj_ireturn dX7_takes_119 rfl (b1_nar _) (xrv_i (by rw [show kd = 4 from (nI_eq (by omega) (by decide)).mp c37]; rfl))
  · refine xj_iload dX7_takes_120 rfl ?_
    refine xj_ic1 dX7_takes_122 ?_
    refine xj_iadd dX7_takes_123 ?_
    refine xj_iload_n dX7_takes_124 rfl ?_
    rw [nI_1]
    refine xj_icmp_gt (tgt := 135) dX7_takes_125 rfl (fun c125 => ?_) (fun c125 => ?_)
    · refine xj_ic1 dX7_takes_135 ?_
      refine xj_goto (tgt := 140) dX7_takes_136 rfl ?_
      exact xj_ireturn dX7_takes_140 rfl (by rfl) (xrv_i (by rw [show kd = 5 from (nI_eq (by omega) (by decide)).mp c37]; show _ = b1 (decide (m < bw n a + 1) || decide (bw n a - lf n a < lf n a)); first | (rw [decide_eq_true (Nat.lt_of_not_le fun h => absurd c125 (fun q => absurd ((nI_ltI (by omega) (by omega)).mp q) (by omega)))]; rfl) | (rw [decide_eq_false (fun h => c125 ((nI_ltI (by omega) (by omega)).mpr h)), decide_eq_false (Nat.not_lt.mpr ((nI_leI (by omega) (by omega)).mp c132))]; rfl) | (rw [decide_eq_true (p := bw n a - lf n a < lf n a) (Nat.lt_of_not_le fun h => c132 ((nI_leI (by omega) (by omega)).mpr h)), Bool.or_true]; rfl)))
    · refine xj_iload dX7_takes_128 rfl ?_
      refine xj_iload dX7_takes_130 rfl ?_
      refine xj_icmp_le (tgt := 139) dX7_takes_132 rfl (fun c132 => ?_) (fun c132 => ?_)
      · refine xj_ic0 dX7_takes_139 ?_
        exact xj_ireturn dX7_takes_140 rfl (by rfl) (xrv_i (by rw [show kd = 5 from (nI_eq (by omega) (by decide)).mp c37]; show _ = b1 (decide (m < bw n a + 1) || decide (bw n a - lf n a < lf n a)); first | (rw [decide_eq_true (Nat.lt_of_not_le fun h => absurd c125 (fun q => absurd ((nI_ltI (by omega) (by omega)).mp q) (by omega)))]; rfl) | (rw [decide_eq_false (fun h => c125 ((nI_ltI (by omega) (by omega)).mpr h)), decide_eq_false (Nat.not_lt.mpr ((nI_leI (by omega) (by omega)).mp c132))]; rfl) | (rw [decide_eq_true (p := bw n a - lf n a < lf n a) (Nat.lt_of_not_le fun h => c132 ((nI_leI (by omega) (by omega)).mpr h)), Bool.or_true]; rfl)))
      · refine xj_ic1 dX7_takes_135 ?_
        refine xj_goto (tgt := 140) dX7_takes_136 rfl ?_
        exact xj_ireturn dX7_takes_140 rfl (by rfl) (xrv_i (by rw [show kd = 5 from (nI_eq (by omega) (by decide)).mp c37]; show _ = b1 (decide (m < bw n a + 1) || decide (bw n a - lf n a < lf n a)); first | (rw [decide_eq_true (Nat.lt_of_not_le fun h => absurd c125 (fun q => absurd ((nI_ltI (by omega) (by omega)).mp q) (by omega)))]; rfl) | (rw [decide_eq_false (fun h => c125 ((nI_ltI (by omega) (by omega)).mpr h)), decide_eq_false (Nat.not_lt.mpr ((nI_leI (by omega) (by omega)).mp c132))]; rfl) | (rw [decide_eq_true (p := bw n a - lf n a < lf n a) (Nat.lt_of_not_le fun h => c132 ((nI_leI (by omega) (by omega)).mpr h)), Bool.or_true]; rfl)))
  · refine xj_ic0 dX7_takes_141 ?_
    exact xj_ireturn dX7_takes_142 rfl rfl (xrv_i (by unfold tkB; rw [nI_toInt (by omega)] at c37; rw [if_neg (by omega), if_neg (by omega), if_neg (by omega), if_neg (by omega), if_neg (by omega)]; rfl))
theorem M_takenBy {kd m : Nat} (hv : mV c n G) (ha : mA n G) (hf17 : c 17 = .int (nI (na n))) (hm : m < 16) (hkd : kd < 6) : xMet E yX7_takenBy cX7_takenBy 6 (some FieldType.long) 4 0 0 [.ref 54, .int (nI kd), .int (nI m)] G (xrv (some (.long (lN (tkS n kd m)))) G) := by
  obtain ⟨hO, hf0, h1n, hn6, hPw, hWy⟩ := id hv
  have hna := na_lt n (by omega)
  refine xMet.of (lv := [some (.ref 54), some (.int (nI kd)), some (.int (nI m)), none, none, none]) rfl rfl (Nat.le_of_ble_eq_true rfl) ?_
  refine xj_lc0 dX7_takenBy_0 ?_
  refine xj_lstn3 dX7_takenBy_1 rfl ?_
  refine xj_ic0 dX7_takenBy_2 ?_
  refine xj_ist5 dX7_takenBy_3 rfl ?_
  have lp : ∀ (K : Nat) (x : Nat) (s : Nat), na n - x < K → (x ≤ na n) → (s < 2 ^ 57) → (lpN (fun x s => s ||| (if tkB n kd m x then 2 ^ x else 0)) x (na n - x) s = tkS n kd m) → xJ E (yX7_takenBy, cX7_takenBy, 6, (some FieldType.long), []) (xR 4 0 0) (xrv (some (.long (lN (tkS n kd m)))) G) 0 0 5 [some (.ref 54), some (.int (nI kd)), some (.int (nI m)), some (.long (lN s)), none, some (.int (nI x))] [] G := by
    intro K
    induction K with
    | zero => intro x s h; exact absurd h (Nat.not_lt_zero _)
    | succ K ih_lp =>
      intro x s hK hp hs57 hs
      refine xj_iload dX7_takenBy_5 rfl ?_
      refine xj_aload_n dX7_takenBy_7 rfl rfl ?_
      refine xj_get dX7_takenBy_8 K7 17 (by decide) q1946 hO (congrArg some hf17) ?_
      refine xj_icmp_ge (tgt := 42) dX7_takenBy_11 rfl (fun c11 => ?_) (fun c11 => ?_)
      · have hxn : na n ≤ x := Nat.le_of_not_lt fun h => absurd c11 (nI_ge h (by omega))
        refine xj_lload_n dX7_takenBy_42 rfl ?_
        exact xj_lreturn dX7_takenBy_43 rfl (xrv_l (by rw [← hs, lp_end _ hxn]))
      · have hxn : x < na n := Nat.lt_of_not_le fun h => c11 (nI_le h (by omega))
        refine xj_lload_n dX7_takenBy_14 rfl ?_
        refine xj_aload_n dX7_takenBy_15 rfl rfl ?_
        refine xj_iload_n dX7_takenBy_16 rfl ?_
        refine xj_iload_n dX7_takenBy_17 rfl ?_
        refine xj_iload dX7_takenBy_18 rfl ?_
        refine xj_cV dX7_takenBy_20 q2252 kV_X7_takes (M_takes hv ha hxn hm hkd) hO rfl rfl rfl rfl (Nat.le_of_ble_eq_true rfl) ⟨(Nat.le_of_ble_eq_true rfl), (Nat.le_of_ble_eq_true rfl)⟩ (Nat.le_of_ble_eq_true rfl) (Nat.le_of_ble_eq_true rfl) ?_
        refine xj_sL_if_eq (tgt := 33) (M := 34) dX7_takenBy_23 rfl (fun c23 k => by
            refine xj_lc0 dX7_takenBy_33 ?_
            exact k) (fun c23 k => by
            refine xj_lc1 dX7_takenBy_26 ?_
            refine xj_iload dX7_takenBy_27 rfl ?_
            refine xj_lshl dX7_takenBy_29 ?_
            refine xj_goto (tgt := 34) dX7_takenBy_30 rfl ?_
            exact k) ?_
        rw [l_one_shl (by omega)]
        refine xj_topl c_selL ?_
        have hlt : (if tkB n kd m x = true then 2 ^ x else 0) < 2 ^ 57 := if_lt_pow (by omega)
        refine xj_lor dX7_takenBy_34 ?_
        rw [wb_or (Nat.lt_trans hs57 (by decide)) (Nat.lt_trans hlt (by decide))]
        refine xj_lstn3 dX7_takenBy_35 rfl ?_
        refine xj_iinc5 (cst := 1) dX7_takenBy_36 rfl rfl ?_
        rw [nI_1]
        refine xj_goto (tgt := 5) dX7_takenBy_39 rfl ?_
        exact ih_lp (x + 1) _ (by omega) (by omega) (Nat.or_lt_two_pow hs57 hlt) (by rw [← hs, lp_step _ hxn])
  exact lp (na n + 1) 0 0 (by omega) (by omega) (by decide) rfl
end M12
