/-! ===== the class: one condition parsed ===== -/
set_option maxRecDepth 100000
theorem kV_X0_cond : xsV yX0_cond cX0_cond 3 (some (FieldType.object "CoarserOrders$Cond")) 1 := ⟨q1030, qs40, q151, q1031, by decide, by decide, by decide +kernel⟩
theorem kV_X0_oneOf : xsV yX0_oneOf cX0_oneOf 4 (some (FieldType.object "CoarserOrders$Cond")) 1 := ⟨q1038, qs42, q151, q1039, by decide, by decide, by decide +kernel⟩
theorem kV_X0_value : xsV yX0_value cX0_value 2 (some (FieldType.object "CoarserOrders$Value")) 0 := ⟨q1128, qs47, q151, q1129, by decide, by decide, by decide +kernel⟩
theorem kV_X0_want : xsV yX0_want cX0_want 2 none 1 := ⟨q1114, qs45, q151, q1115, by decide, by decide, by decide +kernel⟩
theorem kI_X17_init : xsI yX17_init cX17_init 4 3 := ⟨q1154, q180, q1155, rfl, by decide, by decide, by decide +kernel⟩
theorem kI_X15_init : xsI yX15_init cX15_init 2 1 := ⟨q1100, q178, q1101, rfl, by decide, by decide, by decide +kernel⟩
theorem n0 {k : Nat} (h : 0 < k) : k ∉ [0] := by intro q; rcases List.mem_singleton.mp q with rfl; omega
theorem gfa.new {W : List Nat} {G H : xH} {b : Nat} {x : xC} (h : gfa W G H) (hb : G.length ≤ b) : gfa W G (H.set b x) := ⟨by rw [List.length_set]; exact h.1, fun i hl hi => by rw [gset (by omega)]; exact h.2 i hl hi⟩
def pYs (E : xE) (d r : Nat → Value) (tp : List Nat) (LT : List Int32) (y : MethodName) (bytes : ByteArray) (mL : Nat) (ret : Option FieldType) (m f : Nat) : Prop := ∀ (o e : Nat) (G : xH) (q : List Int32 × Nat), o ≤ 3 → e ≤ tp.length → tpV d r tp LT e G → prs tp f m o [] e = some (.inr q) → xMet E y bytes mL ret (10 + f) (q.2 - e) (3 * (q.2 - e)) [.ref 0, .int (nI o)] G (pPy d tp q G)
def pNs (E : xE) (d r : Nat → Value) (tp : List Nat) (LT : List Int32) (y : MethodName) (bytes : ByteArray) (mL : Nat) (ret : Option FieldType) (m f : Nat) : Prop := ∀ (o e : Nat) (G : xH) (p : Nat), o ≤ 3 → e ≤ tp.length → tpV d r tp LT e G → prs tp f m o [] e = some (.inl p) → xMet E y bytes mL ret (10 + f) (tp.length - e + 1) (3 * (tp.length - e + 1)) [.ref 0, .int (nI o)] G (pPn d r p G)
section A52
variable {E : xE} {d : Nat → Value} {n : Nat}
theorem A_oneY {f : Nat} {LT : List Int32} {tp : List Nat} {r : Nat → Value} (i0 : (pYs E d r tp LT yX0_oneOf cX0_oneOf 4 (some (FieldType.object "CoarserOrders$Cond")) 0 f)) (i3 : (pYs E d r tp LT yX0_cond cX0_cond 3 (some (FieldType.object "CoarserOrders$Cond")) 3 f)) : (pYs E d r tp LT yX0_oneOf cX0_oneOf 4 (some (FieldType.object "CoarserOrders$Cond")) 0 (f + 1)) := by
  intro o e G q ho he hv0 hp
  obtain ⟨hO, hd17, h19, hLT, hN, fv, hF⟩ := id hv0
  have hl0 : 0 < G.length := (List.getElem?_eq_some_iff.mp hO).1
  have hnb := nxT_b he
  have hnf := nxF_b he
  have htp := hLT.2.1
  have hl200 := hLT.1
  cases hw5 : isW tp e 5 with
  | true =>
    rcases prs_ncl hp hw5 with ⟨p, -, h⟩ | ⟨q1, hp1, h⟩
    · cases h
    · cases h
      have hwl : nxT tp e = nxF tp e + 3 := isW_len he hw5
      have b1 := prs_b f 0 o [] (nxT tp e) q1 hnb.2 hp1 (Or.inr (Or.inr (Or.inr rfl)))
      show xMet E yX0_oneOf cX0_oneOf 4 (some (FieldType.object "CoarserOrders$Cond")) (10 + (f + 1)) (q1.2 - e) (3 * (q1.2 - e)) [.ref 0, .int (nI o)] G (pPy d tp (q1.1 ++ [-9], q1.2) G)
      refine xMet.of (lv := [some (.ref 0), some (.int (nI o)), none, none]) rfl rfl (Nat.le_of_ble_eq_true rfl) ?_
      refine xj_aload_n dX0_oneOf_0 rfl rfl ?_
      refine xj_ldcSw (u := 5) dX0_oneOf_1 (List.mem_of_getElem? (i := 5) rfl) ?_
      refine xj_cV dX0_oneOf_4 q1041 kV_X0_goesOn (A_goesOnWY (u := 5) hO hd17 h19 hLT he (by decide) hw5) hO rfl rfl rfl rfl (Nat.le_of_ble_eq_true rfl) (xR_ok (by omega) (by decide)) (Nat.le_of_ble_eq_true rfl) (Nat.le_of_ble_eq_true rfl) ?_
      refine xj_if_eq (tgt := 23) dX0_oneOf_7 rfl (fun c7 => absurd c7 (by decide)) (fun c7 => ?_)
      refine xj_new (fs := [.null]) dX0_oneOf_10 K15 q1097 q1098 q178 rfl (by omega) (by omega) ?_
      rw [gtE_len]
      obtain ⟨l1, f1, z1, c1⟩ := nx_facts (G := G) (x := cO 15 [.null]) (d := d) (tp := tp) (e := nxT tp e) hO
      obtain ⟨H1, hH1⟩ : ∃ H1, H1 = gtE G d tp (nxT tp e) ++ [cO 15 [.null]] := ⟨_, rfl⟩
      rw [← hH1] at l1 f1 z1 c1 ⊢
      have hv1 := hv0.mv f1 z1
      refine xj_dup dX0_oneOf_13 rfl ?_
      refine xj_aload_n dX0_oneOf_14 rfl rfl ?_
      refine xj_iload_n dX0_oneOf_15 rfl ?_
      refine xj_dV dX0_oneOf_16 q1036 kV_X0_oneOf (i0 o (nxT tp e) H1 q1 ho hnb.2 hv1 hp1) z1 rfl rfl rfl rfl (Nat.le_of_ble_eq_true rfl) (xR_ok (by omega) (by decide)) (by omega) (by omega) ?_
      rintro _ H2 ⟨a, rfl, hc2, f2, z2⟩
      have k2 : H2[G.length]? = some (cO 15 [.null]) := (f2.2 G.length (by omega) (n0 (by omega))).trans c1
      refine xj_cI dX0_oneOf_19 q1099 kI_X15_init (A_notInit k2) rfl rfl (Nat.le_of_ble_eq_true rfl) (xR_ok (by omega) (by decide)) (Nat.le_of_ble_eq_true rfl) (Nat.le_of_ble_eq_true rfl) ?_
      exact xj_areturn dX0_oneOf_22 rfl (Or.inl ⟨_, rfl⟩) rfl ⟨_, rfl, by rw [List.length_append]; exact Or.inr (Or.inl ⟨a, q1.1, gset_self k2, hc2.put k2 cdC_15, rfl⟩), (f1.trans f2).new (Nat.le_refl _), by rw [gset (by omega)]; exact z2⟩
  | false =>
    refine xMet.of (lv := [some (.ref 0), some (.int (nI o)), none, none]) rfl rfl (Nat.le_of_ble_eq_true rfl) ?_
    refine xj_aload_n dX0_oneOf_0 rfl rfl ?_
    refine xj_ldcSw (u := 5) dX0_oneOf_1 (List.mem_of_getElem? (i := 5) rfl) ?_
    refine xj_cV dX0_oneOf_4 q1041 kV_X0_goesOn (A_goesOnWN (u := 5) hO hd17 h19 hLT he (by decide) hw5) hO rfl rfl rfl rfl (Nat.le_of_ble_eq_true rfl) (xR_ok (by omega) (by decide)) (Nat.le_of_ble_eq_true rfl) (Nat.le_of_ble_eq_true rfl) ?_
    refine xj_if_eq (tgt := 23) dX0_oneOf_7 rfl (fun c7 => ?_) (fun c7 => absurd rfl c7)
    refine xj_iload_n dX0_oneOf_23 rfl ?_
    refine xj_ic3 dX0_oneOf_24 ?_
    refine xj_icmp_ge (tgt := 55) dX0_oneOf_25 rfl (fun c25 => ?_) (fun c25 => ?_)
    · obtain rfl : o = 3 := by have := Nat.le_of_not_lt fun h => absurd c25 (nI_ge (b := 3) h (by decide)); omega
      have hcm : pCmp tp e = .inr q := by
        cases hw6 : isW tp e 6 with
        | false => exact (prs_cmp hp hw5 hw6).symm
        | true =>
          rcases prs_par hp hw5 hw6 with ⟨-, h⟩ | ⟨h, -⟩
          · cases h
          · exact absurd rfl h
      obtain ⟨q1, q2, h1, hs0, h2, rfl⟩ := pCmp_Y hcm
      obtain ⟨b1e, b1l, b1t⟩ := pVal_e he h1
      have hnb1 := nxT_b b1t
      have hnf1 := nxF_b b1t
      have hsg := sgn_Y b1t (fun p hp => (tpB_at hLT hp).2) hs0
      have hlt1 : nxF tp q1.2 < tp.length := by have := hsg.1; omega
      have hnt1 := nxT_lt hlt1
      obtain ⟨b2e, b2l, b2t⟩ := pVal_e hnb1.2 h2
      refine xj_aload_n dX0_oneOf_55 rfl rfl ?_
      refine xj_dV dX0_oneOf_56 q1126 kV_X0_value (A_valueY hO hd17 h19 hLT he hN h1) hO rfl rfl rfl rfl (Nat.le_of_ble_eq_true rfl) (xR_ok (by omega) (by decide)) (by show 1 ≤ q2.2 - e; omega) (by show 2 ≤ 3 * (q2.2 - e); omega) ?_
      rintro _ H1 ⟨rfl, hH1⟩
      obtain ⟨l1, f1, z1, c1⟩ := vl_facts hO hH1
      have hv1 := hv0.mv f1 z1
      obtain ⟨hO1, -, h191, -, hN1, fv1, hF1⟩ := id hv1
      show xJ _ _ _ _ (q2.2 - e - 1) (3 * (q2.2 - e) - 2) _ _ _ _
      refine xj_astn2 dX0_oneOf_59 rfl rfl ?_
      refine xj_aload_n dX0_oneOf_60 rfl rfl ?_
      refine xj_get dX0_oneOf_61 K0 19 (by decide) q488 hO1 rfl ?_
      refine xj_aload_n dX0_oneOf_64 rfl rfl ?_
      refine xj_get dX0_oneOf_65 K0 18 (by decide) q487 hO1 rfl ?_
      refine xj_isub dX0_oneOf_68 ?_
      refine xj_ic1 dX0_oneOf_69 ?_
      rw [pk_sub hnb1.1]
      refine xj_icmp_ne (tgt := 85) dX0_oneOf_70 rfl (fun c70 => absurd (by rw [hsg.1]; rfl) c70) (fun c70 => ?_)
      refine xj_aload_n dX0_oneOf_73 rfl rfl ?_
      refine xj_get dX0_oneOf_74 K0 16 (by decide) q485 hO1 rfl ?_
      refine xj_aload_n dX0_oneOf_77 rfl rfl ?_
      refine xj_get dX0_oneOf_78 K0 18 (by decide) q487 hO1 rfl ?_
      refine xj_bald dX0_oneOf_81 h191 rfl (by omega) (tpB_at hLT hlt1).1 ?_
      refine xj_goto (tgt := 86) dX0_oneOf_82 rfl ?_
      refine xj_istn3 dX0_oneOf_86 rfl ?_
      refine xj_iload_n dX0_oneOf_87 rfl ?_
      refine xj_bipush (v := 60) dX0_oneOf_88 rfl ?_
      refine xj_icmp_eq (tgt := 110) dX0_oneOf_90 rfl (fun c90 => ?_) (fun c90 => ?_)
      · refine xj_aload_n dX0_oneOf_110 rfl rfl ?_
        refine xj_cV dX0_oneOf_111 q1018 kV_X0_next (A_next hO1 hd17 h191 hLT hnb1.2) hO1 rfl rfl rfl rfl (Nat.le_of_ble_eq_true rfl) (xR_ok (by omega) (by decide)) (Nat.le_of_ble_eq_true rfl) (Nat.le_of_ble_eq_true rfl) ?_
        refine xj_new (fs := [.null, .null, .int 0]) dX0_oneOf_114 K17 q1151 q1152 q180 rfl (by omega) (by omega) ?_
        rw [show H1.set 0 (cO 0 (cFs (dT d (nxF tp (nxT tp q1.2)) (nxT tp (nxT tp q1.2))))) = gtE H1 d tp (nxT tp q1.2) from rfl]
        rw [gtE_len]
        obtain ⟨l2, f2, z2, c2⟩ := nx_facts (G := H1) (x := cO 17 [.null, .null, .int 0]) (d := d) (tp := tp) (e := nxT tp q1.2) hO1
        obtain ⟨H2, hH2⟩ : ∃ H2, H2 = gtE H1 d tp (nxT tp q1.2) ++ [cO 17 [.null, .null, .int 0]] := ⟨_, rfl⟩
        rw [← hH2] at l2 f2 z2 c2 ⊢
        have hv2 := hv1.mv f2 z2
        obtain ⟨hO2, -, h192, -, hN2, fv2, hF2⟩ := id hv2
        refine xj_dup dX0_oneOf_117 rfl ?_
        refine xj_aload_n dX0_oneOf_118 rfl rfl ?_
        refine xj_iload_n dX0_oneOf_119 rfl ?_
        refine xj_aload_n dX0_oneOf_120 rfl rfl ?_
        refine xj_dV dX0_oneOf_121 q1126 kV_X0_value (A_valueY hO2 hd17 h192 hLT hnb1.2 hN2 h2) hO2 rfl rfl rfl rfl (Nat.le_of_ble_eq_true rfl) (xR_ok (by omega) (by decide)) (by omega) (by omega) ?_
        rintro _ H3 ⟨rfl, hH3⟩
        obtain ⟨l3, f3, z3, c3⟩ := vl_facts hO2 hH3
        have k3 : H3[H1.length]? = some (cO 17 [.null, .null, .int 0]) := (f3.2 H1.length (by omega) (n0 (by omega))).trans c2
        have k1 : H3[G.length]? = some (cO 16 (vFs q1.1)) := (f3.2 G.length (by omega) (n0 (by omega))).trans ((f2.2 G.length (by omega) (n0 (by omega))).trans c1)
        refine xj_cI dX0_oneOf_124 q1153 kI_X17_init (A_asksInit k3) rfl rfl (Nat.le_of_ble_eq_true rfl) (xR_ok (by omega) (by decide)) (Nat.le_of_ble_eq_true rfl) (Nat.le_of_ble_eq_true rfl) ?_
        exact xj_areturn dX0_oneOf_127 rfl (Or.inl ⟨_, rfl⟩) rfl ⟨_, rfl, Or.inl ⟨G.length, H2.length, _, q1.1, q2.1, sgn tp q1.2, gset_self k3, by rw [gset (by omega)]; exact k1, by rw [gset (by omega)]; exact c3, ⟨hsg.2, pVal_v h1, pVal_v h2⟩, rfl⟩, ((f1.trans f2).trans f3).new (by omega), by rw [gset (by omega)]; exact z3⟩
      · refine xj_iload_n dX0_oneOf_93 rfl ?_
        refine xj_bipush (v := 61) dX0_oneOf_94 rfl ?_
        refine xj_icmp_eq (tgt := 110) dX0_oneOf_96 rfl (fun c96 => ?_) (fun c96 => ?_)
        · refine xj_aload_n dX0_oneOf_110 rfl rfl ?_
          refine xj_cV dX0_oneOf_111 q1018 kV_X0_next (A_next hO1 hd17 h191 hLT hnb1.2) hO1 rfl rfl rfl rfl (Nat.le_of_ble_eq_true rfl) (xR_ok (by omega) (by decide)) (Nat.le_of_ble_eq_true rfl) (Nat.le_of_ble_eq_true rfl) ?_
          refine xj_new (fs := [.null, .null, .int 0]) dX0_oneOf_114 K17 q1151 q1152 q180 rfl (by omega) (by omega) ?_
          rw [show H1.set 0 (cO 0 (cFs (dT d (nxF tp (nxT tp q1.2)) (nxT tp (nxT tp q1.2))))) = gtE H1 d tp (nxT tp q1.2) from rfl]
          rw [gtE_len]
          obtain ⟨l2, f2, z2, c2⟩ := nx_facts (G := H1) (x := cO 17 [.null, .null, .int 0]) (d := d) (tp := tp) (e := nxT tp q1.2) hO1
          obtain ⟨H2, hH2⟩ : ∃ H2, H2 = gtE H1 d tp (nxT tp q1.2) ++ [cO 17 [.null, .null, .int 0]] := ⟨_, rfl⟩
          rw [← hH2] at l2 f2 z2 c2 ⊢
          have hv2 := hv1.mv f2 z2
          obtain ⟨hO2, -, h192, -, hN2, fv2, hF2⟩ := id hv2
          refine xj_dup dX0_oneOf_117 rfl ?_
          refine xj_aload_n dX0_oneOf_118 rfl rfl ?_
          refine xj_iload_n dX0_oneOf_119 rfl ?_
          refine xj_aload_n dX0_oneOf_120 rfl rfl ?_
          refine xj_dV dX0_oneOf_121 q1126 kV_X0_value (A_valueY hO2 hd17 h192 hLT hnb1.2 hN2 h2) hO2 rfl rfl rfl rfl (Nat.le_of_ble_eq_true rfl) (xR_ok (by omega) (by decide)) (by omega) (by omega) ?_
          rintro _ H3 ⟨rfl, hH3⟩
          obtain ⟨l3, f3, z3, c3⟩ := vl_facts hO2 hH3
          have k3 : H3[H1.length]? = some (cO 17 [.null, .null, .int 0]) := (f3.2 H1.length (by omega) (n0 (by omega))).trans c2
          have k1 : H3[G.length]? = some (cO 16 (vFs q1.1)) := (f3.2 G.length (by omega) (n0 (by omega))).trans ((f2.2 G.length (by omega) (n0 (by omega))).trans c1)
          refine xj_cI dX0_oneOf_124 q1153 kI_X17_init (A_asksInit k3) rfl rfl (Nat.le_of_ble_eq_true rfl) (xR_ok (by omega) (by decide)) (Nat.le_of_ble_eq_true rfl) (Nat.le_of_ble_eq_true rfl) ?_
          exact xj_areturn dX0_oneOf_127 rfl (Or.inl ⟨_, rfl⟩) rfl ⟨_, rfl, Or.inl ⟨G.length, H2.length, _, q1.1, q2.1, sgn tp q1.2, gset_self k3, by rw [gset (by omega)]; exact k1, by rw [gset (by omega)]; exact c3, ⟨hsg.2, pVal_v h1, pVal_v h2⟩, rfl⟩, ((f1.trans f2).trans f3).new (by omega), by rw [gset (by omega)]; exact z3⟩
        · refine xj_iload_n dX0_oneOf_99 rfl ?_
          refine xj_bipush (v := 62) dX0_oneOf_100 rfl ?_
          refine xj_icmp_eq (tgt := 110) dX0_oneOf_102 rfl (fun c102 => ?_) (fun c102 => absurd (by rcases hsg.2 with h | h | h; exact absurd h.1 c90; exact absurd h.1 c96; exact h.1) c102)
          refine xj_aload_n dX0_oneOf_110 rfl rfl ?_
          refine xj_cV dX0_oneOf_111 q1018 kV_X0_next (A_next hO1 hd17 h191 hLT hnb1.2) hO1 rfl rfl rfl rfl (Nat.le_of_ble_eq_true rfl) (xR_ok (by omega) (by decide)) (Nat.le_of_ble_eq_true rfl) (Nat.le_of_ble_eq_true rfl) ?_
          refine xj_new (fs := [.null, .null, .int 0]) dX0_oneOf_114 K17 q1151 q1152 q180 rfl (by omega) (by omega) ?_
          rw [show H1.set 0 (cO 0 (cFs (dT d (nxF tp (nxT tp q1.2)) (nxT tp (nxT tp q1.2))))) = gtE H1 d tp (nxT tp q1.2) from rfl]
          rw [gtE_len]
          obtain ⟨l2, f2, z2, c2⟩ := nx_facts (G := H1) (x := cO 17 [.null, .null, .int 0]) (d := d) (tp := tp) (e := nxT tp q1.2) hO1
          obtain ⟨H2, hH2⟩ : ∃ H2, H2 = gtE H1 d tp (nxT tp q1.2) ++ [cO 17 [.null, .null, .int 0]] := ⟨_, rfl⟩
          rw [← hH2] at l2 f2 z2 c2 ⊢
          have hv2 := hv1.mv f2 z2
          obtain ⟨hO2, -, h192, -, hN2, fv2, hF2⟩ := id hv2
          refine xj_dup dX0_oneOf_117 rfl ?_
          refine xj_aload_n dX0_oneOf_118 rfl rfl ?_
          refine xj_iload_n dX0_oneOf_119 rfl ?_
          refine xj_aload_n dX0_oneOf_120 rfl rfl ?_
          refine xj_dV dX0_oneOf_121 q1126 kV_X0_value (A_valueY hO2 hd17 h192 hLT hnb1.2 hN2 h2) hO2 rfl rfl rfl rfl (Nat.le_of_ble_eq_true rfl) (xR_ok (by omega) (by decide)) (by omega) (by omega) ?_
          rintro _ H3 ⟨rfl, hH3⟩
          obtain ⟨l3, f3, z3, c3⟩ := vl_facts hO2 hH3
          have k3 : H3[H1.length]? = some (cO 17 [.null, .null, .int 0]) := (f3.2 H1.length (by omega) (n0 (by omega))).trans c2
          have k1 : H3[G.length]? = some (cO 16 (vFs q1.1)) := (f3.2 G.length (by omega) (n0 (by omega))).trans ((f2.2 G.length (by omega) (n0 (by omega))).trans c1)
          refine xj_cI dX0_oneOf_124 q1153 kI_X17_init (A_asksInit k3) rfl rfl (Nat.le_of_ble_eq_true rfl) (xR_ok (by omega) (by decide)) (Nat.le_of_ble_eq_true rfl) (Nat.le_of_ble_eq_true rfl) ?_
          exact xj_areturn dX0_oneOf_127 rfl (Or.inl ⟨_, rfl⟩) rfl ⟨_, rfl, Or.inl ⟨G.length, H2.length, _, q1.1, q2.1, sgn tp q1.2, gset_self k3, by rw [gset (by omega)]; exact k1, by rw [gset (by omega)]; exact c3, ⟨hsg.2, pVal_v h1, pVal_v h2⟩, rfl⟩, ((f1.trans f2).trans f3).new (by omega), by rw [gset (by omega)]; exact z3⟩
    · have ho3 : o < 3 := Nat.lt_of_not_le fun h => c25 (nI_le (a := 3) h (by omega))
      cases hw6 : isW tp e 6 with
      | true =>
        rcases prs_par hp hw5 hw6 with ⟨-, h⟩ | ⟨-, r1, hp1, ⟨p, -, h⟩ | ⟨q1, rfl, hr⟩⟩
        · cases h
        · cases h
        · cases hw7 : isW tp q1.2 7 with
          | false => rw [hw7, if_neg (by decide)] at hr; cases hr
          | true =>
            rw [hw7, if_pos rfl] at hr
            cases hr
            have b1 := prs_b f 3 (o + 1) [] (nxT tp e) q1 hnb.2 hp1 (Or.inr (Or.inr (Or.inr rfl)))
            have b1t := b1.2.1
            have hnb1 := nxT_b b1t
            have hnf1 := nxF_b b1t
            refine xj_aload_n dX0_oneOf_28 rfl rfl ?_
            refine xj_ldcSw (u := 6) dX0_oneOf_29 (List.mem_of_getElem? (i := 6) rfl) ?_
            refine xj_cV dX0_oneOf_32 q1041 kV_X0_goesOn (A_goesOnWY (u := 6) hO hd17 h19 hLT he (by decide) hw6) hO rfl rfl rfl rfl (Nat.le_of_ble_eq_true rfl) (xR_ok (by omega) (by decide)) (Nat.le_of_ble_eq_true rfl) (Nat.le_of_ble_eq_true rfl) ?_
            refine xj_if_eq (tgt := 55) dX0_oneOf_35 rfl (fun c35 => absurd c35 (by decide)) (fun c35 => ?_)
            have z1 := gtE_0 (d := d) (tp := tp) (e := nxT tp e) hO
            have f1 : gfa [0] G (gtE G d tp (nxT tp e)) := gfa.refl.set (by decide)
            obtain ⟨H1, hH1⟩ : ∃ H1, H1 = gtE G d tp (nxT tp e) := ⟨_, rfl⟩
            rw [← hH1] at z1 f1 ⊢
            have hv1 := hv0.mv f1 z1
            refine xj_aload_n dX0_oneOf_38 rfl rfl ?_
            refine xj_iload_n dX0_oneOf_39 rfl ?_
            refine xj_ic1 dX0_oneOf_40 ?_
            refine xj_iadd dX0_oneOf_41 ?_
            rw [nI_1]
            refine xj_dV dX0_oneOf_42 q1028 kV_X0_cond (i3 (o + 1) (nxT tp e) H1 q1 (by omega) hnb.2 hv1 hp1) z1 rfl rfl rfl rfl (Nat.le_of_ble_eq_true rfl) (xR_ok (by omega) (by decide)) (by show q1.2 - nxT tp e ≤ nxT tp q1.2 - e; omega) (by show 3 * (q1.2 - nxT tp e) ≤ 3 * (nxT tp q1.2 - e); omega) ?_
            rintro _ H2 ⟨a, rfl, hc2, f2, z2⟩
            have hv2 := hv1.mv f2 z2
            obtain ⟨hO2, -, h192, -, hN2, fv2, hF2⟩ := id hv2
            refine xj_astn2 dX0_oneOf_45 rfl rfl ?_
            refine xj_aload_n dX0_oneOf_46 rfl rfl ?_
            refine xj_ldcSw (u := 7) dX0_oneOf_47 (List.mem_of_getElem? (i := 7) rfl) ?_
            refine xj_cV dX0_oneOf_50 q1112 kV_X0_want (A_wantY (u := 7) hO2 hd17 h192 hLT b1t (by decide) hw7) hO2 rfl rfl rfl rfl (Nat.le_of_ble_eq_true rfl) (xR_ok (by omega) (by decide)) (Nat.le_of_ble_eq_true rfl) (Nat.le_of_ble_eq_true rfl) ?_
            refine xj_aload_n dX0_oneOf_53 rfl rfl ?_
            exact xj_areturn dX0_oneOf_54 rfl (Or.inl ⟨_, rfl⟩) rfl ⟨_, rfl, hc2.gfa (gfa.refl.set (by decide)) hO2, (f1.trans f2).set (by decide), gtE_0 hO2⟩
      | false =>
        have hcm : pCmp tp e = .inr q := (prs_cmp hp hw5 hw6).symm
        refine xj_aload_n dX0_oneOf_28 rfl rfl ?_
        refine xj_ldcSw (u := 6) dX0_oneOf_29 (List.mem_of_getElem? (i := 6) rfl) ?_
        refine xj_cV dX0_oneOf_32 q1041 kV_X0_goesOn (A_goesOnWN (u := 6) hO hd17 h19 hLT he (by decide) hw6) hO rfl rfl rfl rfl (Nat.le_of_ble_eq_true rfl) (xR_ok (by omega) (by decide)) (Nat.le_of_ble_eq_true rfl) (Nat.le_of_ble_eq_true rfl) ?_
        refine xj_if_eq (tgt := 55) dX0_oneOf_35 rfl (fun c35 => ?_) (fun c35 => absurd rfl c35)
        obtain ⟨q1, q2, h1, hs0, h2, rfl⟩ := pCmp_Y hcm
        obtain ⟨b1e, b1l, b1t⟩ := pVal_e he h1
        have hnb1 := nxT_b b1t
        have hnf1 := nxF_b b1t
        have hsg := sgn_Y b1t (fun p hp => (tpB_at hLT hp).2) hs0
        have hlt1 : nxF tp q1.2 < tp.length := by have := hsg.1; omega
        have hnt1 := nxT_lt hlt1
        obtain ⟨b2e, b2l, b2t⟩ := pVal_e hnb1.2 h2
        refine xj_aload_n dX0_oneOf_55 rfl rfl ?_
        refine xj_dV dX0_oneOf_56 q1126 kV_X0_value (A_valueY hO hd17 h19 hLT he hN h1) hO rfl rfl rfl rfl (Nat.le_of_ble_eq_true rfl) (xR_ok (by omega) (by decide)) (by show 1 ≤ q2.2 - e; omega) (by show 2 ≤ 3 * (q2.2 - e); omega) ?_
        rintro _ H1 ⟨rfl, hH1⟩
        obtain ⟨l1, f1, z1, c1⟩ := vl_facts hO hH1
        have hv1 := hv0.mv f1 z1
        obtain ⟨hO1, -, h191, -, hN1, fv1, hF1⟩ := id hv1
        show xJ _ _ _ _ (q2.2 - e - 1) (3 * (q2.2 - e) - 2) _ _ _ _
        refine xj_astn2 dX0_oneOf_59 rfl rfl ?_
        refine xj_aload_n dX0_oneOf_60 rfl rfl ?_
        refine xj_get dX0_oneOf_61 K0 19 (by decide) q488 hO1 rfl ?_
        refine xj_aload_n dX0_oneOf_64 rfl rfl ?_
        refine xj_get dX0_oneOf_65 K0 18 (by decide) q487 hO1 rfl ?_
        refine xj_isub dX0_oneOf_68 ?_
        refine xj_ic1 dX0_oneOf_69 ?_
        rw [pk_sub hnb1.1]
        refine xj_icmp_ne (tgt := 85) dX0_oneOf_70 rfl (fun c70 => absurd (by rw [hsg.1]; rfl) c70) (fun c70 => ?_)
        refine xj_aload_n dX0_oneOf_73 rfl rfl ?_
        refine xj_get dX0_oneOf_74 K0 16 (by decide) q485 hO1 rfl ?_
        refine xj_aload_n dX0_oneOf_77 rfl rfl ?_
        refine xj_get dX0_oneOf_78 K0 18 (by decide) q487 hO1 rfl ?_
        refine xj_bald dX0_oneOf_81 h191 rfl (by omega) (tpB_at hLT hlt1).1 ?_
        refine xj_goto (tgt := 86) dX0_oneOf_82 rfl ?_
        refine xj_istn3 dX0_oneOf_86 rfl ?_
        refine xj_iload_n dX0_oneOf_87 rfl ?_
        refine xj_bipush (v := 60) dX0_oneOf_88 rfl ?_
        refine xj_icmp_eq (tgt := 110) dX0_oneOf_90 rfl (fun c90 => ?_) (fun c90 => ?_)
        · refine xj_aload_n dX0_oneOf_110 rfl rfl ?_
          refine xj_cV dX0_oneOf_111 q1018 kV_X0_next (A_next hO1 hd17 h191 hLT hnb1.2) hO1 rfl rfl rfl rfl (Nat.le_of_ble_eq_true rfl) (xR_ok (by omega) (by decide)) (Nat.le_of_ble_eq_true rfl) (Nat.le_of_ble_eq_true rfl) ?_
          refine xj_new (fs := [.null, .null, .int 0]) dX0_oneOf_114 K17 q1151 q1152 q180 rfl (by omega) (by omega) ?_
          rw [show H1.set 0 (cO 0 (cFs (dT d (nxF tp (nxT tp q1.2)) (nxT tp (nxT tp q1.2))))) = gtE H1 d tp (nxT tp q1.2) from rfl]
          rw [gtE_len]
          obtain ⟨l2, f2, z2, c2⟩ := nx_facts (G := H1) (x := cO 17 [.null, .null, .int 0]) (d := d) (tp := tp) (e := nxT tp q1.2) hO1
          obtain ⟨H2, hH2⟩ : ∃ H2, H2 = gtE H1 d tp (nxT tp q1.2) ++ [cO 17 [.null, .null, .int 0]] := ⟨_, rfl⟩
          rw [← hH2] at l2 f2 z2 c2 ⊢
          have hv2 := hv1.mv f2 z2
          obtain ⟨hO2, -, h192, -, hN2, fv2, hF2⟩ := id hv2
          refine xj_dup dX0_oneOf_117 rfl ?_
          refine xj_aload_n dX0_oneOf_118 rfl rfl ?_
          refine xj_iload_n dX0_oneOf_119 rfl ?_
          refine xj_aload_n dX0_oneOf_120 rfl rfl ?_
          refine xj_dV dX0_oneOf_121 q1126 kV_X0_value (A_valueY hO2 hd17 h192 hLT hnb1.2 hN2 h2) hO2 rfl rfl rfl rfl (Nat.le_of_ble_eq_true rfl) (xR_ok (by omega) (by decide)) (by omega) (by omega) ?_
          rintro _ H3 ⟨rfl, hH3⟩
          obtain ⟨l3, f3, z3, c3⟩ := vl_facts hO2 hH3
          have k3 : H3[H1.length]? = some (cO 17 [.null, .null, .int 0]) := (f3.2 H1.length (by omega) (n0 (by omega))).trans c2
          have k1 : H3[G.length]? = some (cO 16 (vFs q1.1)) := (f3.2 G.length (by omega) (n0 (by omega))).trans ((f2.2 G.length (by omega) (n0 (by omega))).trans c1)
          refine xj_cI dX0_oneOf_124 q1153 kI_X17_init (A_asksInit k3) rfl rfl (Nat.le_of_ble_eq_true rfl) (xR_ok (by omega) (by decide)) (Nat.le_of_ble_eq_true rfl) (Nat.le_of_ble_eq_true rfl) ?_
          exact xj_areturn dX0_oneOf_127 rfl (Or.inl ⟨_, rfl⟩) rfl ⟨_, rfl, Or.inl ⟨G.length, H2.length, _, q1.1, q2.1, sgn tp q1.2, gset_self k3, by rw [gset (by omega)]; exact k1, by rw [gset (by omega)]; exact c3, ⟨hsg.2, pVal_v h1, pVal_v h2⟩, rfl⟩, ((f1.trans f2).trans f3).new (by omega), by rw [gset (by omega)]; exact z3⟩
        · refine xj_iload_n dX0_oneOf_93 rfl ?_
          refine xj_bipush (v := 61) dX0_oneOf_94 rfl ?_
          refine xj_icmp_eq (tgt := 110) dX0_oneOf_96 rfl (fun c96 => ?_) (fun c96 => ?_)
          · refine xj_aload_n dX0_oneOf_110 rfl rfl ?_
            refine xj_cV dX0_oneOf_111 q1018 kV_X0_next (A_next hO1 hd17 h191 hLT hnb1.2) hO1 rfl rfl rfl rfl (Nat.le_of_ble_eq_true rfl) (xR_ok (by omega) (by decide)) (Nat.le_of_ble_eq_true rfl) (Nat.le_of_ble_eq_true rfl) ?_
            refine xj_new (fs := [.null, .null, .int 0]) dX0_oneOf_114 K17 q1151 q1152 q180 rfl (by omega) (by omega) ?_
            rw [show H1.set 0 (cO 0 (cFs (dT d (nxF tp (nxT tp q1.2)) (nxT tp (nxT tp q1.2))))) = gtE H1 d tp (nxT tp q1.2) from rfl]
            rw [gtE_len]
            obtain ⟨l2, f2, z2, c2⟩ := nx_facts (G := H1) (x := cO 17 [.null, .null, .int 0]) (d := d) (tp := tp) (e := nxT tp q1.2) hO1
            obtain ⟨H2, hH2⟩ : ∃ H2, H2 = gtE H1 d tp (nxT tp q1.2) ++ [cO 17 [.null, .null, .int 0]] := ⟨_, rfl⟩
            rw [← hH2] at l2 f2 z2 c2 ⊢
            have hv2 := hv1.mv f2 z2
            obtain ⟨hO2, -, h192, -, hN2, fv2, hF2⟩ := id hv2
            refine xj_dup dX0_oneOf_117 rfl ?_
            refine xj_aload_n dX0_oneOf_118 rfl rfl ?_
            refine xj_iload_n dX0_oneOf_119 rfl ?_
            refine xj_aload_n dX0_oneOf_120 rfl rfl ?_
            refine xj_dV dX0_oneOf_121 q1126 kV_X0_value (A_valueY hO2 hd17 h192 hLT hnb1.2 hN2 h2) hO2 rfl rfl rfl rfl (Nat.le_of_ble_eq_true rfl) (xR_ok (by omega) (by decide)) (by omega) (by omega) ?_
            rintro _ H3 ⟨rfl, hH3⟩
            obtain ⟨l3, f3, z3, c3⟩ := vl_facts hO2 hH3
            have k3 : H3[H1.length]? = some (cO 17 [.null, .null, .int 0]) := (f3.2 H1.length (by omega) (n0 (by omega))).trans c2
            have k1 : H3[G.length]? = some (cO 16 (vFs q1.1)) := (f3.2 G.length (by omega) (n0 (by omega))).trans ((f2.2 G.length (by omega) (n0 (by omega))).trans c1)
            refine xj_cI dX0_oneOf_124 q1153 kI_X17_init (A_asksInit k3) rfl rfl (Nat.le_of_ble_eq_true rfl) (xR_ok (by omega) (by decide)) (Nat.le_of_ble_eq_true rfl) (Nat.le_of_ble_eq_true rfl) ?_
            exact xj_areturn dX0_oneOf_127 rfl (Or.inl ⟨_, rfl⟩) rfl ⟨_, rfl, Or.inl ⟨G.length, H2.length, _, q1.1, q2.1, sgn tp q1.2, gset_self k3, by rw [gset (by omega)]; exact k1, by rw [gset (by omega)]; exact c3, ⟨hsg.2, pVal_v h1, pVal_v h2⟩, rfl⟩, ((f1.trans f2).trans f3).new (by omega), by rw [gset (by omega)]; exact z3⟩
          · refine xj_iload_n dX0_oneOf_99 rfl ?_
            refine xj_bipush (v := 62) dX0_oneOf_100 rfl ?_
            refine xj_icmp_eq (tgt := 110) dX0_oneOf_102 rfl (fun c102 => ?_) (fun c102 => absurd (by rcases hsg.2 with h | h | h; exact absurd h.1 c90; exact absurd h.1 c96; exact h.1) c102)
            refine xj_aload_n dX0_oneOf_110 rfl rfl ?_
            refine xj_cV dX0_oneOf_111 q1018 kV_X0_next (A_next hO1 hd17 h191 hLT hnb1.2) hO1 rfl rfl rfl rfl (Nat.le_of_ble_eq_true rfl) (xR_ok (by omega) (by decide)) (Nat.le_of_ble_eq_true rfl) (Nat.le_of_ble_eq_true rfl) ?_
            refine xj_new (fs := [.null, .null, .int 0]) dX0_oneOf_114 K17 q1151 q1152 q180 rfl (by omega) (by omega) ?_
            rw [show H1.set 0 (cO 0 (cFs (dT d (nxF tp (nxT tp q1.2)) (nxT tp (nxT tp q1.2))))) = gtE H1 d tp (nxT tp q1.2) from rfl]
            rw [gtE_len]
            obtain ⟨l2, f2, z2, c2⟩ := nx_facts (G := H1) (x := cO 17 [.null, .null, .int 0]) (d := d) (tp := tp) (e := nxT tp q1.2) hO1
            obtain ⟨H2, hH2⟩ : ∃ H2, H2 = gtE H1 d tp (nxT tp q1.2) ++ [cO 17 [.null, .null, .int 0]] := ⟨_, rfl⟩
            rw [← hH2] at l2 f2 z2 c2 ⊢
            have hv2 := hv1.mv f2 z2
            obtain ⟨hO2, -, h192, -, hN2, fv2, hF2⟩ := id hv2
            refine xj_dup dX0_oneOf_117 rfl ?_
            refine xj_aload_n dX0_oneOf_118 rfl rfl ?_
            refine xj_iload_n dX0_oneOf_119 rfl ?_
            refine xj_aload_n dX0_oneOf_120 rfl rfl ?_
            refine xj_dV dX0_oneOf_121 q1126 kV_X0_value (A_valueY hO2 hd17 h192 hLT hnb1.2 hN2 h2) hO2 rfl rfl rfl rfl (Nat.le_of_ble_eq_true rfl) (xR_ok (by omega) (by decide)) (by omega) (by omega) ?_
            rintro _ H3 ⟨rfl, hH3⟩
            obtain ⟨l3, f3, z3, c3⟩ := vl_facts hO2 hH3
            have k3 : H3[H1.length]? = some (cO 17 [.null, .null, .int 0]) := (f3.2 H1.length (by omega) (n0 (by omega))).trans c2
            have k1 : H3[G.length]? = some (cO 16 (vFs q1.1)) := (f3.2 G.length (by omega) (n0 (by omega))).trans ((f2.2 G.length (by omega) (n0 (by omega))).trans c1)
            refine xj_cI dX0_oneOf_124 q1153 kI_X17_init (A_asksInit k3) rfl rfl (Nat.le_of_ble_eq_true rfl) (xR_ok (by omega) (by decide)) (Nat.le_of_ble_eq_true rfl) (Nat.le_of_ble_eq_true rfl) ?_
            exact xj_areturn dX0_oneOf_127 rfl (Or.inl ⟨_, rfl⟩) rfl ⟨_, rfl, Or.inl ⟨G.length, H2.length, _, q1.1, q2.1, sgn tp q1.2, gset_self k3, by rw [gset (by omega)]; exact k1, by rw [gset (by omega)]; exact c3, ⟨hsg.2, pVal_v h1, pVal_v h2⟩, rfl⟩, ((f1.trans f2).trans f3).new (by omega), by rw [gset (by omega)]; exact z3⟩
end A52
