/-! ===== the reference: the text (4) ===== -/
set_option maxRecDepth 100000
theorem kV_X7_fact : xsV yX7_fact cX7_fact 4 (some FieldType.int) 2 := ⟨q2345, qs118, q161, q2346, by decide, by decide, by decide +kernel⟩
theorem kS_X7_isSo : xsS yX7_isSo cX7_isSo 3 (some FieldType.boolean) 3 := ⟨q2348, q161, q2349, by decide, by decide, by decide +kernel⟩
theorem so_lt {x y : Int32} : (if y ≤ x then (0 : Int32) else 1) = b1 (decide (x < y)) := by
  by_cases h : y ≤ x
  · rw [if_pos h, decide_eq_false (i32_le h)]; rfl
  · rw [if_neg h, decide_eq_true (i32_nle h)]; rfl
theorem so_eq {x y : Int32} : (if x = y then (1 : Int32) else 0) = b1 (decide (x = y)) := b1_of
theorem so_gt {x : Int32} : (if x ≤ 0 then (0 : Int32) else 1) = b1 (decide (0 < x)) := so_lt
theorem so_eq1 {y : Int32} : (if y = 1 then (1 : Int32) else 0) = b1 (y == 1) := by
  by_cases h : y = 1
  · rw [if_pos h, h]; rfl
  · rw [if_neg h, show (y == 1) = false from beq_eq_false_iff_ne.mpr h]; rfl
section M27
variable {E : xE} {G T : xH} {a : Nat → xC} {c : Nat → Value} {n : Nat}
theorem M_fact {v : Int32} {x : Nat}  (hv : kV c n a) (ha : kA n a) (hx : x < na n) : xMet E yX7_fact cX7_fact 4 (some FieldType.int) 2 0 0 [.ref 54, .int v, .int (nI x)] (kG a T) (xrv (some (.int (fac n x v))) (kG a T)) := by
  obtain ⟨hO, hf0, h1n, hn6, h63, h64⟩ := id hv
  obtain ⟨L1, L2, L3, h59, h60, h61, hAr⟩ := id ha
  have hna := na_lt n (by omega)
  have hac := f_ac n (by omega) x hx
  refine xMet.of (lv := [some (.ref 54), some (.int v), some (.int (nI x)), none]) rfl rfl (Nat.le_of_ble_eq_true rfl) ?_
  refine xj_aload_n dX7_fact_0 rfl rfl ?_
  refine xj_get dX7_fact_1 K7 15 (by decide) q1944 (kG_a (by decide) hO) rfl ?_
  refine xj_iload_n dX7_fact_4 rfl ?_
  refine xj_iald dX7_fact_5 (kG_a (by decide) h61) rfl (by omega) (hAr x hx).2.2 ?_
  refine xj_i2l dX7_fact_6 ?_
  refine xj_topl (nI_l (by omega)) ?_
  refine xj_cS dX7_fact_7 q2124 kS_X7_ones (M_ones (by omega)) rfl rfl (Nat.le_of_ble_eq_true rfl) ⟨(Nat.le_of_ble_eq_true rfl), (Nat.le_of_ble_eq_true rfl)⟩ (Nat.le_of_ble_eq_true rfl) (Nat.le_of_ble_eq_true rfl) ?_
  refine xj_istn3 dX7_fact_10 rfl ?_
  refine xj_iload_n dX7_fact_11 rfl ?_
  refine xj_tabs (tg := [82, 64, 62, 55, 48]) (tgt := 87) dX7_fact_12 rfl rfl rfl ⟨fun c12 => ?_, fun c12 => ?_, fun c12 => ?_, fun c12 => ?_, fun c12 => ?_, trivial⟩ (fun c12 => ?_)
  · refine xj_aload_n dX7_fact_82 rfl rfl ?_
    refine xj_get dX7_fact_83 K7 0 (by decide) q1929 (kG_a (by decide) hO) (congrArg some hf0) ?_
    exact xj_ireturn dX7_fact_86 rfl rfl (xrv_i (by unfold fac; rw [show v = -5 from c12]; rfl))
  · refine xj_aload_n dX7_fact_64 rfl rfl ?_
    refine xj_get dX7_fact_65 K7 14 (by decide) q1943 (kG_a (by decide) hO) rfl ?_
    refine xj_iload_n dX7_fact_68 rfl ?_
    refine xj_iald dX7_fact_69 (kG_a (by decide) h60) rfl (by omega) (hAr x hx).2.1 ?_
    refine xj_aload_n dX7_fact_70 rfl rfl ?_
    refine xj_get dX7_fact_71 K7 13 (by decide) q1942 (kG_a (by decide) hO) rfl ?_
    refine xj_iload_n dX7_fact_74 rfl ?_
    refine xj_iald dX7_fact_75 (kG_a (by decide) h59) rfl (by omega) (hAr x hx).1 ?_
    refine xj_isub dX7_fact_76 ?_
    refine xj_ic1 dX7_fact_77 ?_
    refine xj_isub dX7_fact_78 ?_
    refine xj_iload_n dX7_fact_79 rfl ?_
    refine xj_isub dX7_fact_80 ?_
    exact xj_ireturn dX7_fact_81 rfl rfl (xrv_i (by unfold fac; rw [show v = -4 from c12]; show _ = nI (bw n x - lf n x); have hlf := f_lf n (by omega) x hx; rw [pk_sub (by omega), nI_sub1 (by omega)]; exact pk_sub hlf))
  · refine xj_iload_n dX7_fact_62 rfl ?_
    exact xj_ireturn dX7_fact_63 rfl rfl (xrv_i (by unfold fac; rw [show v = -3 from c12]; rfl))
  · refine xj_aload_n dX7_fact_55 rfl rfl ?_
    refine xj_get dX7_fact_56 K7 14 (by decide) q1943 (kG_a (by decide) hO) rfl ?_
    refine xj_iload_n dX7_fact_59 rfl ?_
    refine xj_iald dX7_fact_60 (kG_a (by decide) h60) rfl (by omega) (hAr x hx).2.1 ?_
    exact xj_ireturn dX7_fact_61 rfl rfl (xrv_i (by unfold fac; rw [show v = -2 from c12]; rfl))
  · refine xj_aload_n dX7_fact_48 rfl rfl ?_
    refine xj_get dX7_fact_49 K7 13 (by decide) q1942 (kG_a (by decide) hO) rfl ?_
    refine xj_iload_n dX7_fact_52 rfl ?_
    refine xj_iald dX7_fact_53 (kG_a (by decide) h59) rfl (by omega) (hAr x hx).1 ?_
    exact xj_ireturn dX7_fact_54 rfl rfl (xrv_i (by unfold fac; rw [show v = -1 from c12]; rfl))
  · refine xj_iload_n dX7_fact_87 rfl ?_
    exact xj_ireturn dX7_fact_88 rfl rfl (xrv_i (by unfold fac; repeat rw [if_neg (fun q => by rw [q] at c12; revert c12; decide)]))
theorem M_isSo {s x y : Int32}  : xMet E yX7_isSo cX7_isSo 3 (some FieldType.boolean) 0 0 0 [.int s, .int x, .int y] G (xrv (some (.int (b1 (soB s x y)))) G) := by
  refine xMet.of (lv := [some (.int s), some (.int x), some (.int y)]) rfl rfl (Nat.le_of_ble_eq_true rfl) ?_
  refine xj_iload_n dX7_isSo_0 rfl ?_
  refine xj_tabs (tg := [69, 82, 58, 47, 36]) (tgt := 82) dX7_isSo_1 rfl rfl rfl ⟨fun c1 => ?_, fun c1 => ?_, fun c1 => ?_, fun c1 => ?_, fun c1 => ?_, trivial⟩ (fun c1 => ?_)
  · refine xj_iload_n dX7_isSo_69 rfl ?_
    refine xj_iload_n dX7_isSo_70 rfl ?_
    refine xj_iadd dX7_isSo_71 ?_
    refine xj_ic2 dX7_isSo_72 ?_
    refine xj_sI_icmp_ne (tgt := 80) (M := 81) dX7_isSo_73 rfl (fun c73 k => by
        refine xj_ic0 dX7_isSo_80 ?_
        exact k) (fun c73 k => by
        refine xj_ic1 dX7_isSo_76 ?_
        refine xj_goto (tgt := 81) dX7_isSo_77 rfl ?_
        exact k) ?_
    exact xj_ireturn dX7_isSo_81 rfl b1_01 (xrv_i (by unfold soB; rw [show s = -10 from c1]; exact so_eq))
  · refine xj_iload_n dX7_isSo_82 rfl ?_
    refine xj_iload_n dX7_isSo_83 rfl ?_
    refine xj_iadd dX7_isSo_84 ?_
    refine xj_sI_if_le (tgt := 92) (M := 93) dX7_isSo_85 rfl (fun c85 k => by
        refine xj_ic0 dX7_isSo_92 ?_
        exact k) (fun c85 k => by
        refine xj_ic1 dX7_isSo_88 ?_
        refine xj_goto (tgt := 93) dX7_isSo_89 rfl ?_
        exact k) ?_
    exact xj_ireturn dX7_isSo_93 rfl b1_10 (xrv_i (by unfold soB; first | (rw [show s = -9 from c1]; exact so_gt) | (rw [if_neg (show ¬ s = -6 from fun q => by rw [q] at c1; revert c1; decide), if_neg (show ¬ s = -7 from fun q => by rw [q] at c1; revert c1; decide), if_neg (show ¬ s = -8 from fun q => by rw [q] at c1; revert c1; decide), if_neg (show ¬ s = -10 from fun q => by rw [q] at c1; revert c1; decide)]; exact so_gt)))
  · refine xj_iload_n dX7_isSo_58 rfl ?_
    refine xj_iload_n dX7_isSo_59 rfl ?_
    refine xj_sI_icmp_le (tgt := 67) (M := 68) dX7_isSo_60 rfl (fun c60 k => by
        refine xj_ic0 dX7_isSo_67 ?_
        exact k) (fun c60 k => by
        refine xj_ic1 dX7_isSo_63 ?_
        refine xj_goto (tgt := 68) dX7_isSo_64 rfl ?_
        exact k) ?_
    exact xj_ireturn dX7_isSo_68 rfl b1_10 (xrv_i (by unfold soB; rw [show s = -8 from c1]; exact so_lt))
  · refine xj_iload_n dX7_isSo_47 rfl ?_
    refine xj_iload_n dX7_isSo_48 rfl ?_
    refine xj_sI_icmp_ne (tgt := 56) (M := 57) dX7_isSo_49 rfl (fun c49 k => by
        refine xj_ic0 dX7_isSo_56 ?_
        exact k) (fun c49 k => by
        refine xj_ic1 dX7_isSo_52 ?_
        refine xj_goto (tgt := 57) dX7_isSo_53 rfl ?_
        exact k) ?_
    exact xj_ireturn dX7_isSo_57 rfl b1_01 (xrv_i (by unfold soB; rw [show s = -7 from c1]; exact so_eq))
  · refine xj_iload_n dX7_isSo_36 rfl ?_
    refine xj_iload_n dX7_isSo_37 rfl ?_
    refine xj_sI_icmp_ge (tgt := 45) (M := 46) dX7_isSo_38 rfl (fun c38 k => by
        refine xj_ic0 dX7_isSo_45 ?_
        exact k) (fun c38 k => by
        refine xj_ic1 dX7_isSo_41 ?_
        refine xj_goto (tgt := 46) dX7_isSo_42 rfl ?_
        exact k) ?_
    exact xj_ireturn dX7_isSo_46 rfl b1_10 (xrv_i (by unfold soB; rw [show s = -6 from c1]; exact so_lt))
  · refine xj_iload_n dX7_isSo_82 rfl ?_
    refine xj_iload_n dX7_isSo_83 rfl ?_
    refine xj_iadd dX7_isSo_84 ?_
    refine xj_sI_if_le (tgt := 92) (M := 93) dX7_isSo_85 rfl (fun c85 k => by
        refine xj_ic0 dX7_isSo_92 ?_
        exact k) (fun c85 k => by
        refine xj_ic1 dX7_isSo_88 ?_
        refine xj_goto (tgt := 93) dX7_isSo_89 rfl ?_
        exact k) ?_
    exact xj_ireturn dX7_isSo_93 rfl b1_10 (xrv_i (by unfold soB; first | (rw [show s = -9 from c1]; exact so_gt) | (rw [if_neg (show ¬ s = -6 from fun q => by rw [q] at c1; revert c1; decide), if_neg (show ¬ s = -7 from fun q => by rw [q] at c1; revert c1; decide), if_neg (show ¬ s = -8 from fun q => by rw [q] at c1; revert c1; decide), if_neg (show ¬ s = -10 from fun q => by rw [q] at c1; revert c1; decide)]; exact so_gt)))
theorem M_holds {x : Nat} {cl Cd S0 : List Int32}  (hv : kV c n a) (ha : kA n a) (hx : x < na n) (hf26 : c 26 = .int (nI cl.length)) (h66 : a 66 = cI 0 Cd) (hCd : Cd.length = 200) (hcl200 : cl.length ≤ 200) (hcl : ∀ (i : Nat) (v : Int32), cl[i]? = some v → Cd[i]? = some v) (h67 : a 67 = cI 0 S0) (hS0 : S0.length = 200) (hdp : dp cl 0 = some 1) : xMet E yX7_holds cX7_holds 4 (some FieldType.boolean) 3 0 0 [.ref 54, .int (nI x)] (kG a T) (kR (some (.int (b1 (hldB n x cl)))) T (fun b => ∃ S : List Int32, S.length = 200 ∧ b = au a 67 (cI 0 S))) := by
  obtain ⟨hO, hf0, h1n, hn6, h63, h64⟩ := id hv
  have hna := na_lt n (by omega)
  refine xMet.of (lv := [some (.ref 54), some (.int (nI x)), none, none]) rfl rfl (Nat.le_of_ble_eq_true rfl) ?_
  refine xj_ic0 dX7_holds_0 ?_
  refine xj_istn2 dX7_holds_1 rfl ?_
  refine xj_ic0 dX7_holds_2 ?_
  refine xj_istn3 dX7_holds_3 rfl ?_
  refine xj_eq rfl rfl (show _ = kG (au a 67 (cI 0 S0)) T by rw [au_id h67]) ?_
  have lp : ∀ (K : Nat) (k : Nat) (st : List Int32) (S : List Int32), cl.length - k < K → (k ≤ cl.length) → (st.length ≤ k) → (stL S st) → (dp (cl.drop k) st.length = some 1) → (ev n x (cl.drop k) st = ev n x cl []) → xJ E (yX7_holds, cX7_holds, 4, (some FieldType.boolean), []) (xR 3 0 0) (kR (some (.int (b1 (hldB n x cl)))) T (fun b => ∃ S : List Int32, S.length = 200 ∧ b = au a 67 (cI 0 S))) 0 0 4 [some (.ref 54), some (.int (nI x)), some (.int (nI st.length)), some (.int (nI k))] [] (kG (au a 67 (cI 0 S)) T) := by
    intro K
    induction K with
    | zero => intro k st S h; exact absurd h (Nat.not_lt_zero _)
    | succ K ih_lp =>
      intro k st S hK hk hsk hS hd hs
      have hlt : st.length ≤ 200 := hS.2.1
      have hS200 := hS.1
      refine xj_iload_n dX7_holds_4 rfl ?_
      refine xj_aload_n dX7_holds_5 rfl rfl ?_
      refine xj_get dX7_holds_6 K7 26 (by decide) q1955 (kG_a (by decide) hO) (congrArg some hf26) ?_
      refine xj_icmp_ge (tgt := 126) dX7_holds_9 rfl (fun c9 => ?_) (fun c9 => ?_)
      · have hkl : k = cl.length := by have := Nat.le_of_not_lt fun h => absurd c9 (nI_ge h (by omega)); omega
        rw [hkl, List.drop_length] at hd hs
        have hd : some st.length = some 1 := hd
        have hs : st = ev n x cl [] := hs
        obtain ⟨y, rfl⟩ : ∃ y, st = [y] := by
          have hl1 := Option.some.inj hd
          match st, hl1 with
          | [y], _ => exact ⟨y, rfl⟩
        refine xj_aload_n dX7_holds_126 rfl rfl ?_
        refine xj_get dX7_holds_127 K7 22 (by decide) q1951 (kG_a (by decide) hO) rfl ?_
        refine xj_ic0 dX7_holds_130 ?_
        refine xj_iald dX7_holds_131 (kG_a (by decide) rfl) (show (0 : Int32) = nI 0 from rfl) (by decide) (stL_top hS) ?_
        refine xj_ic1 dX7_holds_132 ?_
        refine xj_sI_icmp_ne (tgt := 140) (M := 141) dX7_holds_133 rfl (fun c133 k => by
            refine xj_ic0 dX7_holds_140 ?_
            exact k) (fun c133 k => by
            refine xj_ic1 dX7_holds_136 ?_
            refine xj_goto (tgt := 141) dX7_holds_137 rfl ?_
            exact k) ?_
        exact xj_ireturn dX7_holds_141 rfl b1_01 (kR_i (by unfold hldB; rw [← hs]; exact so_eq1) ⟨S, hS200, rfl⟩)
      · have hkl : k < cl.length := Nat.lt_of_not_le fun h => c9 (nI_le h (by omega))
        obtain ⟨v, hvk⟩ : ∃ v, cl[k]? = some v := ⟨_, List.getElem?_eq_getElem hkl⟩
        have hCk := hcl k v hvk
        have hdr : cl.drop k = v :: cl.drop (k + 1) := by rw [List.drop_eq_getElem_cons hkl]; congr 1; exact Option.some.inj ((List.getElem?_eq_getElem hkl).symm.trans hvk)
        rw [hdr] at hd hs
        have hd : (if -6 < v then dp (cl.drop (k + 1)) (st.length + 1) else if v = -9 then (if 1 ≤ st.length then dp (cl.drop (k + 1)) st.length else none) else (if 2 ≤ st.length then dp (cl.drop (k + 1)) (st.length - 1) else none)) = some 1 := hd
        have hs : ev n x (cl.drop (k + 1)) (evS n x v st) = ev n x cl [] := hs
        refine xj_aload_n dX7_holds_12 rfl rfl ?_
        refine xj_get dX7_holds_13 K7 21 (by decide) q1950 (kG_a (by decide) hO) rfl ?_
        refine xj_iload_n dX7_holds_16 rfl ?_
        refine xj_iald dX7_holds_17 (kG_a (by decide) h66) rfl (by omega) hCk ?_
        refine xj_bipush (v := -6) dX7_holds_18 rfl ?_
        refine xj_icmp_le (tgt := 46) dX7_holds_20 rfl (fun c20 => ?_) (fun c20 => ?_)
        · have hv6 : ¬ -6 < v := i32_le c20
          rw [if_neg hv6] at hd
          refine xj_aload_n dX7_holds_46 rfl rfl ?_
          refine xj_get dX7_holds_47 K7 21 (by decide) q1950 (kG_a (by decide) hO) rfl ?_
          refine xj_iload_n dX7_holds_50 rfl ?_
          refine xj_iald dX7_holds_51 (kG_a (by decide) h66) rfl (by omega) hCk ?_
          refine xj_bipush (v := -9) dX7_holds_52 rfl ?_
          refine xj_icmp_ne (tgt := 78) dX7_holds_54 rfl (fun c54 => ?_) (fun c54 => ?_)
          · have hv9 : ¬ v = -9 := c54
            rw [if_neg hv9] at hd
            have h2 : 2 ≤ st.length := Nat.le_of_not_lt fun h => by rw [if_neg (by omega)] at hd; cases hd
            rw [if_pos h2] at hd
            obtain ⟨y, z, r, rfl⟩ : ∃ y z r, st = y :: z :: r := by
              match st, h2 with
              | y :: z :: r, _ => exact ⟨y, z, r, rfl⟩
            rw [show evS n x v (y :: z :: r) = b1 (soB v z y) :: r by unfold evS; rw [if_neg hv6, if_neg hv9]; rfl] at hs
            have hlz : (z :: r).length = r.length + 1 := rfl
            have hly : (y :: z :: r).length = r.length + 2 := rfl
            refine xj_iinc2 (cst := (-1)) dX7_holds_78 rfl rfl ?_
            rw [show nI (y :: z :: r).length + -1 = nI (z :: r).length from nI_m1 (by omega)]
            have hix : nI (z :: r).length - 1 = nI r.length := by rw [List.length_cons]; exact nI_pred r.length
            refine xj_aload_n dX7_holds_81 rfl rfl ?_
            refine xj_get dX7_holds_82 K7 22 (by decide) q1951 (kG_a (by decide) hO) rfl ?_
            refine xj_iload_n dX7_holds_85 rfl ?_
            refine xj_ic1 dX7_holds_86 ?_
            refine xj_isub dX7_holds_87 ?_
            refine xj_aload_n dX7_holds_88 rfl rfl ?_
            refine xj_get dX7_holds_89 K7 21 (by decide) q1950 (kG_a (by decide) hO) rfl ?_
            refine xj_iload_n dX7_holds_92 rfl ?_
            refine xj_iald dX7_holds_93 (kG_a (by decide) h66) rfl (by omega) hCk ?_
            refine xj_aload_n dX7_holds_94 rfl rfl ?_
            refine xj_get dX7_holds_95 K7 22 (by decide) q1951 (kG_a (by decide) hO) rfl ?_
            refine xj_iload_n dX7_holds_98 rfl ?_
            refine xj_ic1 dX7_holds_99 ?_
            refine xj_isub dX7_holds_100 ?_
            refine xj_iald dX7_holds_101 (kG_a (by decide) rfl) hix (by omega) (stL_top (stL_tl hS)) ?_
            refine xj_aload_n dX7_holds_102 rfl rfl ?_
            refine xj_get dX7_holds_103 K7 22 (by decide) q1951 (kG_a (by decide) hO) rfl ?_
            refine xj_iload_n dX7_holds_106 rfl ?_
            refine xj_iald dX7_holds_107 (kG_a (by decide) rfl) rfl (by omega) (stL_top hS) ?_
            refine xj_cS dX7_holds_108 q2347 kS_X7_isSo M_isSo rfl rfl (Nat.le_of_ble_eq_true rfl) ⟨(Nat.le_of_ble_eq_true rfl), (Nat.le_of_ble_eq_true rfl)⟩ (Nat.le_of_ble_eq_true rfl) (Nat.le_of_ble_eq_true rfl) ?_
            refine xj_sI_if_eq (tgt := 118) (M := 119) dX7_holds_111 rfl (fun c111 k => by
                refine xj_ic0 dX7_holds_118 ?_
                exact k) (fun c111 k => by
                refine xj_ic1 dX7_holds_114 ?_
                refine xj_goto (tgt := 119) dX7_holds_115 rfl ?_
                exact k) ?_
            refine xj_top (y := b1 (soB v z y)) (by cases soB v z y <;> rfl) ?_
            refine xj_iast dX7_holds_119 (kG_a (by decide) rfl) hix (by omega) (by omega) ?_
            refine xj_eq rfl rfl (kG_set (by decide)) ?_
            try rw [au_au, show (z :: r).length = (b1 (soB v z y) :: r).length from rfl]
            refine xj_iinc3 (cst := 1) dX7_holds_120 rfl rfl ?_
            rw [nI_1]
            refine xj_goto (tgt := 4) dX7_holds_123 rfl ?_
            first
            | exact ih_lp (k + 1) (fac n x v :: st) _ (by omega) (by omega) (by rw [List.length_cons]; omega) (stL_push hS (by omega)) hd hs
            | exact ih_lp (k + 1) ((1 - y) :: r) _ (by omega) (by omega) (by rw [List.length_cons] at hsk ⊢; omega) (stL_put hS) hd hs
            | exact ih_lp (k + 1) (b1 (soB v z y) :: r) _ (by omega) (by omega) (by rw [List.length_cons] at hsk ⊢; omega) (stL_put (stL_tl hS)) hd hs
          · have c54 : v = -9 := c54
            rw [if_pos c54] at hd
            have h1 : 1 ≤ st.length := Nat.le_of_not_lt fun h => by rw [if_neg (by omega)] at hd; cases hd
            rw [if_pos h1] at hd
            obtain ⟨y, r, rfl⟩ : ∃ y r, st = y :: r := by
              cases st with
              | nil => exact absurd h1 (by decide)
              | cons y r => exact ⟨y, r, rfl⟩
            rw [show evS n x v (y :: r) = (1 - y) :: r by unfold evS; rw [if_neg hv6, if_pos c54]; rfl] at hs
            have hix : nI (y :: r).length - 1 = nI r.length := by rw [List.length_cons]; exact nI_pred r.length
            refine xj_aload_n dX7_holds_57 rfl rfl ?_
            refine xj_get dX7_holds_58 K7 22 (by decide) q1951 (kG_a (by decide) hO) rfl ?_
            refine xj_iload_n dX7_holds_61 rfl ?_
            refine xj_ic1 dX7_holds_62 ?_
            refine xj_isub dX7_holds_63 ?_
            refine xj_ic1 dX7_holds_64 ?_
            refine xj_aload_n dX7_holds_65 rfl rfl ?_
            refine xj_get dX7_holds_66 K7 22 (by decide) q1951 (kG_a (by decide) hO) rfl ?_
            refine xj_iload_n dX7_holds_69 rfl ?_
            refine xj_ic1 dX7_holds_70 ?_
            refine xj_isub dX7_holds_71 ?_
            refine xj_iald dX7_holds_72 (kG_a (by decide) rfl) hix (by rw [List.length_cons] at hlt; omega) (stL_top hS) ?_
            refine xj_isub dX7_holds_73 ?_
            refine xj_iast dX7_holds_74 (kG_a (by decide) rfl) hix (by rw [List.length_cons] at hlt; omega) (by rw [List.length_cons] at hlt; omega) ?_
            refine xj_eq rfl rfl (kG_set (by decide)) ?_
            rw [au_au, show (y :: r).length = ((1 - y) :: r).length from rfl]
            refine xj_goto (tgt := 120) dX7_holds_75 rfl ?_
            try rw [au_au, show (z :: r).length = (b1 (soB v z y) :: r).length from rfl]
            refine xj_iinc3 (cst := 1) dX7_holds_120 rfl rfl ?_
            rw [nI_1]
            refine xj_goto (tgt := 4) dX7_holds_123 rfl ?_
            first
            | exact ih_lp (k + 1) (fac n x v :: st) _ (by omega) (by omega) (by rw [List.length_cons]; omega) (stL_push hS (by omega)) hd hs
            | exact ih_lp (k + 1) ((1 - y) :: r) _ (by omega) (by omega) (by rw [List.length_cons] at hsk ⊢; omega) (stL_put hS) hd hs
            | exact ih_lp (k + 1) (b1 (soB v z y) :: r) _ (by omega) (by omega) (by rw [List.length_cons] at hsk ⊢; omega) (stL_put (stL_tl hS)) hd hs
        · have hv6 : -6 < v := i32_nle c20
          rw [if_pos hv6] at hd
          rw [show evS n x v st = fac n x v :: st from if_pos hv6] at hs
          have hv2 : kV c n (au a 67 (cI 0 S)) := hv.u hO rfl rfl rfl
          have ha2 : kA n (au a 67 (cI 0 S)) := ha.u rfl rfl rfl
          refine xj_aload_n dX7_holds_23 rfl rfl ?_
          refine xj_get dX7_holds_24 K7 22 (by decide) q1951 (kG_a (by decide) hO) rfl ?_
          refine xj_iload_n dX7_holds_27 rfl ?_
          refine xj_aload_n dX7_holds_28 rfl rfl ?_
          refine xj_aload_n dX7_holds_29 rfl rfl ?_
          refine xj_get dX7_holds_30 K7 21 (by decide) q1950 (kG_a (by decide) hO) rfl ?_
          refine xj_iload_n dX7_holds_33 rfl ?_
          refine xj_iald dX7_holds_34 (kG_a (by decide) h66) rfl (by omega) hCk ?_
          refine xj_iload_n dX7_holds_35 rfl ?_
          refine xj_cV dX7_holds_36 q2343 kV_X7_fact (M_fact hv2 ha2 hx) (kG_a (by decide) hO) rfl rfl rfl rfl (Nat.le_of_ble_eq_true rfl) ⟨(Nat.le_of_ble_eq_true rfl), (Nat.le_of_ble_eq_true rfl)⟩ (Nat.le_of_ble_eq_true rfl) (Nat.le_of_ble_eq_true rfl) ?_
          refine xj_iast dX7_holds_39 (kG_a (by decide) rfl) rfl (by omega) (by omega) ?_
          refine xj_eq rfl rfl (kG_set (by decide)) ?_
          rw [au_au]
          refine xj_iinc2 (cst := 1) dX7_holds_40 rfl rfl ?_
          rw [nI_1]
          refine xj_goto (tgt := 120) dX7_holds_43 rfl ?_
          try rw [au_au, show (z :: r).length = (b1 (soB v z y) :: r).length from rfl]
          refine xj_iinc3 (cst := 1) dX7_holds_120 rfl rfl ?_
          rw [nI_1]
          refine xj_goto (tgt := 4) dX7_holds_123 rfl ?_
          first
          | exact ih_lp (k + 1) (fac n x v :: st) _ (by omega) (by omega) (by rw [List.length_cons]; omega) (stL_push hS (by omega)) hd hs
          | exact ih_lp (k + 1) ((1 - y) :: r) _ (by omega) (by omega) (by rw [List.length_cons] at hsk ⊢; omega) (stL_put hS) hd hs
          | exact ih_lp (k + 1) (b1 (soB v z y) :: r) _ (by omega) (by omega) (by rw [List.length_cons] at hsk ⊢; omega) (stL_put (stL_tl hS)) hd hs
  exact lp (cl.length + 1) 0 [] S0 (by omega) (by omega) (Nat.le_refl _) ⟨hS0, Nat.zero_le _, fun i x h => by cases h⟩ (by rw [List.drop_zero]; exact hdp) (by rw [List.drop_zero])
end M27
