/-! ===== the reference: feeding, arcs told, keeping ===== -/
set_option maxRecDepth 100000
theorem kV_X7_isForcing : xsV yX7_isForcing cX7_isForcing 5 (some FieldType.boolean) 2 := ⟨q1920, qs80, q161, q1921, by decide, by decide, by decide +kernel⟩
theorem kV_X7_tellsArcs : xsV yX7_tellsArcs cX7_tellsArcs 4 none 0 := ⟨q1916, qs79, q161, q1917, by decide, by decide, by decide +kernel⟩
section M20
variable {E : xE} {G T : xH} {a : Nat → xC} {c : Nat → Value} {n : Nat}
theorem M_feed {tp : List Nat} {e : Nat} {x : Int32} (hv : kV c n a) (he : e < 2 ^ 64) (ht : kT tp c a) : xMet E yX7_feed cX7_feed 5 (some FieldType.int) 1 0 0 [.ref 54, .long (lN e), .int x] (kG a T) (kR (some (.int (o_feed tp x))) T (fun b => kfr [54, 65] a b ∧ ∃ c' : Nat → Value, b 54 = cO 7 (mFs c') ∧ kT (s_feed tp e x) c' b ∧ ∀ j, j ≠ 23 → c' j = c j)) := by
  obtain ⟨hO, hf0, h1n, hn6, h63, h64⟩ := id hv
  obtain ⟨hf23, Lt, h65, htL⟩ := id ht
  have htl := htL.2.1
  refine xMet.of (lv := [some (.ref 54), some (.long (lN e)), none, some (.int x), none]) rfl rfl (Nat.le_of_ble_eq_true rfl) ?_
  refine xj_iload_n dX7_feed_0 rfl ?_
  refine xj_i2l dX7_feed_1 ?_
  refine xj_lc1 dX7_feed_2 ?_
  refine xj_ldc2 dX7_feed_3 q2276 ?_
  refine xj_cS dX7_feed_6 q2085 kS_X7_in M_in rfl rfl (Nat.le_of_ble_eq_true rfl) ⟨(Nat.le_of_ble_eq_true rfl), (Nat.le_of_ble_eq_true rfl)⟩ (Nat.le_of_ble_eq_true rfl) (Nat.le_of_ble_eq_true rfl) ?_
  rw [inB_18]
  refine xj_if_ne (tgt := 14) dX7_feed_9 rfl (fun c9 => ?_) (fun c9 => ?_)
  · have hb1 := b1_nz c9
    obtain ⟨j, hj, rfl, hj31⟩ := in1_t hb1
    have e1 : tn (nI (j + 1)) = j + 1 := nI_clamp hj31
    refine xj_aload_n dX7_feed_14 rfl rfl ?_
    refine xj_get dX7_feed_15 K7 23 (by decide) q1952 (kG_a (by decide) hO) (congrArg some hf23) ?_
    refine xj_iload_n dX7_feed_18 rfl ?_
    refine xj_iadd dX7_feed_19 ?_
    refine xj_sipush (v := 200) dX7_feed_20 rfl ?_
    rw [nI_add]
    refine xj_icmp_le (tgt := 29) dX7_feed_23 rfl (fun c23 => ?_) (fun c23 => ?_)
    · have h200 : tp.length + (j + 1) ≤ 200 := Nat.le_of_not_lt fun h => absurd c23 (nI_ge (a := 200) h (by omega))
      refine xj_ic0 dX7_feed_29 ?_
      refine xj_ist4 dX7_feed_30 rfl ?_
      refine xj_eq rfl rfl (show _ = kG (au (au a 65 (cI 0 Lt)) 54 (cO 7 (mFs (cu c 23 (.int (nI tp.length)))))) T by rw [au_id h65, ← hf23]; exact congrArg (fun z => kG z T) (au_id hO).symm) ?_
      have lp : ∀ (K : Nat) (k : Nat) (i : Nat) (l : List Nat) (L : List Int32), k < K → (i + k = j + 1) → (l.length + k ≤ 200) → (tpL L l) → (fdL e k i l = fdL e (j + 1) 0 tp) → xJ E (yX7_feed, cX7_feed, 5, (some FieldType.int), []) (xR 1 0 0) (kR (some (.int (o_feed tp (nI (j + 1))))) T (fun b => kfr [54, 65] a b ∧ ∃ c' : Nat → Value, b 54 = cO 7 (mFs c') ∧ kT (s_feed tp e (nI (j + 1))) c' b ∧ ∀ j, j ≠ 23 → c' j = c j)) 0 0 32 [some (.ref 54), some (.long (lN e)), none, some (.int (nI (j + 1))), some (.int (nI i))] [] (kG (au (au a 65 (cI 0 L)) 54 (cO 7 (mFs (cu c 23 (.int (nI l.length)))))) T) := by
        intro K
        induction K with
        | zero => intro k i l L h; exact absurd h (Nat.not_lt_zero _)
        | succ K ih_lp =>
          intro k i l L hK hk hll hL hs
          have hL200 := hL.1
          refine xj_iload dX7_feed_32 rfl ?_
          refine xj_iload_n dX7_feed_34 rfl ?_
          refine xj_icmp_ge (tgt := 75) dX7_feed_35 rfl (fun c35 => ?_) (fun c35 => ?_)
          · refine xj_aload_n dX7_feed_75 rfl rfl ?_
            refine xj_get dX7_feed_76 K7 23 (by decide) q1952 (kG_a (by decide) rfl) rfl ?_
            exact xj_ireturn dX7_feed_79 rfl rfl (by have hk0 : k = 0 := (by have := Nat.le_of_not_lt fun h => absurd c35 (nI_ge h (by omega)); omega); subst hk0; have hs : l = fdL e (j + 1) 0 tp := hs; have hln := fdL_len e (j + 1) 0 tp; exact kR_i (by unfold o_feed; rw [if_pos hb1, e1, if_neg (by omega), hs, hln]) ⟨((kfr.refl _ _).au (by decide)).au (by decide), (cu c 23 (.int (nI l.length))), rfl, by unfold s_feed; rw [if_pos hb1, e1, if_neg (by omega), ← hs]; exact ⟨rfl, L, rfl, hL⟩, fun j hj => by unfold cu; rw [if_neg hj]⟩)
          · obtain ⟨k, rfl⟩ : ∃ k0, k = k0 + 1 := ⟨k - 1, by have : k ≠ 0 := fun h => c35 (nI_le (by omega) (by omega)); omega⟩
            refine xj_aload_n dX7_feed_38 rfl rfl ?_
            refine xj_get dX7_feed_39 K7 20 (by decide) q1949 (kG_a (by decide) rfl) rfl ?_
            refine xj_aload_n dX7_feed_42 rfl rfl ?_
            refine xj_get dX7_feed_43 K7 23 (by decide) q1952 (kG_a (by decide) rfl) rfl ?_
            refine xj_lload_n dX7_feed_46 rfl ?_
            refine xj_bipush (v := 8) dX7_feed_47 rfl ?_
            refine xj_iload dX7_feed_49 rfl ?_
            refine xj_imul dX7_feed_51 ?_
            refine xj_lushr dX7_feed_52 ?_
            refine xj_ldc2 dX7_feed_53 q2277 ?_
            refine xj_land dX7_feed_56 ?_
            refine xj_l2i dX7_feed_57 ?_
            refine xj_top (c_byt he (by omega)) ?_
            refine xj_iast dX7_feed_58 (kG_a (by decide) rfl) rfl (by omega) (by omega) ?_
            refine xj_eq rfl rfl (kG_set (by decide)) ?_
            refine xj_aload_n dX7_feed_59 rfl rfl ?_
            refine xj_dup dX7_feed_60 rfl ?_
            refine xj_get dX7_feed_61 K7 23 (by decide) q1952 (kG_a (by decide) rfl) rfl ?_
            refine xj_ic1 dX7_feed_64 ?_
            refine xj_iadd dX7_feed_65 ?_
            rw [nI_1]
            refine xj_put dX7_feed_66 K7 23 (by decide) q1952 rfl rfl (kG_a (by decide) rfl) (Nat.le_of_ble_eq_true rfl) ?_
            refine xj_eq rfl rfl (kG_set (by decide)) ?_
            refine xj_eq rfl rfl (show _ = kG (au (au a 65 (cI 0 (L.set l.length (nI (byt e i))))) 54 (cO 7 (mFs (cu c 23 (.int (nI (l ++ [byt e i]).length)))))) T by rw [au_comm _ _ _ (by decide : 54 ≠ 65), au_au, au_au, List.length_append]; rfl) ?_
            refine xj_iinc4 (cst := 1) dX7_feed_69 rfl rfl ?_
            rw [nI_1]
            refine xj_goto (tgt := 32) dX7_feed_72 rfl ?_
            exact ih_lp k (i + 1) _ _ (by omega) (by omega) (by rw [List.length_append, List.length_singleton]; omega) (tpL_push hL (by omega) (Nat.mod_lt _ (by decide))) hs
      exact lp (j + 2) (j + 1) 0 tp Lt (by omega) (by omega) (by omega) htL rfl
    · refine xj_bipush (v := -2) dX7_feed_26 rfl ?_
      exact xj_ireturn dX7_feed_28 rfl rfl (by have hg : 200 < tp.length + (j + 1) := Nat.lt_of_not_le fun h => c23 (nI_le (b := 200) h (by decide)); exact kR_i (by unfold o_feed; rw [if_pos hb1, e1, if_pos hg]) ⟨kfr.refl _ _, c, hO, by unfold s_feed; rw [if_pos hb1, e1, if_pos hg]; exact ht, fun _ _ => rfl⟩)
  · refine xj_icm1 dX7_feed_12 ?_
    exact xj_ireturn dX7_feed_13 rfl rfl (kR_i (by unfold o_feed; rw [b1_z c9]; rfl) ⟨kfr.refl _ _, c, hO, by unfold s_feed; rw [b1_z c9]; exact ht, fun _ _ => rfl⟩)
theorem M_tellsArcs  (hv : kV c n a) (hz : kZ a) : xMet E yX7_tellsArcs cX7_tellsArcs 4 none 3 0 0 [.ref 54] (kG a T) (kR (none) T (fun b => kfr [54, 59, 60, 61, 62] a b ∧ b 54 = cO 7 (mFs (cu c 17 (.int (nI (na n))))) ∧ kA n b ∧ kF (cu c 17 (.int (nI (na n)))) n b ∧ kZ b)) := by
  obtain ⟨hO, hf0, h1n, hn6, h63, h64⟩ := id hv
  obtain ⟨L10, L20, L30, L40, h59, h60, h61, h62, h157, h257, h357, h457⟩ := id hz
  have hna := na_lt n (by omega)
  refine xMet.of (lv := [some (.ref 54), none, none, none]) rfl rfl (Nat.le_of_ble_eq_true rfl) ?_
  refine xj_aload_n dX7_tellsArcs_0 rfl rfl ?_
  refine xj_ic0 dX7_tellsArcs_1 ?_
  refine xj_put dX7_tellsArcs_2 K7 17 (by decide) q1946 rfl rfl (kG_a (by decide) hO) (Nat.le_of_ble_eq_true rfl) ?_
  refine xj_eq rfl rfl (kG_set (by decide)) ?_
  refine xj_ic1 dX7_tellsArcs_5 ?_
  refine xj_istn1 dX7_tellsArcs_6 rfl ?_
  refine xj_eq rfl rfl (show _ = kG (tG a c (fsA n 1 2) L10 L20 L30) T by rw [(f_fs3 n (by omega) h1n).2]; refine congrArg (fun z => kG z T) ?_; unfold tG; rw [au_id (i := 59), au_id (i := 60), au_id (i := 61)]; rfl; exact h61; exact h60; exact h59) ?_
  have lo : ∀ (K : Nat) (lo : Nat) (L1 : List Int32) (L2 : List Int32) (L3 : List Int32), 8 - lo < K → (1 ≤ lo) → (lo ≤ n + 1) → (arT n (fsA n lo (lo + 1)) L1 L2 L3) → xJ E (yX7_tellsArcs, cX7_tellsArcs, 4, none, []) (xR 3 0 0) (kR (none) T (fun b => kfr [54, 59, 60, 61, 62] a b ∧ b 54 = cO 7 (mFs (cu c 17 (.int (nI (na n))))) ∧ kA n b ∧ kF (cu c 17 (.int (nI (na n)))) n b ∧ kZ b)) 0 0 7 [some (.ref 54), some (.int (nI lo)), none, none] [] (kG (tG a c (fsA n lo (lo + 1)) L1 L2 L3) T) := by
    intro K
    induction K with
    | zero => intro lo L1 L2 L3 h; exact absurd h (Nat.not_lt_zero _)
    | succ K ih_lo =>
      intro lo L1 L2 L3 hK hlo hl1 hT
      refine xj_iload_n dX7_tellsArcs_7 rfl ?_
      refine xj_aload_n dX7_tellsArcs_8 rfl rfl ?_
      refine xj_get dX7_tellsArcs_9 K7 0 (by decide) q1929 (kG_a (by decide) rfl) (congrArg some hf0) ?_
      refine xj_icmp_gt (tgt := 98) dX7_tellsArcs_12 rfl (fun c12 => ?_) (fun c12 => ?_)
      · have hln : lo = n + 1 := by have := Nat.lt_of_not_le fun h => absurd c12 (nI_nlt h (by omega)); omega
        subst hln
        rw [(f_fs3 n (by omega) h1n).1] at hT
        rw [(f_fs3 n (by omega) h1n).1]
        refine xj_eq rfl rfl (show _ = kG (au (tG a c (na n) L1 L2 L3) 62 (cL 4 L40)) T by rw [au_id (i := 62) (show tG a c (na n) L1 L2 L3 62 = cL 4 L40 from h62)]) ?_
        refine xj_ic0 dX7_tellsArcs_98 ?_
        refine xj_istn1 dX7_tellsArcs_99 rfl ?_
        have lx : ∀ (K : Nat) (x : Nat) (L4 : List Int64), na n - x < K → (x ≤ na n) → (L4.length = 57) → (∀ k, k < x → L4[k]? = some (lN (fo n k))) → xJ E (yX7_tellsArcs, cX7_tellsArcs, 4, none, []) (xR 3 0 0) (kR (none) T (fun b => kfr [54, 59, 60, 61, 62] a b ∧ b 54 = cO 7 (mFs (cu c 17 (.int (nI (na n))))) ∧ kA n b ∧ kF (cu c 17 (.int (nI (na n)))) n b ∧ kZ b)) 0 0 100 [some (.ref 54), some (.int (nI x)), none, none] [] (kG (au (tG a c (na n) L1 L2 L3) 62 (cL 4 L4)) T) := by
          intro K
          induction K with
          | zero => intro x L4 h; exact absurd h (Nat.not_lt_zero _)
          | succ K ih_lx =>
            intro x L4 hK hx h57 hF
            refine xj_iload_n dX7_tellsArcs_100 rfl ?_
            refine xj_aload_n dX7_tellsArcs_101 rfl rfl ?_
            refine xj_get dX7_tellsArcs_102 K7 17 (by decide) q1946 (kG_a (by decide) rfl) rfl ?_
            refine xj_icmp_ge (tgt := 162) dX7_tellsArcs_105 rfl (fun c105 => ?_) (fun c105 => ?_)
            · exact xj_return dX7_tellsArcs_162 rfl (by have hxn : na n ≤ x := Nat.le_of_not_lt fun h => absurd c105 (nI_ge h (by omega)); exact kR_v ⟨fun j hj => by simp only [List.mem_cons, List.not_mem_nil, or_false, not_or] at hj; unfold tG; rw [au_n _ _ hj.2.2.2.2, au_n _ _ hj.2.2.2.1, au_n _ _ hj.2.2.1, au_n _ _ hj.2.1, au_n _ _ hj.1], rfl, ⟨L1, L2, L3, rfl, rfl, rfl, hT.2.2.2⟩, ⟨rfl, L4, rfl, fun k hk => hF k (by omega)⟩, ⟨L1, L2, L3, L4, rfl, rfl, rfl, rfl, hT.1, hT.2.1, hT.2.2.1, h57⟩⟩)
            · have hxn : x < na n := Nat.lt_of_not_le fun h => c105 (nI_le h (by omega))
              refine xj_aload_n dX7_tellsArcs_108 rfl rfl ?_
              refine xj_get dX7_tellsArcs_109 K7 16 (by decide) q1945 (kG_a (by decide) rfl) rfl ?_
              refine xj_iload_n dX7_tellsArcs_112 rfl ?_
              refine xj_lc0 dX7_tellsArcs_113 ?_
              refine xj_last dX7_tellsArcs_114 (kG_a (by decide) rfl) rfl (by omega) (by omega) ?_
              refine xj_eq rfl rfl (kG_set (by decide)) ?_
              rw [au_au]
              refine xj_ic0 dX7_tellsArcs_115 ?_
              refine xj_istn2 dX7_tellsArcs_116 rfl ?_
              have ly : ∀ (K : Nat) (y : Nat) (s : Nat) (L4 : List Int64), na n - y < K → (y ≤ na n) → (s < 2 ^ 57) → (L4.length = 57) → (∀ k, k < x → L4[k]? = some (lN (fo n k))) → (L4[x]? = some (lN s)) → (lpN (foF n x) y (na n - y) s = fo n x) → xJ E (yX7_tellsArcs, cX7_tellsArcs, 4, none, []) (xR 3 0 0) (kR (none) T (fun b => kfr [54, 59, 60, 61, 62] a b ∧ b 54 = cO 7 (mFs (cu c 17 (.int (nI (na n))))) ∧ kA n b ∧ kF (cu c 17 (.int (nI (na n)))) n b ∧ kZ b)) 0 0 117 [some (.ref 54), some (.int (nI x)), some (.int (nI y)), none] [] (kG (au (tG a c (na n) L1 L2 L3) 62 (cL 4 L4)) T) := by
                intro K
                induction K with
                | zero => intro y s L4 h; exact absurd h (Nat.not_lt_zero _)
                | succ K ih_ly =>
                  intro y s L4 hK hy hs64 h57 hF hx4 hs
                  refine xj_iload_n dX7_tellsArcs_117 rfl ?_
                  refine xj_aload_n dX7_tellsArcs_118 rfl rfl ?_
                  refine xj_get dX7_tellsArcs_119 K7 17 (by decide) q1946 (kG_a (by decide) rfl) rfl ?_
                  refine xj_icmp_ge (tgt := 156) dX7_tellsArcs_122 rfl (fun c122 => ?_) (fun c122 => ?_)
                  · have hyn : na n ≤ y := Nat.le_of_not_lt fun h => absurd c122 (nI_ge h (by omega))
                    rw [lp_end _ hyn] at hs
                    subst hs
                    refine xj_iinc1 (cst := 1) dX7_tellsArcs_156 rfl rfl ?_
                    rw [nI_1]
                    refine xj_goto (tgt := 100) dX7_tellsArcs_159 rfl ?_
                    exact xj_fg2 (ih_lx (x + 1) L4 (by omega) (by omega) h57 (fun k hk => by
                      by_cases e : k = x
                      · subst e; exact hx4
                      · exact hF k (by omega)))
                  · have hyn : y < na n := Nat.lt_of_not_le fun h => c122 (nI_le h (by omega))
                    have hv2 : kV (cu c 17 (.int (nI (na n)))) n (au (tG a c (na n) L1 L2 L3) 62 (cL 4 L4)) := hv.u rfl rfl rfl rfl
                    have ha2 : kA n (au (tG a c (na n) L1 L2 L3) 62 (cL 4 L4)) := ⟨L1, L2, L3, rfl, rfl, rfl, hT.2.2.2⟩
                    refine xj_aload_n dX7_tellsArcs_125 rfl rfl ?_
                    refine xj_get dX7_tellsArcs_126 K7 16 (by decide) q1945 (kG_a (by decide) rfl) rfl ?_
                    refine xj_iload_n dX7_tellsArcs_129 rfl ?_
                    refine xj_dup2 dX7_tellsArcs_130 rfl rfl ?_
                    refine xj_lald dX7_tellsArcs_131 (kG_a (by decide) rfl) rfl (by omega) hx4 ?_
                    refine xj_aload_n dX7_tellsArcs_132 rfl rfl ?_
                    refine xj_iload_n dX7_tellsArcs_133 rfl ?_
                    refine xj_iload_n dX7_tellsArcs_134 rfl ?_
                    refine xj_cV dX7_tellsArcs_135 q1918 kV_X7_isForcing (M_isForcing hv2.V ha2.A hxn hyn) (kG_a (by decide) rfl) rfl rfl rfl rfl (Nat.le_of_ble_eq_true rfl) ⟨(Nat.le_of_ble_eq_true rfl), (Nat.le_of_ble_eq_true rfl)⟩ (Nat.le_of_ble_eq_true rfl) (Nat.le_of_ble_eq_true rfl) ?_
                    refine xj_sL_if_eq (tgt := 147) (M := 148) dX7_tellsArcs_138 rfl (fun c138 k => by
                        refine xj_lc0 dX7_tellsArcs_147 ?_
                        exact k) (fun c138 k => by
                        refine xj_lc1 dX7_tellsArcs_141 ?_
                        refine xj_iload_n dX7_tellsArcs_142 rfl ?_
                        refine xj_lshl dX7_tellsArcs_143 ?_
                        refine xj_goto (tgt := 148) dX7_tellsArcs_144 rfl ?_
                        exact k) ?_
                    rw [l_one_shl (by omega)]
                    refine xj_topl c_selL ?_
                    refine xj_lor dX7_tellsArcs_148 ?_
                    rw [wb_or (Nat.lt_trans hs64 (by decide)) (Nat.lt_trans (if_lt_pow (k := 57) (by omega)) (by decide))]
                    refine xj_last dX7_tellsArcs_149 (kG_a (by decide) rfl) rfl (by omega) (by omega) ?_
                    refine xj_eq rfl rfl (kG_set (by decide)) ?_
                    rw [au_au]
                    refine xj_iinc2 (cst := 1) dX7_tellsArcs_150 rfl rfl ?_
                    rw [nI_1]
                    refine xj_goto (tgt := 117) dX7_tellsArcs_153 rfl ?_
                    exact ih_ly (y + 1) _ _ (by omega) (by omega) (Nat.or_lt_two_pow hs64 (if_lt_pow (by omega))) (by rw [List.length_set]; exact h57) (fun k hk => by rw [List.getElem?_set_ne (by omega)]; exact hF k hk) (List.getElem?_set_self (by omega)) (by rw [← hs, lp_step _ hyn]; rfl)
              exact ly (na n + 1) 0 0 _ (by omega) (by omega) (by decide) (by rw [List.length_set]; exact h57) (fun k hk => by rw [List.getElem?_set_ne (by omega)]; exact hF k hk) (List.getElem?_set_self (by omega)) rfl
        exact lx (na n + 1) 0 L40 (by omega) (by omega) h457 (fun k hk => absurd hk (Nat.not_lt_zero _))
      · have hln : lo ≤ n := Nat.le_of_not_lt fun h => c12 (nI_lt h (by omega))
        refine xj_iload_n dX7_tellsArcs_15 rfl ?_
        refine xj_ic1 dX7_tellsArcs_16 ?_
        refine xj_iadd dX7_tellsArcs_17 ?_
        rw [nI_1]
        refine xj_istn2 dX7_tellsArcs_18 rfl ?_
        have lm : ∀ (K : Nat) (hi : Nat) (L1 : List Int32) (L2 : List Int32) (L3 : List Int32), 8 - hi < K → (lo < hi) → (hi ≤ n + 1) → (arT n (fsA n lo hi) L1 L2 L3) → xJ E (yX7_tellsArcs, cX7_tellsArcs, 4, none, []) (xR 3 0 0) (kR (none) T (fun b => kfr [54, 59, 60, 61, 62] a b ∧ b 54 = cO 7 (mFs (cu c 17 (.int (nI (na n))))) ∧ kA n b ∧ kF (cu c 17 (.int (nI (na n)))) n b ∧ kZ b)) 0 0 19 [some (.ref 54), some (.int (nI lo)), some (.int (nI hi)), none] [] (kG (tG a c (fsA n lo hi) L1 L2 L3) T) := by
          intro K
          induction K with
          | zero => intro hi L1 L2 L3 h; exact absurd h (Nat.not_lt_zero _)
          | succ K ih_lm =>
            intro hi L1 L2 L3 hK hlh hh hT
            refine xj_iload_n dX7_tellsArcs_19 rfl ?_
            refine xj_aload_n dX7_tellsArcs_20 rfl rfl ?_
            refine xj_get dX7_tellsArcs_21 K7 0 (by decide) q1929 (kG_a (by decide) rfl) (congrArg some hf0) ?_
            refine xj_icmp_gt (tgt := 92) dX7_tellsArcs_24 rfl (fun c24 => ?_) (fun c24 => ?_)
            · have hhn : hi = n + 1 := by have := Nat.lt_of_not_le fun h => absurd c24 (nI_nlt h (by omega)); omega
              subst hhn
              rw [← f_fs2 n (by omega) lo (by omega) hlo hln] at hT
              rw [← f_fs2 n (by omega) lo (by omega) hlo hln]
              refine xj_iinc1 (cst := 1) dX7_tellsArcs_92 rfl rfl ?_
              rw [nI_1]
              refine xj_goto (tgt := 7) dX7_tellsArcs_95 rfl ?_
              exact xj_fg2 (ih_lo (lo + 1) L1 L2 L3 (by omega) (by omega) (by omega) hT)
            · have hhn : hi ≤ n := Nat.le_of_not_lt fun h => c24 (nI_lt h (by omega))
              have hf1 := f_fs1 n (by omega) lo (by omega) hlo hi (by omega) hlh hhn
              refine xj_ic0 dX7_tellsArcs_27 ?_
              refine xj_istn3 dX7_tellsArcs_28 rfl ?_
              have li : ∀ (K : Nat) (l : Nat) (L1 : List Int32) (L2 : List Int32) (L3 : List Int32), 2 ^ (hi - lo - 1) - l < K → (l ≤ 2 ^ (hi - lo - 1)) → (arT n (fsA n lo hi + l) L1 L2 L3) → xJ E (yX7_tellsArcs, cX7_tellsArcs, 4, none, []) (xR 3 0 0) (kR (none) T (fun b => kfr [54, 59, 60, 61, 62] a b ∧ b 54 = cO 7 (mFs (cu c 17 (.int (nI (na n))))) ∧ kA n b ∧ kF (cu c 17 (.int (nI (na n)))) n b ∧ kZ b)) 0 0 29 [some (.ref 54), some (.int (nI lo)), some (.int (nI hi)), some (.int (nI l))] [] (kG (tG a c (fsA n lo hi + l) L1 L2 L3) T) := by
                intro K
                induction K with
                | zero => intro l L1 L2 L3 h; exact absurd h (Nat.not_lt_zero _)
                | succ K ih_li =>
                  intro l L1 L2 L3 hK hl hT
                  refine xj_iload_n dX7_tellsArcs_29 rfl ?_
                  refine xj_ic1 dX7_tellsArcs_30 ?_
                  refine xj_iload_n dX7_tellsArcs_31 rfl ?_
                  refine xj_iload_n dX7_tellsArcs_32 rfl ?_
                  refine xj_isub dX7_tellsArcs_33 ?_
                  refine xj_ic1 dX7_tellsArcs_34 ?_
                  refine xj_isub dX7_tellsArcs_35 ?_
                  refine xj_ishl dX7_tellsArcs_36 ?_
                  refine xj_top (c_pw lo (by omega) hi (by omega) hlh) ?_
                  refine xj_icmp_ge (tgt := 86) dX7_tellsArcs_37 rfl (fun c37 => ?_) (fun c37 => ?_)
                  · have hlp : l = 2 ^ (hi - lo - 1) := by have := Nat.le_of_not_lt fun h => absurd c37 (nI_ge (a := l) (b := 2 ^ (hi - lo - 1)) h (by omega)); omega
                    rw [hlp, ← hf1.1] at hT
                    rw [hlp, ← hf1.1]
                    refine xj_iinc2 (cst := 1) dX7_tellsArcs_86 rfl rfl ?_
                    rw [nI_1]
                    refine xj_goto (tgt := 19) dX7_tellsArcs_89 rfl ?_
                    exact xj_fg3 (ih_lm (hi + 1) L1 L2 L3 (by omega) (by omega) (by omega) hT)
                  · have hlp : l < 2 ^ (hi - lo - 1) := Nat.lt_of_not_le fun h => c37 (nI_le h (by omega))
                    obtain ⟨q1, q2, q3, q4⟩ := f_fs n (by omega) lo (by omega) hlo hi (by omega) hlh hhn l (by omega) hlp
                    have hLL := hT
                    obtain ⟨z1, z2, z3, -⟩ := hLL
                    refine xj_aload_n dX7_tellsArcs_40 rfl rfl ?_
                    refine xj_get dX7_tellsArcs_41 K7 13 (by decide) q1942 (kG_a (by decide) rfl) rfl ?_
                    refine xj_aload_n dX7_tellsArcs_44 rfl rfl ?_
                    refine xj_get dX7_tellsArcs_45 K7 17 (by decide) q1946 (kG_a (by decide) rfl) rfl ?_
                    refine xj_iload_n dX7_tellsArcs_48 rfl ?_
                    refine xj_iast dX7_tellsArcs_49 (kG_a (by decide) rfl) rfl (by omega) (by omega) ?_
                    refine xj_eq rfl rfl (kG_set (by decide)) ?_
                    rw [tG_59]
                    refine xj_aload_n dX7_tellsArcs_50 rfl rfl ?_
                    refine xj_get dX7_tellsArcs_51 K7 14 (by decide) q1943 (kG_a (by decide) rfl) rfl ?_
                    refine xj_aload_n dX7_tellsArcs_54 rfl rfl ?_
                    refine xj_get dX7_tellsArcs_55 K7 17 (by decide) q1946 (kG_a (by decide) rfl) rfl ?_
                    refine xj_iload_n dX7_tellsArcs_58 rfl ?_
                    refine xj_iast dX7_tellsArcs_59 (kG_a (by decide) rfl) rfl (by omega) (by omega) ?_
                    refine xj_eq rfl rfl (kG_set (by decide)) ?_
                    rw [tG_60]
                    refine xj_aload_n dX7_tellsArcs_60 rfl rfl ?_
                    refine xj_get dX7_tellsArcs_61 K7 15 (by decide) q1944 (kG_a (by decide) rfl) rfl ?_
                    refine xj_aload_n dX7_tellsArcs_64 rfl rfl ?_
                    refine xj_get dX7_tellsArcs_65 K7 17 (by decide) q1946 (kG_a (by decide) rfl) rfl ?_
                    refine xj_iload_n dX7_tellsArcs_68 rfl ?_
                    refine xj_iast dX7_tellsArcs_69 (kG_a (by decide) rfl) rfl (by omega) (by omega) ?_
                    refine xj_eq rfl rfl (kG_set (by decide)) ?_
                    rw [tG_61]
                    refine xj_aload_n dX7_tellsArcs_70 rfl rfl ?_
                    refine xj_dup dX7_tellsArcs_71 rfl ?_
                    refine xj_get dX7_tellsArcs_72 K7 17 (by decide) q1946 (kG_a (by decide) rfl) rfl ?_
                    refine xj_ic1 dX7_tellsArcs_75 ?_
                    refine xj_iadd dX7_tellsArcs_76 ?_
                    rw [nI_1]
                    refine xj_put dX7_tellsArcs_77 K7 17 (by decide) q1946 rfl rfl (kG_a (by decide) rfl) (Nat.le_of_ble_eq_true rfl) ?_
                    refine xj_eq rfl rfl (kG_set (by decide)) ?_
                    refine xj_eq rfl rfl (congrArg (fun z => kG z T) (show _ = tG a c (fsA n lo hi + l + 1) (L1.set (fsA n lo hi + l) (nI lo)) (L2.set (fsA n lo hi + l) (nI hi)) (L3.set (fsA n lo hi + l) (nI l)) from tG_54 (k := fsA n lo hi + l) (kk := fsA n lo hi + l + 1) (L1 := L1.set (fsA n lo hi + l) (nI lo)) (L2 := L2.set (fsA n lo hi + l) (nI hi)) (L3 := L3.set (fsA n lo hi + l) (nI l)))) ?_
                    refine xj_iinc3 (cst := 1) dX7_tellsArcs_80 rfl rfl ?_
                    rw [nI_1]
                    refine xj_goto (tgt := 29) dX7_tellsArcs_83 rfl ?_
                    exact ih_li (l + 1) _ _ _ (by omega) (by omega) (by have := arT_s hT (by omega); rw [q2, q3, q4] at this; exact this)
              exact li 17 0 L1 L2 L3 (by omega) (Nat.zero_le _) hT
        exact lm 8 (lo + 1) L1 L2 L3 (by omega) (by omega) (by omega) hT
  exact lo 8 1 L10 L20 L30 (by omega) (by omega) (by omega) (by rw [(f_fs3 n (by omega) h1n).2]; exact ⟨h157, h257, h357, fun j hj => absurd hj (Nat.not_lt_zero _)⟩)
theorem M_size {g : Nat} {v : Int32} (hv : kV c n a) (hf3 : c 3 = .long (lN g)) (ha : kA n a) (hf : kF c n a) (hz : kZ a) : xMet E yX7_size cX7_size 3 (some FieldType.int) 4 0 0 [.ref 54, .int v] (kG a T) (kR (some (.int (o_size n v))) T (fun b => kfr [54, 59, 60, 61, 62] a b ∧ ∃ c' : Nat → Value, kV c' (s_size n v) b ∧ c' 3 = .long (lN (s_sizeG n g v)) ∧ kA (s_size n v) b ∧ kF c' (s_size n v) b ∧ kZ b ∧ ∀ j, j ≠ 0 → j ≠ 3 → j ≠ 17 → c' j = c j)) := by
  obtain ⟨hO, hf0, h1n, hn6, h63, h64⟩ := id hv
  refine xMet.of (lv := [some (.ref 54), some (.int v), none]) rfl rfl (Nat.le_of_ble_eq_true rfl) ?_
  refine xj_iload_n dX7_size_0 rfl ?_
  refine xj_i2l dX7_size_1 ?_
  refine xj_lc1 dX7_size_2 ?_
  refine xj_ldc2 dX7_size_3 q2084 ?_
  refine xj_cS dX7_size_6 q2085 kS_X7_in M_in rfl rfl (Nat.le_of_ble_eq_true rfl) ⟨(Nat.le_of_ble_eq_true rfl), (Nat.le_of_ble_eq_true rfl)⟩ (Nat.le_of_ble_eq_true rfl) (Nat.le_of_ble_eq_true rfl) ?_
  rw [inB_16]
  refine xj_if_ne (tgt := 14) dX7_size_9 rfl (fun c9 => ?_) (fun c9 => ?_)
  · have hb1 := b1_nz c9
    obtain ⟨k, hk, rfl, hk31⟩ := in1_t hb1
    have e1 : tn (nI (k + 1)) = k + 1 := nI_clamp hk31
    refine xj_aload_n dX7_size_14 rfl rfl ?_
    refine xj_get dX7_size_15 K7 0 (by decide) q1929 (kG_a (by decide) hO) (congrArg some hf0) ?_
    refine xj_istn2 dX7_size_18 rfl ?_
    refine xj_iload_n dX7_size_19 rfl ?_
    refine xj_aload_n dX7_size_20 rfl rfl ?_
    refine xj_get dX7_size_21 K7 0 (by decide) q1929 (kG_a (by decide) hO) (congrArg some hf0) ?_
    refine xj_icmp_eq (tgt := 41) dX7_size_24 rfl (fun c24 => ?_) (fun c24 => ?_)
    · refine xj_iload_n dX7_size_41 rfl ?_
      exact xj_ireturn dX7_size_42 rfl rfl (by first | (have e : k + 1 = n := (nI_eq (by omega) (by omega)).mp c24; exact kR_i (by unfold o_size; rw [if_pos hb1]) ⟨kfr.refl _ _, c, by rw [show s_size n (nI (k + 1)) = n by unfold s_size; rw [if_pos hb1, e1]; exact e]; exact hv, by rw [show s_sizeG n g (nI (k + 1)) = g by unfold s_sizeG; rw [if_pos hb1, e1, if_pos e]]; exact hf3, by rw [show s_size n (nI (k + 1)) = n by unfold s_size; rw [if_pos hb1, e1]; exact e]; exact ha, by rw [show s_size n (nI (k + 1)) = n by unfold s_size; rw [if_pos hb1, e1]; exact e]; exact hf, hz, fun _ _ _ _ => rfl⟩) | (have e : ¬ k + 1 = n := fun q => c24 (by rw [q]); have en : s_size n (nI (k + 1)) = k + 1 := (by unfold s_size; rw [if_pos hb1, e1]); exact kR_i (by unfold o_size; rw [if_pos hb1]) ⟨((kfr.refl _ _).au (by decide)).trans hfr (fun _ h => h), _, by rw [en]; exact ⟨hO1, rfl, by omega, by omega, (hfr 63 (by decide)).trans h63, (hfr 64 (by decide)).trans h64⟩, by unfold s_sizeG; rw [if_pos hb1, e1, if_neg e]; rfl, by rw [en]; exact hA1, by rw [en]; exact hF1, hZ1, fun j h1 h2 h3 => by unfold cu; rw [if_neg h3, if_neg h2, if_neg h1]⟩))
    · refine xj_aload_n dX7_size_27 rfl rfl ?_
      refine xj_iload_n dX7_size_28 rfl ?_
      refine xj_put dX7_size_29 K7 0 (by decide) q1929 rfl rfl (kG_a (by decide) hO) (Nat.le_of_ble_eq_true rfl) ?_
      refine xj_eq rfl rfl (kG_set (by decide)) ?_
      refine xj_aload_n dX7_size_32 rfl rfl ?_
      refine xj_lc0 dX7_size_33 ?_
      refine xj_put dX7_size_34 K7 3 (by decide) q1932 rfl rfl (kG_a (by decide) rfl) (Nat.le_of_ble_eq_true rfl) ?_
      refine xj_eq rfl rfl (kG_set (by decide)) ?_
      rw [au_au]
      refine xj_eq rfl rfl (show _ = kG (au a 54 (cO 7 (mFs (cu (cu c 0 (.int (nI (k + 1)))) 3 (.long (lN 0)))))) T from rfl) ?_
      refine xj_aload_n dX7_size_37 rfl rfl ?_
      refine xj_dV dX7_size_38 q1914 kV_X7_tellsArcs (M_tellsArcs (c := (cu (cu c 0 (.int (nI (k + 1)))) 3 (.long (lN 0)))) (n := k + 1) ⟨rfl, rfl, by omega, by omega, h63, h64⟩ (hz.u rfl rfl rfl rfl)) (kG_a (by decide) rfl) rfl rfl rfl rfl (Nat.le_of_ble_eq_true rfl) ⟨(Nat.le_of_ble_eq_true rfl), (Nat.le_of_ble_eq_true rfl)⟩ (Nat.le_of_ble_eq_true rfl) (Nat.le_of_ble_eq_true rfl) ?_
      rintro _ _ ⟨rfl, b1_, rfl, hfr, hO1, hA1, hF1, hZ1⟩
      refine xj_iload_n dX7_size_41 rfl ?_
      exact xj_ireturn dX7_size_42 rfl rfl (by first | (have e : k + 1 = n := (nI_eq (by omega) (by omega)).mp c24; exact kR_i (by unfold o_size; rw [if_pos hb1]) ⟨kfr.refl _ _, c, by rw [show s_size n (nI (k + 1)) = n by unfold s_size; rw [if_pos hb1, e1]; exact e]; exact hv, by rw [show s_sizeG n g (nI (k + 1)) = g by unfold s_sizeG; rw [if_pos hb1, e1, if_pos e]]; exact hf3, by rw [show s_size n (nI (k + 1)) = n by unfold s_size; rw [if_pos hb1, e1]; exact e]; exact ha, by rw [show s_size n (nI (k + 1)) = n by unfold s_size; rw [if_pos hb1, e1]; exact e]; exact hf, hz, fun _ _ _ _ => rfl⟩) | (have e : ¬ k + 1 = n := fun q => c24 (by rw [q]); have en : s_size n (nI (k + 1)) = k + 1 := (by unfold s_size; rw [if_pos hb1, e1]); exact kR_i (by unfold o_size; rw [if_pos hb1]) ⟨((kfr.refl _ _).au (by decide)).trans hfr (fun _ h => h), _, by rw [en]; exact ⟨hO1, rfl, by omega, by omega, (hfr 63 (by decide)).trans h63, (hfr 64 (by decide)).trans h64⟩, by unfold s_sizeG; rw [if_pos hb1, e1, if_neg e]; rfl, by rw [en]; exact hA1, by rw [en]; exact hF1, hZ1, fun j h1 h2 h3 => by unfold cu; rw [if_neg h3, if_neg h2, if_neg h1]⟩))
  · refine xj_icm1 dX7_size_12 ?_
    exact xj_ireturn dX7_size_13 rfl rfl (kR_i (by unfold o_size; rw [b1_z c9]; rfl) ⟨kfr.refl _ _, c, by rw [show s_size n v = n by unfold s_size; rw [b1_z c9]; rfl]; exact hv, by rw [show s_sizeG n g v = g by unfold s_sizeG; rw [b1_z c9]; rfl]; exact hf3, by rw [show s_size n v = n by unfold s_size; rw [b1_z c9]; rfl]; exact ha, by rw [show s_size n v = n by unfold s_size; rw [b1_z c9]; rfl]; exact hf, hz, fun _ _ _ _ => rfl⟩)
theorem M_keep {l : List (Nat × Nat)} {z : Int32} {g : Nat} {kp : Option (Nat × Int32 × Nat × List (Nat × Nat))} (hv : kV c n a) (hm : kM c l a) (hf1 : c 1 = .int z) (hf3 : c 3 = .long (lN g)) (hg : g < 2 ^ 57) (hk : kP kp c a) : xMet E yX7_keep cX7_keep 2 (some FieldType.int) 1 0 0 [.ref 54] (kG a T) (kR (some (.int 1)) T (fun b => kfr [54, 57, 58] a b ∧ ∃ c' : Nat → Value, b 54 = cO 7 (mFs c') ∧ kP (some (n, z, g, l)) c' b ∧ ∀ j, j ≠ 6 → j ≠ 7 → j ≠ 8 → j ≠ 9 → j ≠ 12 → c' j = c j)) := by
  obtain ⟨hO, hf0, h1n, hn6, h63, h64⟩ := id hv
  obtain ⟨hf2, Kd, Mk, h55, h56, hML⟩ := id hm
  obtain ⟨hK6, hM6, hl6, hKM⟩ := id hML
  obtain ⟨K0, M0, h57, h58, h06, h07, -⟩ := id hk
  refine xMet.of (lv := [some (.ref 54), none]) rfl rfl (Nat.le_of_ble_eq_true rfl) ?_
  refine xj_aload_n dX7_keep_0 rfl rfl ?_
  refine xj_aload_n dX7_keep_1 rfl rfl ?_
  refine xj_get dX7_keep_2 K7 0 (by decide) q1929 (kG_a (by decide) hO) (congrArg some hf0) ?_
  refine xj_put dX7_keep_5 K7 6 (by decide) q1935 rfl rfl (kG_a (by decide) hO) (Nat.le_of_ble_eq_true rfl) ?_
  refine xj_eq rfl rfl (kG_set (by decide)) ?_
  refine xj_aload_n dX7_keep_8 rfl rfl ?_
  refine xj_aload_n dX7_keep_9 rfl rfl ?_
  refine xj_get dX7_keep_10 K7 1 (by decide) q1930 (kG_a (by decide) rfl) (congrArg some hf1) ?_
  refine xj_put dX7_keep_13 K7 7 (by decide) q1936 rfl rfl (kG_a (by decide) rfl) (Nat.le_of_ble_eq_true rfl) ?_
  refine xj_eq rfl rfl (kG_set (by decide)) ?_
  refine xj_aload_n dX7_keep_16 rfl rfl ?_
  refine xj_aload_n dX7_keep_17 rfl rfl ?_
  refine xj_get dX7_keep_18 K7 3 (by decide) q1932 (kG_a (by decide) rfl) (congrArg some hf3) ?_
  refine xj_put dX7_keep_21 K7 9 (by decide) q1938 rfl rfl (kG_a (by decide) rfl) (Nat.le_of_ble_eq_true rfl) ?_
  refine xj_eq rfl rfl (kG_set (by decide)) ?_
  refine xj_aload_n dX7_keep_24 rfl rfl ?_
  refine xj_aload_n dX7_keep_25 rfl rfl ?_
  refine xj_get dX7_keep_26 K7 2 (by decide) q1931 (kG_a (by decide) rfl) (congrArg some hf2) ?_
  refine xj_put dX7_keep_29 K7 8 (by decide) q1937 rfl rfl (kG_a (by decide) rfl) (Nat.le_of_ble_eq_true rfl) ?_
  refine xj_eq rfl rfl (kG_set (by decide)) ?_
  refine xj_ic0 dX7_keep_32 ?_
  refine xj_istn1 dX7_keep_33 rfl ?_
  refine xj_eq rfl rfl (show _ = kG (au (au (au a 54 (cO 7 (mFs (cu (cu (cu (cu c 6 (.int (nI n))) 7 (.int z)) 9 (.long (lN g))) 8 (.int (nI l.length)))))) 57 (cI 0 K0)) 58 (cI 0 M0)) T by rw [au_au, au_au, au_au]; refine congrArg (fun z => kG z T) ?_; rw [au_id (i := 57), au_id (i := 58)]; rfl; exact h58; exact h57) ?_
  have lp : ∀ (K : Nat) (p : Nat) (D : List Int32) (D2 : List Int32), 6 - p < K → (p ≤ 6) → (D.length = 6) → (D2.length = 6) → (∀ i, i < p → D[i]? = Kd[i]?) → (∀ i, i < p → D2[i]? = Mk[i]?) → xJ E (yX7_keep, cX7_keep, 2, (some FieldType.int), []) (xR 1 0 0) (kR (some (.int 1)) T (fun b => kfr [54, 57, 58] a b ∧ ∃ c' : Nat → Value, b 54 = cO 7 (mFs c') ∧ kP (some (n, z, g, l)) c' b ∧ ∀ j, j ≠ 6 → j ≠ 7 → j ≠ 8 → j ≠ 9 → j ≠ 12 → c' j = c j)) 0 0 34 [some (.ref 54), some (.int (nI p))] [] (kG (au (au (au a 54 (cO 7 (mFs (cu (cu (cu (cu c 6 (.int (nI n))) 7 (.int z)) 9 (.long (lN g))) 8 (.int (nI l.length)))))) 57 (cI 0 D)) 58 (cI 0 D2)) T) := by
    intro K
    induction K with
    | zero => intro p D D2 h; exact absurd h (Nat.not_lt_zero _)
    | succ K ih_lp =>
      intro p D D2 hK hp hD hD2 hc1 hc2
      refine xj_iload_n dX7_keep_34 rfl ?_
      refine xj_bipush (v := 6) dX7_keep_35 rfl ?_
      refine xj_icmp_ge (tgt := 70) dX7_keep_37 rfl (fun c37 => ?_) (fun c37 => ?_)
      · have hp6 : 6 ≤ p := Nat.le_of_not_lt fun h => absurd c37 (nI_ge (a := p) (b := 6) h (by omega))
        have ed := l6_ext hK6 hD (fun i hi => hc1 i (by omega))
        have ed2 := l6_ext hM6 hD2 (fun i hi => hc2 i (by omega))
        subst ed
        subst ed2
        refine xj_aload_n dX7_keep_70 rfl rfl ?_
        refine xj_ic1 dX7_keep_71 ?_
        refine xj_put dX7_keep_72 K7 12 (by decide) q1941 rfl rfl (kG_a (by decide) rfl) (Nat.le_of_ble_eq_true rfl) ?_
        refine xj_eq rfl rfl (kG_set (by decide)) ?_
        refine xj_ic1 dX7_keep_75 ?_
        exact xj_ireturn dX7_keep_76 rfl rfl (kR_i rfl ⟨(((kfr.refl _ _).au (by decide)).au (by decide)).au (by decide) |>.au (by decide), cu (cu (cu (cu (cu c 6 (.int (nI n))) 7 (.int z)) 9 (.long (lN g))) 8 (.int (nI l.length))) 12 (.int 1), rfl, ⟨_, _, rfl, rfl, hK6, hM6, rfl, rfl, rfl, rfl, rfl, h1n, hn6, hg, hML⟩, fun j h6 h7 h8 h9 h12 => by unfold cu; rw [if_neg h12, if_neg h8, if_neg h9, if_neg h7, if_neg h6]⟩)
      · have hp6 : p < 6 := Nat.lt_of_not_le fun h => c37 (nI_le (a := 6) h (by omega))
        obtain ⟨v1, hv1⟩ : ∃ v, Kd[p]? = some v := ⟨_, List.getElem?_eq_getElem (by omega)⟩
        obtain ⟨v2, hv2⟩ : ∃ v, Mk[p]? = some v := ⟨_, List.getElem?_eq_getElem (by omega)⟩
        refine xj_aload_n dX7_keep_40 rfl rfl ?_
        refine xj_get dX7_keep_41 K7 10 (by decide) q1939 (kG_a (by decide) rfl) rfl ?_
        refine xj_iload_n dX7_keep_44 rfl ?_
        refine xj_aload_n dX7_keep_45 rfl rfl ?_
        refine xj_get dX7_keep_46 K7 4 (by decide) q1933 (kG_a (by decide) rfl) rfl ?_
        refine xj_iload_n dX7_keep_49 rfl ?_
        refine xj_iald dX7_keep_50 (kG_a (by decide) h55) rfl (by omega) hv1 ?_
        refine xj_iast dX7_keep_51 (kG_a (by decide) rfl) rfl (by omega) (by omega) ?_
        refine xj_eq rfl rfl (kG_set (by decide)) ?_
        rw [au_comm _ _ _ (by decide : 58 ≠ 57), au_au]
        refine xj_aload_n dX7_keep_52 rfl rfl ?_
        refine xj_get dX7_keep_53 K7 11 (by decide) q1940 (kG_a (by decide) rfl) rfl ?_
        refine xj_iload_n dX7_keep_56 rfl ?_
        refine xj_aload_n dX7_keep_57 rfl rfl ?_
        refine xj_get dX7_keep_58 K7 5 (by decide) q1934 (kG_a (by decide) rfl) rfl ?_
        refine xj_iload_n dX7_keep_61 rfl ?_
        refine xj_iald dX7_keep_62 (kG_a (by decide) h56) rfl (by omega) hv2 ?_
        refine xj_iast dX7_keep_63 (kG_a (by decide) rfl) rfl (by omega) (by omega) ?_
        refine xj_eq rfl rfl (kG_set (by decide)) ?_
        rw [au_au]
        refine xj_iinc1 (cst := 1) dX7_keep_64 rfl rfl ?_
        rw [nI_1]
        refine xj_goto (tgt := 34) dX7_keep_67 rfl ?_
        exact ih_lp (p + 1) _ _ (by omega) (by omega) (by rw [List.length_set]; exact hD) (by rw [List.length_set]; exact hD2) (cp_step (by omega) hv1 hc1) (cp_step (by omega) hv2 hc2)
  exact lp 7 0 K0 M0 (by omega) (by omega) h06 h07 (fun i hi => absurd hi (Nat.not_lt_zero _)) (fun i hi => absurd hi (Nat.not_lt_zero _))
theorem M_again {l : List (Nat × Nat)} {kp : Option (Nat × Int32 × Nat × List (Nat × Nat))} (hv : kV c n a) (hm : kM c l a) (hz : kZ a) (hk : kP kp c a) : xMet E yX7_again cX7_again 2 (some FieldType.int) 4 0 0 [.ref 54] (kG a T) (match kp with | none => kR (some (.int (-3))) T (fun b => b = a) | some q => kR (some (.int (nI (pc64 q.2.2.1)))) T (fun b => kfr [54, 55, 56, 59, 60, 61, 62] a b ∧ ∃ c' : Nat → Value, kV c' q.1 b ∧ c' 1 = .int q.2.1 ∧ c' 3 = .long (lN q.2.2.1) ∧ kM c' q.2.2.2 b ∧ kA q.1 b ∧ kF c' q.1 b ∧ kZ b ∧ ∀ j, j ≠ 0 → j ≠ 1 → j ≠ 2 → j ≠ 3 → j ≠ 17 → c' j = c j)) := by
  obtain ⟨hO, hf0, h1n, hn6, h63, h64⟩ := id hv
  obtain ⟨hf2, Kd, Mk, h55, h56, hML⟩ := id hm
  obtain ⟨hK6, hM6, hl6, hKM⟩ := id hML
  obtain ⟨K0, M0, h57, h58, h06, h07, hpp⟩ := id hk
  cases kp with
  | none =>
    refine xMet.of (lv := [some (.ref 54), none]) rfl rfl (Nat.le_of_ble_eq_true rfl) ?_
    refine xj_aload_n dX7_again_0 rfl rfl ?_
    refine xj_get dX7_again_1 K7 12 (by decide) q1941 (kG_a (by decide) hO) (congrArg some hpp) ?_
    refine xj_if_ne (tgt := 10) dX7_again_4 rfl (fun c4 => absurd rfl c4) (fun c4 => ?_)
    refine xj_bipush (v := -3) dX7_again_7 rfl ?_
    exact xj_ireturn dX7_again_9 rfl rfl (kR_i rfl rfl)
  | some q =>
    obtain ⟨g12, hg6, hg7, hg9, hg8, g1, g6, g57, gML⟩ := hpp
    refine xMet.of (lv := [some (.ref 54), none]) rfl rfl (Nat.le_of_ble_eq_true rfl) ?_
    refine xj_aload_n dX7_again_0 rfl rfl ?_
    refine xj_get dX7_again_1 K7 12 (by decide) q1941 (kG_a (by decide) hO) (congrArg some g12) ?_
    refine xj_if_ne (tgt := 10) dX7_again_4 rfl (fun c4 => ?_) (fun c4 => absurd c4 (by decide))
    refine xj_aload_n dX7_again_10 rfl rfl ?_
    refine xj_aload_n dX7_again_11 rfl rfl ?_
    refine xj_get dX7_again_12 K7 6 (by decide) q1935 (kG_a (by decide) hO) (congrArg some hg6) ?_
    refine xj_put dX7_again_15 K7 0 (by decide) q1929 rfl rfl (kG_a (by decide) hO) (Nat.le_of_ble_eq_true rfl) ?_
    refine xj_eq rfl rfl (kG_set (by decide)) ?_
    refine xj_aload_n dX7_again_18 rfl rfl ?_
    refine xj_aload_n dX7_again_19 rfl rfl ?_
    refine xj_get dX7_again_20 K7 7 (by decide) q1936 (kG_a (by decide) rfl) (congrArg some hg7) ?_
    refine xj_put dX7_again_23 K7 1 (by decide) q1930 rfl rfl (kG_a (by decide) rfl) (Nat.le_of_ble_eq_true rfl) ?_
    refine xj_eq rfl rfl (kG_set (by decide)) ?_
    refine xj_aload_n dX7_again_26 rfl rfl ?_
    refine xj_aload_n dX7_again_27 rfl rfl ?_
    refine xj_get dX7_again_28 K7 9 (by decide) q1938 (kG_a (by decide) rfl) (congrArg some hg9) ?_
    refine xj_put dX7_again_31 K7 3 (by decide) q1932 rfl rfl (kG_a (by decide) rfl) (Nat.le_of_ble_eq_true rfl) ?_
    refine xj_eq rfl rfl (kG_set (by decide)) ?_
    refine xj_aload_n dX7_again_34 rfl rfl ?_
    refine xj_aload_n dX7_again_35 rfl rfl ?_
    refine xj_get dX7_again_36 K7 8 (by decide) q1937 (kG_a (by decide) rfl) (congrArg some hg8) ?_
    refine xj_put dX7_again_39 K7 2 (by decide) q1931 rfl rfl (kG_a (by decide) rfl) (Nat.le_of_ble_eq_true rfl) ?_
    refine xj_eq rfl rfl (kG_set (by decide)) ?_
    refine xj_ic0 dX7_again_42 ?_
    refine xj_istn1 dX7_again_43 rfl ?_
    refine xj_eq rfl rfl (show _ = kG (au (au (au a 54 (cO 7 (mFs (cu (cu (cu (cu c 0 (.int (nI q.1))) 1 (.int q.2.1)) 3 (.long (lN q.2.2.1))) 2 (.int (nI q.2.2.2.length)))))) 55 (cI 0 Kd)) 56 (cI 0 Mk)) T by rw [au_au, au_au, au_au]; refine congrArg (fun z => kG z T) ?_; rw [au_id (i := 55), au_id (i := 56)]; rfl; exact h56; exact h55) ?_
    have lp : ∀ (K : Nat) (p : Nat) (D : List Int32) (D2 : List Int32), 6 - p < K → (p ≤ 6) → (D.length = 6) → (D2.length = 6) → (∀ i, i < p → D[i]? = K0[i]?) → (∀ i, i < p → D2[i]? = M0[i]?) → xJ E (yX7_again, cX7_again, 2, (some FieldType.int), []) (xR 4 0 0) (kR (some (.int (nI (pc64 q.2.2.1)))) T (fun b => kfr [54, 55, 56, 59, 60, 61, 62] a b ∧ ∃ c' : Nat → Value, kV c' q.1 b ∧ c' 1 = .int q.2.1 ∧ c' 3 = .long (lN q.2.2.1) ∧ kM c' q.2.2.2 b ∧ kA q.1 b ∧ kF c' q.1 b ∧ kZ b ∧ ∀ j, j ≠ 0 → j ≠ 1 → j ≠ 2 → j ≠ 3 → j ≠ 17 → c' j = c j)) 0 0 44 [some (.ref 54), some (.int (nI p))] [] (kG (au (au (au a 54 (cO 7 (mFs (cu (cu (cu (cu c 0 (.int (nI q.1))) 1 (.int q.2.1)) 3 (.long (lN q.2.2.1))) 2 (.int (nI q.2.2.2.length)))))) 55 (cI 0 D)) 56 (cI 0 D2)) T) := by
      intro K
      induction K with
      | zero => intro p D D2 h; exact absurd h (Nat.not_lt_zero _)
      | succ K ih_lp =>
        intro p D D2 hK hp hD hD2 hc1 hc2
        refine xj_iload_n dX7_again_44 rfl ?_
        refine xj_bipush (v := 6) dX7_again_45 rfl ?_
        refine xj_icmp_ge (tgt := 80) dX7_again_47 rfl (fun c47 => ?_) (fun c47 => ?_)
        · have hp6 : 6 ≤ p := Nat.le_of_not_lt fun h => absurd c47 (nI_ge (a := p) (b := 6) h (by omega))
          have ed := l6_ext h06 hD (fun i hi => hc1 i (by omega))
          have ed2 := l6_ext h07 hD2 (fun i hi => hc2 i (by omega))
          subst ed
          subst ed2
          refine xj_aload_n dX7_again_80 rfl rfl ?_
          refine xj_dV dX7_again_81 q1914 kV_X7_tellsArcs (M_tellsArcs (c := (cu (cu (cu (cu c 0 (.int (nI q.1))) 1 (.int q.2.1)) 3 (.long (lN q.2.2.1))) 2 (.int (nI q.2.2.2.length)))) (n := q.1) ⟨rfl, rfl, g1, g6, h63, h64⟩ (hz.u rfl rfl rfl rfl)) (kG_a (by decide) rfl) rfl rfl rfl rfl (Nat.le_of_ble_eq_true rfl) ⟨(Nat.le_of_ble_eq_true rfl), (Nat.le_of_ble_eq_true rfl)⟩ (Nat.le_of_ble_eq_true rfl) (Nat.le_of_ble_eq_true rfl) ?_
          rintro _ _ ⟨rfl, b1_, rfl, hfr, hO1, hA1, hF1, hZ1⟩
          refine xj_aload_n dX7_again_84 rfl rfl ?_
          refine xj_get dX7_again_85 K7 3 (by decide) q1932 (kG_a (by decide) hO1) rfl ?_
          refine xj_cS dX7_again_88 q2124 kS_X7_ones (M_ones (Nat.lt_trans g57 (by decide))) rfl rfl (Nat.le_of_ble_eq_true rfl) ⟨(Nat.le_of_ble_eq_true rfl), (Nat.le_of_ble_eq_true rfl)⟩ (Nat.le_of_ble_eq_true rfl) (Nat.le_of_ble_eq_true rfl) ?_
          exact xj_ireturn dX7_again_91 rfl rfl (kR_i rfl ⟨((((kfr.refl _ _).au (by decide)).au (by decide)).au (by decide)).trans hfr (by decide), _, ⟨hO1, rfl, g1, g6, (hfr 63 (by decide)).trans h63, (hfr 64 (by decide)).trans h64⟩, rfl, rfl, ⟨rfl, _, _, hfr 55 (by decide), hfr 56 (by decide), gML⟩, hA1, hF1, hZ1, fun j h0 h1 h2 h3 h17 => by unfold cu; rw [if_neg h17, if_neg h2, if_neg h3, if_neg h1, if_neg h0]⟩)
        · have hp6 : p < 6 := Nat.lt_of_not_le fun h => c47 (nI_le (a := 6) h (by omega))
          obtain ⟨v1, hv1⟩ : ∃ v, K0[p]? = some v := ⟨_, List.getElem?_eq_getElem (by omega)⟩
          obtain ⟨v2, hv2⟩ : ∃ v, M0[p]? = some v := ⟨_, List.getElem?_eq_getElem (by omega)⟩
          refine xj_aload_n dX7_again_50 rfl rfl ?_
          refine xj_get dX7_again_51 K7 4 (by decide) q1933 (kG_a (by decide) rfl) rfl ?_
          refine xj_iload_n dX7_again_54 rfl ?_
          refine xj_aload_n dX7_again_55 rfl rfl ?_
          refine xj_get dX7_again_56 K7 10 (by decide) q1939 (kG_a (by decide) rfl) rfl ?_
          refine xj_iload_n dX7_again_59 rfl ?_
          refine xj_iald dX7_again_60 (kG_a (by decide) h57) rfl (by omega) hv1 ?_
          refine xj_iast dX7_again_61 (kG_a (by decide) rfl) rfl (by omega) (by omega) ?_
          refine xj_eq rfl rfl (kG_set (by decide)) ?_
          rw [au_comm _ _ _ (by decide : 56 ≠ 55), au_au]
          refine xj_aload_n dX7_again_62 rfl rfl ?_
          refine xj_get dX7_again_63 K7 5 (by decide) q1934 (kG_a (by decide) rfl) rfl ?_
          refine xj_iload_n dX7_again_66 rfl ?_
          refine xj_aload_n dX7_again_67 rfl rfl ?_
          refine xj_get dX7_again_68 K7 11 (by decide) q1940 (kG_a (by decide) rfl) rfl ?_
          refine xj_iload_n dX7_again_71 rfl ?_
          refine xj_iald dX7_again_72 (kG_a (by decide) h58) rfl (by omega) hv2 ?_
          refine xj_iast dX7_again_73 (kG_a (by decide) rfl) rfl (by omega) (by omega) ?_
          refine xj_eq rfl rfl (kG_set (by decide)) ?_
          rw [au_au]
          refine xj_iinc1 (cst := 1) dX7_again_74 rfl rfl ?_
          rw [nI_1]
          refine xj_goto (tgt := 44) dX7_again_77 rfl ?_
          exact ih_lp (p + 1) _ _ (by omega) (by omega) (by rw [List.length_set]; exact hD) (by rw [List.length_set]; exact hD2) (cp_step (by omega) hv1 hc1) (cp_step (by omega) hv2 hc2)
    exact lp 7 0 Kd Mk (by omega) (by omega) hK6 hM6 (fun i hi => absurd hi (Nat.not_lt_zero _)) (fun i hi => absurd hi (Nat.not_lt_zero _))
end M20
