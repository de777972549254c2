/-! ===== the reference: sheets and shelves, on ===== -/
set_option maxRecDepth 100000
theorem i32_le5 {x : Int32} (h : ¬ 5 < x) : x ≤ 5 := by rw [Int32.le_iff_toInt_le]; rw [Int32.lt_iff_toInt_lt] at h; omega
theorem i32_gt5 {x : Int32} (h : 5 < x) : ¬ x ≤ 5 := by rw [Int32.le_iff_toInt_le]; rw [Int32.lt_iff_toInt_lt] at h; omega
theorem kV_X7_areThrees : xsV yX7_areThrees cX7_areThrees 4 (some FieldType.boolean) 1 := ⟨q2451, qs132, q161, q2452, by decide, by decide, by decide +kernel⟩
theorem kV_X7_fits : xsV yX7_fits cX7_fits 7 (some FieldType.boolean) 2 := ⟨q2455, qs133, q161, q2456, by decide, by decide, by decide +kernel⟩
theorem kV_X7_heldBy : xsV yX7_heldBy cX7_heldBy 2 (some FieldType.int) 1 := ⟨q2533, qs137, q161, q2534, by decide, by decide, by decide +kernel⟩
theorem kS_X7_isShelf : xsS yX7_isShelf cX7_isShelf 1 (some FieldType.boolean) 1 := ⟨q2523, q161, q2524, by decide, by decide, by decide +kernel⟩
theorem kS_X7_isUnder : xsS yX7_isUnder cX7_isUnder 2 (some FieldType.boolean) 2 := ⟨q2536, q161, q2537, by decide, by decide, by decide +kernel⟩
section M18
variable {E : xE} {G T : xH} {a : Nat → xC} {c : Nat → Value} {n : Nat}
theorem M_rowFrom {sh : Nat → Option (Nat × List Int64)} {k i : Int32} (hv : kV c n a) (hh : kH sh a) : xMet E yX7_rowFrom cX7_rowFrom 7 (some FieldType.int) 2 0 0 [.ref 54, .int k, .int i] (kG a T) (xrv (some (.int (o_rowFrom n sh k i))) (kG a T)) := by
  obtain ⟨hO, hf0, h1n, hn6, h63, h64⟩ := id hv
  obtain ⟨S, Z, C, h75, h76, h77, hHL⟩ := id hh
  obtain ⟨hS4, hZ4, hC160, hKK⟩ := id hHL
  refine xMet.of (lv := [some (.ref 54), some (.int k), some (.int i), none, none, none, none]) rfl rfl (Nat.le_of_ble_eq_true rfl) ?_
  refine xj_iload_n dX7_rowFrom_0 rfl ?_
  refine xj_cS dX7_rowFrom_1 q2446 kS_X7_isSheet M_isSheet rfl rfl (Nat.le_of_ble_eq_true rfl) ⟨(Nat.le_of_ble_eq_true rfl), (Nat.le_of_ble_eq_true rfl)⟩ (Nat.le_of_ble_eq_true rfl) (Nat.le_of_ble_eq_true rfl) ?_
  refine xj_if_ne (tgt := 9) dX7_rowFrom_4 rfl (fun c4 => ?_) (fun c4 => ?_)
  · have hb1 := b1_nz c4
    obtain ⟨j, hj4, hj31, rfl⟩ := inI_t hb1
    have e1 : tn (nI j) = j := nI_clamp hj31
    have hKj := hKK j hj4
    cases hq : sh j with
    | none =>
      have hS1 := s_none hKj.1 hq
      refine xj_aload_n dX7_rowFrom_9 rfl rfl ?_
      refine xj_get dX7_rowFrom_10 K7 37 (by decide) q1966 (kG_a (by decide) hO) rfl ?_
      refine xj_iload_n dX7_rowFrom_13 rfl ?_
      refine xj_iald dX7_rowFrom_14 (kG_a (by decide) h75) rfl hj31 hS1 ?_
      refine xj_if_eq (tgt := 35) dX7_rowFrom_15 rfl (fun c15 => absurd c15 (by decide)) (fun c15 => ?_)
      refine xj_aload_n dX7_rowFrom_18 rfl rfl ?_
      refine xj_get dX7_rowFrom_19 K7 37 (by decide) q1966 (kG_a (by decide) hO) rfl ?_
      refine xj_iload_n dX7_rowFrom_22 rfl ?_
      refine xj_iald dX7_rowFrom_23 (kG_a (by decide) h75) rfl hj31 hS1 ?_
      refine xj_if_ge (tgt := 32) dX7_rowFrom_24 rfl (fun c24 => absurd c24 (by decide)) (fun c24 => ?_)
      refine xj_bipush (v := -11) dX7_rowFrom_27 rfl ?_
      refine xj_goto (tgt := 34) dX7_rowFrom_29 rfl ?_
      exact xj_ireturn dX7_rowFrom_34 rfl rfl (xrv_i (by simp [o_rowFrom, hb1, e1, hq]))
    | some q =>
      have hq4 := hKj.2.2.2.1 q hq
      have hS1 := s_some hKj.1 hq
      have hZ1 := z_some hKj.2.1 hq
      have h40 : q.2.length ≤ 40 := by have := hKj.2.2.1; rw [hq] at this; exact this
      have hCC : ∀ (i : Nat) (x : Int64), q.2[i]? = some x → C[40 * j + i]? = some x := by have := hKj.2.2.2.2; rw [hq] at this; exact this
      refine xj_aload_n dX7_rowFrom_9 rfl rfl ?_
      refine xj_get dX7_rowFrom_10 K7 37 (by decide) q1966 (kG_a (by decide) hO) rfl ?_
      refine xj_iload_n dX7_rowFrom_13 rfl ?_
      refine xj_iald dX7_rowFrom_14 (kG_a (by decide) h75) rfl hj31 hS1 ?_
      refine xj_if_eq (tgt := 35) dX7_rowFrom_15 rfl (fun c15 => ?_) (fun c15 => ?_)
      · have h0 : q.1 = 0 := (nI_eq (by omega) (by omega)).mp (show nI q.1 = nI 0 from c15)
        refine xj_iload_n dX7_rowFrom_35 rfl ?_
        refine xj_if_lt (tgt := 54) dX7_rowFrom_36 rfl (fun c36 => ?_) (fun c36 => ?_)
        · refine xj_bipush (v := -12) dX7_rowFrom_54 rfl ?_
          exact xj_ireturn dX7_rowFrom_56 rfl rfl (xrv_i (by have hin : ¬ (0 ≤ i.toInt ∧ i.toInt + n ≤ q.2.length) := (by rintro ⟨w1, w2⟩; first | (have := i32n c36; omega) | exact c51 ((mv_le h40 (nI_pos (by omega)) c36).mpr (by rw [nI_toInt (by omega)]; exact w2))); simp [o_rowFrom, hb1, e1, hq, h0, hin]))
        · refine xj_iload_n dX7_rowFrom_39 rfl ?_
          refine xj_aload_n dX7_rowFrom_40 rfl rfl ?_
          refine xj_get dX7_rowFrom_41 K7 38 (by decide) q1967 (kG_a (by decide) hO) rfl ?_
          refine xj_iload_n dX7_rowFrom_44 rfl ?_
          refine xj_iald dX7_rowFrom_45 (kG_a (by decide) h76) rfl hj31 hZ1 ?_
          refine xj_aload_n dX7_rowFrom_46 rfl rfl ?_
          refine xj_get dX7_rowFrom_47 K7 0 (by decide) q1929 (kG_a (by decide) hO) (congrArg some hf0) ?_
          refine xj_isub dX7_rowFrom_50 ?_
          refine xj_icmp_le (tgt := 57) dX7_rowFrom_51 rfl (fun c51 => ?_) (fun c51 => ?_)
          · have g1 := (mv_le h40 (nI_pos (by omega)) c36).mp c51
            obtain ⟨I, hI31, rfl⟩ := nI_of c36
            rw [nI_toInt hI31, nI_toInt (by omega)] at g1
            have hIn : I + n ≤ q.2.length := by omega
            have e2 : tn (nI I) = I := nI_clamp hI31
            have hin : 0 ≤ (nI I).toInt ∧ (nI I).toInt + n ≤ q.2.length := by rw [nI_toInt hI31]; omega
            refine xj_ic0 dX7_rowFrom_57 ?_
            refine xj_istn3 dX7_rowFrom_58 rfl ?_
            refine xj_ic0 dX7_rowFrom_59 ?_
            refine xj_ist4 dX7_rowFrom_60 rfl ?_
            have lp : ∀ (K : Nat) (k : Nat) (p : Nat) (r : Nat), k < K → (p + k = n) → (r < 10 ^ p) → (rfF n q.2 k (I + p) r = o_rowFrom n sh (nI j) (nI I)) → xJ E (yX7_rowFrom, cX7_rowFrom, 7, (some FieldType.int), []) (xR 2 0 0) (xrv (some (.int (o_rowFrom n sh (nI j) (nI I)))) (kG a T)) 0 0 62 [some (.ref 54), some (.int (nI j)), some (.int (nI I)), some (.int (nI r)), some (.int (nI p)), none, none] [] (kG a T) := by
              intro K
              induction K with
              | zero => intro k p r h; exact absurd h (Nat.not_lt_zero _)
              | succ K ih_lp =>
                intro k p r hK hk hr hs
                refine xj_iload dX7_rowFrom_62 rfl ?_
                refine xj_aload_n dX7_rowFrom_64 rfl rfl ?_
                refine xj_get dX7_rowFrom_65 K7 0 (by decide) q1929 (kG_a (by decide) hO) (congrArg some hf0) ?_
                refine xj_icmp_ge (tgt := 119) dX7_rowFrom_68 rfl (fun c68 => ?_) (fun c68 => ?_)
                · have hk0 : k = 0 := by have := Nat.le_of_not_lt fun h => absurd c68 (nI_ge h (by omega)); omega
                  subst hk0
                  refine xj_aload_n dX7_rowFrom_119 rfl rfl ?_
                  refine xj_iload_n dX7_rowFrom_120 rfl ?_
                  refine xj_cV dX7_rowFrom_121 q2096 kV_X7_isRow (M_isRow hv.V) (kG_a (by decide) hO) rfl rfl rfl rfl (Nat.le_of_ble_eq_true rfl) ⟨(Nat.le_of_ble_eq_true rfl), (Nat.le_of_ble_eq_true rfl)⟩ (Nat.le_of_ble_eq_true rfl) (Nat.le_of_ble_eq_true rfl) ?_
                  refine xj_sI_if_eq (tgt := 131) (M := 133) dX7_rowFrom_124 rfl (fun c124 k => by
                      refine xj_bipush (v := -3) dX7_rowFrom_131 rfl ?_
                      exact k) (fun c124 k => by
                      refine xj_iload_n dX7_rowFrom_127 rfl ?_
                      refine xj_goto (tgt := 133) dX7_rowFrom_128 rfl ?_
                      exact k) ?_
                  exact xj_ireturn dX7_rowFrom_133 rfl rfl (xrv_i (by rw [b1_if]; exact hs))
                · obtain ⟨k, rfl⟩ : ∃ k0, k = k0 + 1 := ⟨k - 1, by have : k ≠ 0 := fun h => c68 (nI_le (by omega) (by omega)); omega⟩
                  obtain ⟨x, hx⟩ : ∃ x, q.2[I + p]? = some x := ⟨_, List.getElem?_eq_getElem (by omega)⟩
                  have hx2 : q.2.getD (I + p) 0 = x := x_getD hx
                  have hs : (if 1 ≤ (q.2.getD (I + p) 0).toInt ∧ (q.2.getD (I + p) 0).toInt ≤ n then rfF n q.2 k (I + p + 1) (10 * r + (q.2.getD (I + p) 0).toInt.toNat) else -3) = o_rowFrom n sh (nI j) (nI I) := hs
                  rw [hx2] at hs
                  have hp10 : 10 ^ (p + 1) = 10 * 10 ^ p := by rw [Nat.pow_succ, Nat.mul_comm]
                  have hp6 : 10 ^ (p + 1) ≤ 10 ^ 6 := Nat.pow_le_pow_right (by decide) (by omega)
                  refine xj_aload_n dX7_rowFrom_71 rfl rfl ?_
                  refine xj_get dX7_rowFrom_72 K7 39 (by decide) q1968 (kG_a (by decide) hO) rfl ?_
                  refine xj_bipush (v := 40) dX7_rowFrom_75 rfl ?_
                  refine xj_iload_n dX7_rowFrom_77 rfl ?_
                  refine xj_imul dX7_rowFrom_78 ?_
                  refine xj_iload_n dX7_rowFrom_79 rfl ?_
                  refine xj_iadd dX7_rowFrom_80 ?_
                  refine xj_iload dX7_rowFrom_81 rfl ?_
                  refine xj_iadd dX7_rowFrom_83 ?_
                  refine xj_lald dX7_rowFrom_84 (kG_a (by decide) h77) (show (40 : Int32) * nI j + nI I + nI p = nI (40 * j + (I + p)) by rw [nI_40, nI_add, Nat.add_assoc]) (by omega) (hCC _ _ hx) ?_
                  refine xj_lst5 dX7_rowFrom_85 rfl ?_
                  refine xj_lload dX7_rowFrom_87 rfl ?_
                  refine xj_lc1 dX7_rowFrom_89 ?_
                  refine xj_aload_n dX7_rowFrom_90 rfl rfl ?_
                  refine xj_get dX7_rowFrom_91 K7 0 (by decide) q1929 (kG_a (by decide) hO) (congrArg some hf0) ?_
                  refine xj_i2l dX7_rowFrom_94 ?_
                  refine xj_cS dX7_rowFrom_95 q2085 kS_X7_in M_in rfl rfl (Nat.le_of_ble_eq_true rfl) ⟨(Nat.le_of_ble_eq_true rfl), (Nat.le_of_ble_eq_true rfl)⟩ (Nat.le_of_ble_eq_true rfl) (Nat.le_of_ble_eq_true rfl) ?_
                  rw [inB_dn (by omega)]
                  refine xj_if_ne (tgt := 104) dX7_rowFrom_98 rfl (fun c98 => ?_) (fun c98 => ?_)
                  · have hd := of_decide_eq_true (b1_nz c98)
                    rw [if_pos hd] at hs
                    obtain ⟨D, hD⟩ : ∃ D : Nat, x.toInt = (D : Int) := ⟨x.toInt.toNat, by omega⟩
                    rw [hD] at hs hd
                    rw [Int.toNat_natCast] at hs
                    refine xj_bipush (v := 10) dX7_rowFrom_104 rfl ?_
                    refine xj_iload_n dX7_rowFrom_106 rfl ?_
                    refine xj_imul dX7_rowFrom_107 ?_
                    refine xj_lload dX7_rowFrom_108 rfl ?_
                    refine xj_l2i dX7_rowFrom_110 ?_
                    refine xj_iadd dX7_rowFrom_111 ?_
                    refine xj_top (show (10 : Int32) * nI r + x.toInt32 = nI (10 * r + D) by rw [l_dig (by omega) hD, show (10 : Int32) * nI r = nI (10 * r) from (Int32.ofNat_mul 10 r).symm, nI_add]) ?_
                    refine xj_istn3 dX7_rowFrom_112 rfl ?_
                    refine xj_iinc4 (cst := 1) dX7_rowFrom_113 rfl rfl ?_
                    rw [nI_1]
                    refine xj_goto (tgt := 62) dX7_rowFrom_116 rfl ?_
                    exact xj_fg5 (ih_lp k (p + 1) _ (by omega) (by omega) (by omega) hs)
                  · refine xj_bipush (v := -3) dX7_rowFrom_101 rfl ?_
                    exact xj_ireturn dX7_rowFrom_103 rfl rfl (xrv_i (by rw [if_neg (of_decide_eq_false (b1_z c98))] at hs; exact hs))
            exact lp (n + 1) n 0 0 (by omega) (by omega) (by decide) (by rw [Nat.add_zero]; simp [o_rowFrom, hb1, e1, hq, h0, hin, e2])
          · refine xj_bipush (v := -12) dX7_rowFrom_54 rfl ?_
            exact xj_ireturn dX7_rowFrom_56 rfl rfl (xrv_i (by have hin : ¬ (0 ≤ i.toInt ∧ i.toInt + n ≤ q.2.length) := (by rintro ⟨w1, w2⟩; first | (have := i32n c36; omega) | exact c51 ((mv_le h40 (nI_pos (by omega)) c36).mpr (by rw [nI_toInt (by omega)]; exact w2))); simp [o_rowFrom, hb1, e1, hq, h0, hin]))
      · refine xj_aload_n dX7_rowFrom_18 rfl rfl ?_
        refine xj_get dX7_rowFrom_19 K7 37 (by decide) q1966 (kG_a (by decide) hO) rfl ?_
        refine xj_iload_n dX7_rowFrom_22 rfl ?_
        refine xj_iald dX7_rowFrom_23 (kG_a (by decide) h75) rfl hj31 hS1 ?_
        refine xj_if_ge (tgt := 32) dX7_rowFrom_24 rfl (fun c24 => ?_) (fun c24 => absurd (nI_pos' (by omega)) c24)
        refine xj_bipush (v := -13) dX7_rowFrom_32 rfl ?_
        exact xj_ireturn dX7_rowFrom_34 rfl rfl (xrv_i (by have h0 : q.1 ≠ 0 := fun h => c15 (by rw [h]; rfl); simp [o_rowFrom, hb1, e1, hq, h0]))
  · refine xj_icm1 dX7_rowFrom_7 ?_
    exact xj_ireturn dX7_rowFrom_8 rfl rfl (xrv_i (by simp [o_rowFrom, b1_z c4]))
theorem M_heldBy {l : List (Nat × Nat)} {hl : Nat → Option (Nat ⊕ (Nat × Nat))} {j : Nat} (hv : kV c n a) (hw : kW hl a) (hm : kM c l a) (hj : j < 4) : xMet E yX7_heldBy cX7_heldBy 2 (some FieldType.int) 2 0 0 [.ref 54, .int (nI j)] (kG a T) (xrv (some (.int (nI (hby l (hl j))))) (kG a T)) := by
  obtain ⟨hO, hf0, h1n, hn6, h63, h64⟩ := id hv
  obtain ⟨Hh, Th, Lh, h79, h80, h81, hWL⟩ := id hw
  obtain ⟨hH4, hT4, hL4, hWW⟩ := id hWL
  obtain ⟨hf2, Kd, Mk, h55, h56, hML⟩ := id hm
  obtain ⟨hK6, hM6, hl6, hKM⟩ := id hML
  refine xMet.of (lv := [some (.ref 54), some (.int (nI j))]) rfl rfl (Nat.le_of_ble_eq_true rfl) ?_
  have hWj := hWW j hj
  cases ho : hl j with
  | none =>
    rw [ho] at hWj
    refine xj_aload_n dX7_heldBy_0 rfl rfl ?_
    refine xj_get dX7_heldBy_1 K7 41 (by decide) q1970 (kG_a (by decide) hO) rfl ?_
    refine xj_iload_n dX7_heldBy_4 rfl ?_
    refine xj_iald dX7_heldBy_5 (kG_a (by decide) h79) rfl (by omega) hWj ?_
    refine xj_if_ne (tgt := 26) dX7_heldBy_6 rfl (fun c6 => ?_) (fun c6 => absurd c6 (by decide))
    refine xj_aload_n dX7_heldBy_26 rfl rfl ?_
    refine xj_get dX7_heldBy_27 K7 41 (by decide) q1970 (kG_a (by decide) hO) rfl ?_
    refine xj_iload_n dX7_heldBy_30 rfl ?_
    refine xj_iald dX7_heldBy_31 (kG_a (by decide) h79) rfl (by omega) hWj ?_
    exact xj_ireturn dX7_heldBy_32 rfl rfl (xrv_i (by rfl))
  | some o =>
    rw [ho] at hWj
    cases o with
    | inl p =>
      refine xj_aload_n dX7_heldBy_0 rfl rfl ?_
      refine xj_get dX7_heldBy_1 K7 41 (by decide) q1970 (kG_a (by decide) hO) rfl ?_
      refine xj_iload_n dX7_heldBy_4 rfl ?_
      refine xj_iald dX7_heldBy_5 (kG_a (by decide) h79) rfl (by omega) hWj.1 ?_
      refine xj_if_ne (tgt := 26) dX7_heldBy_6 rfl (fun c6 => absurd rfl c6) (fun c6 => ?_)
      refine xj_aload_n dX7_heldBy_9 rfl rfl ?_
      refine xj_aload_n dX7_heldBy_10 rfl rfl ?_
      refine xj_get dX7_heldBy_11 K7 42 (by decide) q1971 (kG_a (by decide) hO) rfl ?_
      refine xj_iload_n dX7_heldBy_14 rfl ?_
      refine xj_iald dX7_heldBy_15 (kG_a (by decide) h80) rfl (by omega) hWj.2.1 ?_
      refine xj_cV dX7_heldBy_16 q2243 kV_X7_isMaker (M_isMaker hv.V hf2 hl6) (kG_a (by decide) hO) rfl rfl rfl rfl (Nat.le_of_ble_eq_true rfl) ⟨(Nat.le_of_ble_eq_true rfl), (Nat.le_of_ble_eq_true rfl)⟩ (Nat.le_of_ble_eq_true rfl) (Nat.le_of_ble_eq_true rfl) ?_
      refine xj_if_ne (tgt := 26) dX7_heldBy_19 rfl (fun c19 => ?_) (fun c19 => ?_)
      · refine xj_aload_n dX7_heldBy_26 rfl rfl ?_
        refine xj_get dX7_heldBy_27 K7 41 (by decide) q1970 (kG_a (by decide) hO) rfl ?_
        refine xj_iload_n dX7_heldBy_30 rfl ?_
        refine xj_iald dX7_heldBy_31 (kG_a (by decide) h79) rfl (by omega) hWj.1 ?_
        exact xj_ireturn dX7_heldBy_32 rfl rfl (xrv_i (by have hm6 := hWj.2.2; show _ = nI (if p < l.length then 0 else 2); first | (have h := b1_nz c19; obtain ⟨p2, hp2, hp31, e⟩ := inI_t h; rw [if_pos (by rw [(nI_eq (by omega) hp31).mp e]; exact hp2)]; rfl) | (have h := b1_z c19; rw [if_neg (fun q => by rw [inI_nI q (by omega)] at h; cases h)]; rfl)))
      · refine xj_ic2 dX7_heldBy_22 ?_
        refine xj_goto (tgt := 32) dX7_heldBy_23 rfl ?_
        exact xj_ireturn dX7_heldBy_32 rfl rfl (xrv_i (by have hm6 := hWj.2.2; show _ = nI (if p < l.length then 0 else 2); first | (have h := b1_nz c19; obtain ⟨p2, hp2, hp31, e⟩ := inI_t h; rw [if_pos (by rw [(nI_eq (by omega) hp31).mp e]; exact hp2)]; rfl) | (have h := b1_z c19; rw [if_neg (fun q => by rw [inI_nI q (by omega)] at h; cases h)]; rfl)))
    | inr q =>
      refine xj_aload_n dX7_heldBy_0 rfl rfl ?_
      refine xj_get dX7_heldBy_1 K7 41 (by decide) q1970 (kG_a (by decide) hO) rfl ?_
      refine xj_iload_n dX7_heldBy_4 rfl ?_
      refine xj_iald dX7_heldBy_5 (kG_a (by decide) h79) rfl (by omega) hWj.1 ?_
      refine xj_if_ne (tgt := 26) dX7_heldBy_6 rfl (fun c6 => ?_) (fun c6 => absurd c6 (by decide))
      refine xj_aload_n dX7_heldBy_26 rfl rfl ?_
      refine xj_get dX7_heldBy_27 K7 41 (by decide) q1970 (kG_a (by decide) hO) rfl ?_
      refine xj_iload_n dX7_heldBy_30 rfl ?_
      refine xj_iald dX7_heldBy_31 (kG_a (by decide) h79) rfl (by omega) hWj.1 ?_
      exact xj_ireturn dX7_heldBy_32 rfl rfl (xrv_i (by rfl))
theorem M_taken {l : List (Nat × Nat)} {hl : Nat → Option (Nat ⊕ (Nat × Nat))} {k as : Int32} (hv : kV c n a) (hw : kW hl a) (hm : kM c l a) : xMet E yX7_taken cX7_taken 4 (some FieldType.int) 3 0 0 [.ref 54, .int k, .int as] (kG a T) (xrv (some (.int (o_taken l hl k as))) (kG a T)) := by
  obtain ⟨hO, hf0, h1n, hn6, h63, h64⟩ := id hv
  obtain ⟨Hh, Th, Lh, h79, h80, h81, hWL⟩ := id hw
  obtain ⟨hH4, hT4, hL4, hWW⟩ := id hWL
  obtain ⟨hf2, Kd, Mk, h55, h56, hML⟩ := id hm
  obtain ⟨hK6, hM6, hl6, hKM⟩ := id hML
  refine xMet.of (lv := [some (.ref 54), some (.int k), some (.int as), none]) rfl rfl (Nat.le_of_ble_eq_true rfl) ?_
  refine xj_iload_n dX7_taken_0 rfl ?_
  refine xj_cS dX7_taken_1 q2522 kS_X7_isShelf M_isShelf rfl rfl (Nat.le_of_ble_eq_true rfl) ⟨(Nat.le_of_ble_eq_true rfl), (Nat.le_of_ble_eq_true rfl)⟩ (Nat.le_of_ble_eq_true rfl) (Nat.le_of_ble_eq_true rfl) ?_
  refine xj_if_eq (tgt := 33) dX7_taken_4 rfl (fun c4 => ?_) (fun c4 => ?_)
  · refine xj_icm1 dX7_taken_33 ?_
    exact xj_ireturn dX7_taken_34 rfl rfl (xrv_i (by first | (simp [o_taken, b1_z c4]; done) | (have h1 := b1_z c16; have h2 := b1_z c30; rw [inB_c5] at h1; rw [inB_1013] at h2; simp [o_taken, tkI, h1, h2]; done)))
  · refine xj_iload_n dX7_taken_7 rfl ?_
    refine xj_i2l dX7_taken_8 ?_
    refine xj_lc0 dX7_taken_9 ?_
    refine xj_ldc2 dX7_taken_10 q2237 ?_
    refine xj_cS dX7_taken_13 q2085 kS_X7_in M_in rfl rfl (Nat.le_of_ble_eq_true rfl) ⟨(Nat.le_of_ble_eq_true rfl), (Nat.le_of_ble_eq_true rfl)⟩ (Nat.le_of_ble_eq_true rfl) (Nat.le_of_ble_eq_true rfl) ?_
    refine xj_if_ne (tgt := 35) dX7_taken_16 rfl (fun c16 => ?_) (fun c16 => ?_)
    · have hb1 := b1_nz c4
      obtain ⟨j, hj4, hj31, rfl⟩ := inI_t hb1
      have e1 : tn (nI j) = j := nI_clamp hj31
      have hWj := hWW j hj4
      have hb2 : tkI as = true := by
        unfold tkI
        first
        | (have h := b1_nz c16; rw [inB_c5] at h; rw [h]; rfl)
        | (have h := b1_nz c30; rw [inB_1013] at h; rw [h, Bool.or_true])
      cases ho : hl j with
      | none =>
        rw [ho] at hWj
        refine xj_aload_n dX7_taken_35 rfl rfl ?_
        refine xj_iload_n dX7_taken_36 rfl ?_
        have hhb : hby l (hl j) = 2 := by rw [ho]; rfl
        refine xj_cV dX7_taken_37 q2531 kV_X7_heldBy (M_heldBy hv hw hm hj4) (kG_a (by decide) hO) rfl rfl rfl rfl (Nat.le_of_ble_eq_true rfl) ⟨(Nat.le_of_ble_eq_true rfl), (Nat.le_of_ble_eq_true rfl)⟩ (Nat.le_of_ble_eq_true rfl) (Nat.le_of_ble_eq_true rfl) ?_
        rw [hhb]
        refine xj_istn3 dX7_taken_40 rfl ?_
        refine xj_iload_n dX7_taken_41 rfl ?_
        refine xj_ic2 dX7_taken_42 ?_
        refine xj_icmp_ne (tgt := 49) dX7_taken_43 rfl (fun c43 => absurd rfl c43) (fun c43 => ?_)
        refine xj_bipush (v := -11) dX7_taken_46 rfl ?_
        exact xj_ireturn dX7_taken_48 rfl rfl (xrv_i (by simp [o_taken, hb1, hb2, e1, ho]))
      | some o =>
        rw [ho] at hWj
        cases o with
        | inl p =>
          have hp6 := hWj.2.2
          by_cases hpl : p < l.length
          · refine xj_aload_n dX7_taken_35 rfl rfl ?_
            refine xj_iload_n dX7_taken_36 rfl ?_
            have hhb : hby l (hl j) = 0 := by rw [ho]; exact if_pos hpl
            refine xj_cV dX7_taken_37 q2531 kV_X7_heldBy (M_heldBy hv hw hm hj4) (kG_a (by decide) hO) rfl rfl rfl rfl (Nat.le_of_ble_eq_true rfl) ⟨(Nat.le_of_ble_eq_true rfl), (Nat.le_of_ble_eq_true rfl)⟩ (Nat.le_of_ble_eq_true rfl) (Nat.le_of_ble_eq_true rfl) ?_
            rw [hhb]
            refine xj_istn3 dX7_taken_40 rfl ?_
            refine xj_iload_n dX7_taken_41 rfl ?_
            refine xj_ic2 dX7_taken_42 ?_
            refine xj_icmp_ne (tgt := 49) dX7_taken_43 rfl (fun c43 => ?_) (fun c43 => absurd c43 (by decide))
            refine xj_iload_n dX7_taken_49 rfl ?_
            refine xj_if_ne (tgt := 88) dX7_taken_50 rfl (fun c50 => absurd rfl c50) (fun c50 => ?_)
            refine xj_iload_n dX7_taken_53 rfl ?_
            refine xj_ic5 dX7_taken_54 ?_
            refine xj_icmp_gt (tgt := 85) dX7_taken_55 rfl (fun c55 => ?_) (fun c55 => ?_)
            · refine xj_bipush (v := -13) dX7_taken_85 rfl ?_
              exact xj_ireturn dX7_taken_87 rfl rfl (xrv_i (by first | (simp [o_taken, hb1, hb2, e1, ho, hpl, i32_le5 c55, b1_nz c73]; done) | (simp [o_taken, hb1, hb2, e1, ho, hpl, b1_z c73]; done) | (simp [o_taken, hb1, hb2, e1, ho, hpl, i32_gt5 c55]; done)))
            · refine xj_aload_n dX7_taken_58 rfl rfl ?_
              refine xj_get dX7_taken_59 K7 4 (by decide) q1933 (kG_a (by decide) hO) rfl ?_
              refine xj_aload_n dX7_taken_62 rfl rfl ?_
              refine xj_get dX7_taken_63 K7 42 (by decide) q1971 (kG_a (by decide) hO) rfl ?_
              refine xj_iload_n dX7_taken_66 rfl ?_
              refine xj_iald dX7_taken_67 (kG_a (by decide) h80) rfl hj31 hWj.2.1 ?_
              refine xj_iald dX7_taken_68 (kG_a (by decide) h55) rfl (by omega) (hKM p _ (mkAt_some hpl)).1 ?_
              refine xj_iload_n dX7_taken_69 rfl ?_
              refine xj_cS dX7_taken_70 q2535 kS_X7_isUnder M_isUnder rfl rfl (Nat.le_of_ble_eq_true rfl) ⟨(Nat.le_of_ble_eq_true rfl), (Nat.le_of_ble_eq_true rfl)⟩ (Nat.le_of_ble_eq_true rfl) (Nat.le_of_ble_eq_true rfl) ?_
              refine xj_if_eq (tgt := 85) dX7_taken_73 rfl (fun c73 => ?_) (fun c73 => ?_)
              · refine xj_bipush (v := -13) dX7_taken_85 rfl ?_
                exact xj_ireturn dX7_taken_87 rfl rfl (xrv_i (by first | (simp [o_taken, hb1, hb2, e1, ho, hpl, i32_le5 c55, b1_nz c73]; done) | (simp [o_taken, hb1, hb2, e1, ho, hpl, b1_z c73]; done) | (simp [o_taken, hb1, hb2, e1, ho, hpl, i32_gt5 c55]; done)))
              · refine xj_aload_n dX7_taken_76 rfl rfl ?_
                refine xj_get dX7_taken_77 K7 42 (by decide) q1971 (kG_a (by decide) hO) rfl ?_
                refine xj_iload_n dX7_taken_80 rfl ?_
                refine xj_iald dX7_taken_81 (kG_a (by decide) h80) rfl hj31 hWj.2.1 ?_
                refine xj_goto (tgt := 87) dX7_taken_82 rfl ?_
                exact xj_ireturn dX7_taken_87 rfl rfl (xrv_i (by first | (simp [o_taken, hb1, hb2, e1, ho, hpl, i32_le5 c55, b1_nz c73]; done) | (simp [o_taken, hb1, hb2, e1, ho, hpl, b1_z c73]; done) | (simp [o_taken, hb1, hb2, e1, ho, hpl, i32_gt5 c55]; done)))
          · refine xj_aload_n dX7_taken_35 rfl rfl ?_
            refine xj_iload_n dX7_taken_36 rfl ?_
            have hhb : hby l (hl j) = 2 := by rw [ho]; exact if_neg hpl
            refine xj_cV dX7_taken_37 q2531 kV_X7_heldBy (M_heldBy hv hw hm hj4) (kG_a (by decide) hO) rfl rfl rfl rfl (Nat.le_of_ble_eq_true rfl) ⟨(Nat.le_of_ble_eq_true rfl), (Nat.le_of_ble_eq_true rfl)⟩ (Nat.le_of_ble_eq_true rfl) (Nat.le_of_ble_eq_true rfl) ?_
            rw [hhb]
            refine xj_istn3 dX7_taken_40 rfl ?_
            refine xj_iload_n dX7_taken_41 rfl ?_
            refine xj_ic2 dX7_taken_42 ?_
            refine xj_icmp_ne (tgt := 49) dX7_taken_43 rfl (fun c43 => absurd rfl c43) (fun c43 => ?_)
            refine xj_bipush (v := -11) dX7_taken_46 rfl ?_
            exact xj_ireturn dX7_taken_48 rfl rfl (xrv_i (by simp [o_taken, hb1, hb2, e1, ho, hpl]))
        | inr q =>
          have hq4 := hWj.2.2.2.1
          refine xj_aload_n dX7_taken_35 rfl rfl ?_
          refine xj_iload_n dX7_taken_36 rfl ?_
          have hhb : hby l (hl j) = 1 := by rw [ho]; rfl
          refine xj_cV dX7_taken_37 q2531 kV_X7_heldBy (M_heldBy hv hw hm hj4) (kG_a (by decide) hO) rfl rfl rfl rfl (Nat.le_of_ble_eq_true rfl) ⟨(Nat.le_of_ble_eq_true rfl), (Nat.le_of_ble_eq_true rfl)⟩ (Nat.le_of_ble_eq_true rfl) (Nat.le_of_ble_eq_true rfl) ?_
          rw [hhb]
          refine xj_istn3 dX7_taken_40 rfl ?_
          refine xj_iload_n dX7_taken_41 rfl ?_
          refine xj_ic2 dX7_taken_42 ?_
          refine xj_icmp_ne (tgt := 49) dX7_taken_43 rfl (fun c43 => ?_) (fun c43 => absurd c43 (by decide))
          refine xj_iload_n dX7_taken_49 rfl ?_
          refine xj_if_ne (tgt := 88) dX7_taken_50 rfl (fun c50 => ?_) (fun c50 => absurd c50 (by decide))
          refine xj_iload_n dX7_taken_88 rfl ?_
          refine xj_bipush (v := 10) dX7_taken_89 rfl ?_
          refine xj_aload_n dX7_taken_91 rfl rfl ?_
          refine xj_get dX7_taken_92 K7 42 (by decide) q1971 (kG_a (by decide) hO) rfl ?_
          refine xj_iload_n dX7_taken_95 rfl ?_
          refine xj_iald dX7_taken_96 (kG_a (by decide) h80) rfl hj31 hWj.2.1 ?_
          refine xj_iadd dX7_taken_97 ?_
          rw [show (10 : Int32) + nI q.1 = nI (10 + q.1) from nI_add 10 q.1]
          refine xj_icmp_ne (tgt := 110) dX7_taken_98 rfl (fun c98 => ?_) (fun c98 => ?_)
          · refine xj_bipush (v := -13) dX7_taken_110 rfl ?_
            exact xj_ireturn dX7_taken_112 rfl rfl (xrv_i (by unfold o_taken; rw [hb1, hb2, e1, ho]; show _ = (if as = nI (10 + q.1) then nI q.2 else -13); first | rw [if_pos c98] | rw [if_neg c98]))
          · refine xj_aload_n dX7_taken_101 rfl rfl ?_
            refine xj_get dX7_taken_102 K7 43 (by decide) q1972 (kG_a (by decide) hO) rfl ?_
            refine xj_iload_n dX7_taken_105 rfl ?_
            refine xj_iald dX7_taken_106 (kG_a (by decide) h81) rfl hj31 hWj.2.2.1 ?_
            refine xj_goto (tgt := 112) dX7_taken_107 rfl ?_
            exact xj_ireturn dX7_taken_112 rfl rfl (xrv_i (by unfold o_taken; rw [hb1, hb2, e1, ho]; show _ = (if as = nI (10 + q.1) then nI q.2 else -13); first | rw [if_pos c98] | rw [if_neg c98]))
    · refine xj_iload_n dX7_taken_19 rfl ?_
      refine xj_i2l dX7_taken_20 ?_
      refine xj_ldc2 dX7_taken_21 q2529 ?_
      refine xj_ldc2 dX7_taken_24 q2530 ?_
      refine xj_cS dX7_taken_27 q2085 kS_X7_in M_in rfl rfl (Nat.le_of_ble_eq_true rfl) ⟨(Nat.le_of_ble_eq_true rfl), (Nat.le_of_ble_eq_true rfl)⟩ (Nat.le_of_ble_eq_true rfl) (Nat.le_of_ble_eq_true rfl) ?_
      refine xj_if_ne (tgt := 35) dX7_taken_30 rfl (fun c30 => ?_) (fun c30 => ?_)
      · have hb1 := b1_nz c4
        obtain ⟨j, hj4, hj31, rfl⟩ := inI_t hb1
        have e1 : tn (nI j) = j := nI_clamp hj31
        have hWj := hWW j hj4
        have hb2 : tkI as = true := by
          unfold tkI
          first
          | (have h := b1_nz c16; rw [inB_c5] at h; rw [h]; rfl)
          | (have h := b1_nz c30; rw [inB_1013] at h; rw [h, Bool.or_true])
        cases ho : hl j with
        | none =>
          rw [ho] at hWj
          refine xj_aload_n dX7_taken_35 rfl rfl ?_
          refine xj_iload_n dX7_taken_36 rfl ?_
          have hhb : hby l (hl j) = 2 := by rw [ho]; rfl
          refine xj_cV dX7_taken_37 q2531 kV_X7_heldBy (M_heldBy hv hw hm hj4) (kG_a (by decide) hO) rfl rfl rfl rfl (Nat.le_of_ble_eq_true rfl) ⟨(Nat.le_of_ble_eq_true rfl), (Nat.le_of_ble_eq_true rfl)⟩ (Nat.le_of_ble_eq_true rfl) (Nat.le_of_ble_eq_true rfl) ?_
          rw [hhb]
          refine xj_istn3 dX7_taken_40 rfl ?_
          refine xj_iload_n dX7_taken_41 rfl ?_
          refine xj_ic2 dX7_taken_42 ?_
          refine xj_icmp_ne (tgt := 49) dX7_taken_43 rfl (fun c43 => absurd rfl c43) (fun c43 => ?_)
          refine xj_bipush (v := -11) dX7_taken_46 rfl ?_
          exact xj_ireturn dX7_taken_48 rfl rfl (xrv_i (by simp [o_taken, hb1, hb2, e1, ho]))
        | some o =>
          rw [ho] at hWj
          cases o with
          | inl p =>
            have hp6 := hWj.2.2
            by_cases hpl : p < l.length
            · refine xj_aload_n dX7_taken_35 rfl rfl ?_
              refine xj_iload_n dX7_taken_36 rfl ?_
              have hhb : hby l (hl j) = 0 := by rw [ho]; exact if_pos hpl
              refine xj_cV dX7_taken_37 q2531 kV_X7_heldBy (M_heldBy hv hw hm hj4) (kG_a (by decide) hO) rfl rfl rfl rfl (Nat.le_of_ble_eq_true rfl) ⟨(Nat.le_of_ble_eq_true rfl), (Nat.le_of_ble_eq_true rfl)⟩ (Nat.le_of_ble_eq_true rfl) (Nat.le_of_ble_eq_true rfl) ?_
              rw [hhb]
              refine xj_istn3 dX7_taken_40 rfl ?_
              refine xj_iload_n dX7_taken_41 rfl ?_
              refine xj_ic2 dX7_taken_42 ?_
              refine xj_icmp_ne (tgt := 49) dX7_taken_43 rfl (fun c43 => ?_) (fun c43 => absurd c43 (by decide))
              refine xj_iload_n dX7_taken_49 rfl ?_
              refine xj_if_ne (tgt := 88) dX7_taken_50 rfl (fun c50 => absurd rfl c50) (fun c50 => ?_)
              refine xj_iload_n dX7_taken_53 rfl ?_
              refine xj_ic5 dX7_taken_54 ?_
              refine xj_icmp_gt (tgt := 85) dX7_taken_55 rfl (fun c55 => ?_) (fun c55 => ?_)
              · refine xj_bipush (v := -13) dX7_taken_85 rfl ?_
                exact xj_ireturn dX7_taken_87 rfl rfl (xrv_i (by first | (simp [o_taken, hb1, hb2, e1, ho, hpl, i32_le5 c55, b1_nz c73]; done) | (simp [o_taken, hb1, hb2, e1, ho, hpl, b1_z c73]; done) | (simp [o_taken, hb1, hb2, e1, ho, hpl, i32_gt5 c55]; done)))
              · refine xj_aload_n dX7_taken_58 rfl rfl ?_
                refine xj_get dX7_taken_59 K7 4 (by decide) q1933 (kG_a (by decide) hO) rfl ?_
                refine xj_aload_n dX7_taken_62 rfl rfl ?_
                refine xj_get dX7_taken_63 K7 42 (by decide) q1971 (kG_a (by decide) hO) rfl ?_
                refine xj_iload_n dX7_taken_66 rfl ?_
                refine xj_iald dX7_taken_67 (kG_a (by decide) h80) rfl hj31 hWj.2.1 ?_
                refine xj_iald dX7_taken_68 (kG_a (by decide) h55) rfl (by omega) (hKM p _ (mkAt_some hpl)).1 ?_
                refine xj_iload_n dX7_taken_69 rfl ?_
                refine xj_cS dX7_taken_70 q2535 kS_X7_isUnder M_isUnder rfl rfl (Nat.le_of_ble_eq_true rfl) ⟨(Nat.le_of_ble_eq_true rfl), (Nat.le_of_ble_eq_true rfl)⟩ (Nat.le_of_ble_eq_true rfl) (Nat.le_of_ble_eq_true rfl) ?_
                refine xj_if_eq (tgt := 85) dX7_taken_73 rfl (fun c73 => ?_) (fun c73 => ?_)
                · refine xj_bipush (v := -13) dX7_taken_85 rfl ?_
                  exact xj_ireturn dX7_taken_87 rfl rfl (xrv_i (by first | (simp [o_taken, hb1, hb2, e1, ho, hpl, i32_le5 c55, b1_nz c73]; done) | (simp [o_taken, hb1, hb2, e1, ho, hpl, b1_z c73]; done) | (simp [o_taken, hb1, hb2, e1, ho, hpl, i32_gt5 c55]; done)))
                · refine xj_aload_n dX7_taken_76 rfl rfl ?_
                  refine xj_get dX7_taken_77 K7 42 (by decide) q1971 (kG_a (by decide) hO) rfl ?_
                  refine xj_iload_n dX7_taken_80 rfl ?_
                  refine xj_iald dX7_taken_81 (kG_a (by decide) h80) rfl hj31 hWj.2.1 ?_
                  refine xj_goto (tgt := 87) dX7_taken_82 rfl ?_
                  exact xj_ireturn dX7_taken_87 rfl rfl (xrv_i (by first | (simp [o_taken, hb1, hb2, e1, ho, hpl, i32_le5 c55, b1_nz c73]; done) | (simp [o_taken, hb1, hb2, e1, ho, hpl, b1_z c73]; done) | (simp [o_taken, hb1, hb2, e1, ho, hpl, i32_gt5 c55]; done)))
            · refine xj_aload_n dX7_taken_35 rfl rfl ?_
              refine xj_iload_n dX7_taken_36 rfl ?_
              have hhb : hby l (hl j) = 2 := by rw [ho]; exact if_neg hpl
              refine xj_cV dX7_taken_37 q2531 kV_X7_heldBy (M_heldBy hv hw hm hj4) (kG_a (by decide) hO) rfl rfl rfl rfl (Nat.le_of_ble_eq_true rfl) ⟨(Nat.le_of_ble_eq_true rfl), (Nat.le_of_ble_eq_true rfl)⟩ (Nat.le_of_ble_eq_true rfl) (Nat.le_of_ble_eq_true rfl) ?_
              rw [hhb]
              refine xj_istn3 dX7_taken_40 rfl ?_
              refine xj_iload_n dX7_taken_41 rfl ?_
              refine xj_ic2 dX7_taken_42 ?_
              refine xj_icmp_ne (tgt := 49) dX7_taken_43 rfl (fun c43 => absurd rfl c43) (fun c43 => ?_)
              refine xj_bipush (v := -11) dX7_taken_46 rfl ?_
              exact xj_ireturn dX7_taken_48 rfl rfl (xrv_i (by simp [o_taken, hb1, hb2, e1, ho, hpl]))
          | inr q =>
            have hq4 := hWj.2.2.2.1
            refine xj_aload_n dX7_taken_35 rfl rfl ?_
            refine xj_iload_n dX7_taken_36 rfl ?_
            have hhb : hby l (hl j) = 1 := by rw [ho]; rfl
            refine xj_cV dX7_taken_37 q2531 kV_X7_heldBy (M_heldBy hv hw hm hj4) (kG_a (by decide) hO) rfl rfl rfl rfl (Nat.le_of_ble_eq_true rfl) ⟨(Nat.le_of_ble_eq_true rfl), (Nat.le_of_ble_eq_true rfl)⟩ (Nat.le_of_ble_eq_true rfl) (Nat.le_of_ble_eq_true rfl) ?_
            rw [hhb]
            refine xj_istn3 dX7_taken_40 rfl ?_
            refine xj_iload_n dX7_taken_41 rfl ?_
            refine xj_ic2 dX7_taken_42 ?_
            refine xj_icmp_ne (tgt := 49) dX7_taken_43 rfl (fun c43 => ?_) (fun c43 => absurd c43 (by decide))
            refine xj_iload_n dX7_taken_49 rfl ?_
            refine xj_if_ne (tgt := 88) dX7_taken_50 rfl (fun c50 => ?_) (fun c50 => absurd c50 (by decide))
            refine xj_iload_n dX7_taken_88 rfl ?_
            refine xj_bipush (v := 10) dX7_taken_89 rfl ?_
            refine xj_aload_n dX7_taken_91 rfl rfl ?_
            refine xj_get dX7_taken_92 K7 42 (by decide) q1971 (kG_a (by decide) hO) rfl ?_
            refine xj_iload_n dX7_taken_95 rfl ?_
            refine xj_iald dX7_taken_96 (kG_a (by decide) h80) rfl hj31 hWj.2.1 ?_
            refine xj_iadd dX7_taken_97 ?_
            rw [show (10 : Int32) + nI q.1 = nI (10 + q.1) from nI_add 10 q.1]
            refine xj_icmp_ne (tgt := 110) dX7_taken_98 rfl (fun c98 => ?_) (fun c98 => ?_)
            · refine xj_bipush (v := -13) dX7_taken_110 rfl ?_
              exact xj_ireturn dX7_taken_112 rfl rfl (xrv_i (by unfold o_taken; rw [hb1, hb2, e1, ho]; show _ = (if as = nI (10 + q.1) then nI q.2 else -13); first | rw [if_pos c98] | rw [if_neg c98]))
            · refine xj_aload_n dX7_taken_101 rfl rfl ?_
              refine xj_get dX7_taken_102 K7 43 (by decide) q1972 (kG_a (by decide) hO) rfl ?_
              refine xj_iload_n dX7_taken_105 rfl ?_
              refine xj_iald dX7_taken_106 (kG_a (by decide) h81) rfl hj31 hWj.2.2.1 ?_
              refine xj_goto (tgt := 112) dX7_taken_107 rfl ?_
              exact xj_ireturn dX7_taken_112 rfl rfl (xrv_i (by unfold o_taken; rw [hb1, hb2, e1, ho]; show _ = (if as = nI (10 + q.1) then nI q.2 else -13); first | rw [if_pos c98] | rw [if_neg c98]))
      · refine xj_icm1 dX7_taken_33 ?_
        exact xj_ireturn dX7_taken_34 rfl rfl (xrv_i (by first | (simp [o_taken, b1_z c4]; done) | (have h1 := b1_z c16; have h2 := b1_z c30; rw [inB_c5] at h1; rw [inB_1013] at h2; simp [o_taken, tkI, h1, h2]; done)))
theorem M_shelf {l : List (Nat × Nat)} {sh : Nat → Option (Nat × List Int64)} {hl : Nat → Option (Nat ⊕ (Nat × Nat))} {k w m : Int32} (hv : kV c n a) (hh : kH sh a) (hw : kW hl a) (hm : kM c l a) : xMet E yX7_shelf cX7_shelf 4 (some FieldType.int) 2 0 0 [.ref 54, .int k, .int w, .int m] (kG a T) (kR (some (.int (o_shelf l k w m))) T (fun b => kfr [79, 80, 81] a b ∧ kW (s_shelf l sh hl k w m) b)) := by
  obtain ⟨hO, hf0, h1n, hn6, h63, h64⟩ := id hv
  obtain ⟨S, Z, C, h75, h76, h77, hHL⟩ := id hh
  obtain ⟨hS4, hZ4, hC160, hKK⟩ := id hHL
  obtain ⟨Hh, Th, Lh, h79, h80, h81, hWL⟩ := id hw
  obtain ⟨hH4, hT4, hL4, hWW⟩ := id hWL
  obtain ⟨hf2, Kd, Mk, h55, h56, hML⟩ := id hm
  obtain ⟨hK6, hM6, hl6, hKM⟩ := id hML
  refine xMet.of (lv := [some (.ref 54), some (.int k), some (.int w), some (.int m)]) rfl rfl (Nat.le_of_ble_eq_true rfl) ?_
  refine xj_iload_n dX7_shelf_0 rfl ?_
  refine xj_cS dX7_shelf_1 q2522 kS_X7_isShelf M_isShelf rfl rfl (Nat.le_of_ble_eq_true rfl) ⟨(Nat.le_of_ble_eq_true rfl), (Nat.le_of_ble_eq_true rfl)⟩ (Nat.le_of_ble_eq_true rfl) (Nat.le_of_ble_eq_true rfl) ?_
  refine xj_if_eq (tgt := 43) dX7_shelf_4 rfl (fun c4 => ?_) (fun c4 => ?_)
  · refine xj_icm1 dX7_shelf_43 ?_
    exact xj_ireturn dX7_shelf_44 rfl rfl (kR_i (by unfold o_shelf; rw [(show slB l k w m = false by unfold slB; first | (rw [b1_z c4]; rfl) | (have h := b1_z c16; rw [inB_c2] at h; rw [h, Bool.false_and, Bool.and_false]))]; rfl) ⟨kfr.refl _ _, by rw [show s_shelf l sh hl k w m = hl by unfold s_shelf; rw [(show slB l k w m = false by unfold slB; first | (rw [b1_z c4]; rfl) | (have h := b1_z c16; rw [inB_c2] at h; rw [h, Bool.false_and, Bool.and_false]))]; rfl]; exact hw⟩)
  · refine xj_iload_n dX7_shelf_7 rfl ?_
    refine xj_i2l dX7_shelf_8 ?_
    refine xj_lc0 dX7_shelf_9 ?_
    refine xj_ldc2 dX7_shelf_10 q2247 ?_
    refine xj_cS dX7_shelf_13 q2085 kS_X7_in M_in rfl rfl (Nat.le_of_ble_eq_true rfl) ⟨(Nat.le_of_ble_eq_true rfl), (Nat.le_of_ble_eq_true rfl)⟩ (Nat.le_of_ble_eq_true rfl) (Nat.le_of_ble_eq_true rfl) ?_
    refine xj_if_eq (tgt := 43) dX7_shelf_16 rfl (fun c16 => ?_) (fun c16 => ?_)
    · refine xj_icm1 dX7_shelf_43 ?_
      exact xj_ireturn dX7_shelf_44 rfl rfl (kR_i (by unfold o_shelf; rw [(show slB l k w m = false by unfold slB; first | (rw [b1_z c4]; rfl) | (have h := b1_z c16; rw [inB_c2] at h; rw [h, Bool.false_and, Bool.and_false]))]; rfl) ⟨kfr.refl _ _, by rw [show s_shelf l sh hl k w m = hl by unfold s_shelf; rw [(show slB l k w m = false by unfold slB; first | (rw [b1_z c4]; rfl) | (have h := b1_z c16; rw [inB_c2] at h; rw [h, Bool.false_and, Bool.and_false]))]; rfl]; exact hw⟩)
    · have hb1 := b1_nz c4
      obtain ⟨j, hj4, hj31, rfl⟩ := inI_t hb1
      have e1 : tn (nI j) = j := nI_clamp hj31
      have hb2 := b1_nz c16
      rw [inB_c2] at hb2
      obtain ⟨b, hb3, -, rfl⟩ := inI_t hb2
      match b, hb3 with
      | 0, _ =>
        refine xj_iload_n dX7_shelf_19 rfl ?_
        refine xj_if_ne (tgt := 31) dX7_shelf_20 rfl (fun c20 => absurd rfl c20) (fun c20 => ?_)
        refine xj_aload_n dX7_shelf_23 rfl rfl ?_
        refine xj_iload_n dX7_shelf_24 rfl ?_
        refine xj_cV dX7_shelf_25 q2243 kV_X7_isMaker (M_isMaker hv.V hf2 hl6) (kG_a (by decide) hO) rfl rfl rfl rfl (Nat.le_of_ble_eq_true rfl) ⟨(Nat.le_of_ble_eq_true rfl), (Nat.le_of_ble_eq_true rfl)⟩ (Nat.le_of_ble_eq_true rfl) (Nat.le_of_ble_eq_true rfl) ?_
        refine xj_if_eq (tgt := 43) dX7_shelf_28 rfl (fun c28 => ?_) (fun c28 => ?_)
        · refine xj_icm1 dX7_shelf_43 ?_
          exact xj_ireturn dX7_shelf_44 rfl rfl (kR_i (by unfold o_shelf; rw [(show slB l (nI j) (nI 0) m = false by unfold slB; rw [hb1, b1_z c28]; rfl)]; rfl) ⟨kfr.refl _ _, by rw [show s_shelf l sh hl (nI j) (nI 0) m = hl by unfold s_shelf; rw [(show slB l (nI j) (nI 0) m = false by unfold slB; rw [hb1, b1_z c28]; rfl)]; rfl]; exact hw⟩)
        · have hbm := b1_nz c28
          obtain ⟨p, hp, hp31, rfl⟩ := inI_t hbm
          have ep : tn (nI p) = p := nI_clamp hp31
          have hB : slB l (nI j) (nI 0) (nI p) = true := by unfold slB; rw [hb1, hbm]; rfl
          refine xj_iload_n dX7_shelf_31 rfl ?_
          refine xj_ic1 dX7_shelf_32 ?_
          refine xj_icmp_ne (tgt := 45) dX7_shelf_33 rfl (fun c33 => ?_) (fun c33 => absurd c33 (by decide))
          refine xj_aload_n dX7_shelf_45 rfl rfl ?_
          refine xj_get dX7_shelf_46 K7 41 (by decide) q1970 (kG_a (by decide) hO) rfl ?_
          refine xj_iload_n dX7_shelf_49 rfl ?_
          refine xj_iload_n dX7_shelf_50 rfl ?_
          refine xj_ic1 dX7_shelf_51 ?_
          refine xj_icmp_ne (tgt := 68) dX7_shelf_52 rfl (fun c52 => ?_) (fun c52 => absurd c52 (by decide))
          refine xj_iload_n dX7_shelf_68 rfl ?_
          refine xj_iast dX7_shelf_69 (kG_a (by decide) h79) rfl hj31 (by omega) ?_
          refine xj_eq rfl rfl (kG_set (by decide)) ?_
          refine xj_aload_n dX7_shelf_70 rfl rfl ?_
          refine xj_get dX7_shelf_71 K7 42 (by decide) q1971 (kG_a (by decide) hO) rfl ?_
          refine xj_iload_n dX7_shelf_74 rfl ?_
          refine xj_iload_n dX7_shelf_75 rfl ?_
          refine xj_ic1 dX7_shelf_76 ?_
          refine xj_icmp_ne (tgt := 89) dX7_shelf_77 rfl (fun c77 => ?_) (fun c77 => absurd c77 (by decide))
          refine xj_iload_n dX7_shelf_89 rfl ?_
          refine xj_iast dX7_shelf_90 (kG_a (by decide) h80) rfl hj31 (by omega) ?_
          refine xj_eq rfl rfl (kG_set (by decide)) ?_
          refine xj_aload_n dX7_shelf_91 rfl rfl ?_
          refine xj_get dX7_shelf_92 K7 43 (by decide) q1972 (kG_a (by decide) hO) rfl ?_
          refine xj_iload_n dX7_shelf_95 rfl ?_
          refine xj_iload_n dX7_shelf_96 rfl ?_
          refine xj_ic1 dX7_shelf_97 ?_
          refine xj_icmp_ne (tgt := 110) dX7_shelf_98 rfl (fun c98 => ?_) (fun c98 => absurd c98 (by decide))
          refine xj_ic0 dX7_shelf_110 ?_
          refine xj_iast dX7_shelf_111 (kG_a (by decide) h81) rfl hj31 (by omega) ?_
          refine xj_eq rfl rfl (kG_set (by decide)) ?_
          refine xj_ic1 dX7_shelf_112 ?_
          exact xj_ireturn dX7_shelf_113 rfl rfl (kR_i (by unfold o_shelf; rw [hB]; rfl) ⟨((((kfr.refl _ _).au (by decide)).au (by decide)).au (by decide)), _, _, _, rfl, rfl, rfl, by rw [show s_shelf l sh hl (nI j) (nI 0) (nI p) = hlU hl j (some (.inl p)) by unfold s_shelf; rw [hB, e1, if_pos rfl]; show hlU hl j (some (.inl (tn (nI p)))) = _; rw [ep]]; exact mWL_set hWL (⟨List.getElem?_set_self (by omega), List.getElem?_set_self (by omega), by omega⟩)⟩)
      | 1, _ =>
        refine xj_iload_n dX7_shelf_19 rfl ?_
        refine xj_if_ne (tgt := 31) dX7_shelf_20 rfl (fun c20 => ?_) (fun c20 => absurd c20 (by decide))
        refine xj_iload_n dX7_shelf_31 rfl ?_
        refine xj_ic1 dX7_shelf_32 ?_
        refine xj_icmp_ne (tgt := 45) dX7_shelf_33 rfl (fun c33 => absurd rfl c33) (fun c33 => ?_)
        refine xj_iload_n dX7_shelf_36 rfl ?_
        refine xj_cS dX7_shelf_37 q2446 kS_X7_isSheet M_isSheet rfl rfl (Nat.le_of_ble_eq_true rfl) ⟨(Nat.le_of_ble_eq_true rfl), (Nat.le_of_ble_eq_true rfl)⟩ (Nat.le_of_ble_eq_true rfl) (Nat.le_of_ble_eq_true rfl) ?_
        refine xj_if_ne (tgt := 45) dX7_shelf_40 rfl (fun c40 => ?_) (fun c40 => ?_)
        · have hbm := b1_nz c40
          obtain ⟨p, hp, hp31, rfl⟩ := inI_t hbm
          have ep : tn (nI p) = p := nI_clamp hp31
          have hB : slB l (nI j) (nI 1) (nI p) = true := by unfold slB; rw [hb1, hbm]; rfl
          have hKp := hKK p hp
          cases hq : sh p with
          | none =>
            have hS1 := s_none hKp.1 hq
            have hZ1 : Z[p]? = some (nI 0) := by have := hKp.2.1; rw [hq] at this; exact this
            refine xj_aload_n dX7_shelf_45 rfl rfl ?_
            refine xj_get dX7_shelf_46 K7 41 (by decide) q1970 (kG_a (by decide) hO) rfl ?_
            refine xj_iload_n dX7_shelf_49 rfl ?_
            refine xj_iload_n dX7_shelf_50 rfl ?_
            refine xj_ic1 dX7_shelf_51 ?_
            refine xj_icmp_ne (tgt := 68) dX7_shelf_52 rfl (fun c52 => absurd rfl c52) (fun c52 => ?_)
            refine xj_aload_n dX7_shelf_55 rfl rfl ?_
            refine xj_get dX7_shelf_56 K7 37 (by decide) q1966 (kG_a (by decide) hO) rfl ?_
            refine xj_iload_n dX7_shelf_59 rfl ?_
            refine xj_iald dX7_shelf_60 (kG_a (by decide) h75) rfl hp31 hS1 ?_
            refine xj_if_ge (tgt := 68) dX7_shelf_61 rfl (fun c61 => absurd c61 (by decide)) (fun c61 => ?_)
            refine xj_ic2 dX7_shelf_64 ?_
            refine xj_goto (tgt := 69) dX7_shelf_65 rfl ?_
            refine xj_iast dX7_shelf_69 (kG_a (by decide) h79) rfl hj31 (by omega) ?_
            refine xj_eq rfl rfl (kG_set (by decide)) ?_
            refine xj_aload_n dX7_shelf_70 rfl rfl ?_
            refine xj_get dX7_shelf_71 K7 42 (by decide) q1971 (kG_a (by decide) hO) rfl ?_
            refine xj_iload_n dX7_shelf_74 rfl ?_
            refine xj_iload_n dX7_shelf_75 rfl ?_
            refine xj_ic1 dX7_shelf_76 ?_
            refine xj_icmp_ne (tgt := 89) dX7_shelf_77 rfl (fun c77 => absurd rfl c77) (fun c77 => ?_)
            refine xj_aload_n dX7_shelf_80 rfl rfl ?_
            refine xj_get dX7_shelf_81 K7 37 (by decide) q1966 (kG_a (by decide) hO) rfl ?_
            refine xj_iload_n dX7_shelf_84 rfl ?_
            refine xj_iald dX7_shelf_85 (kG_a (by decide) h75) rfl hp31 hS1 ?_
            refine xj_goto (tgt := 90) dX7_shelf_86 rfl ?_
            refine xj_iast dX7_shelf_90 (kG_a (by decide) h80) rfl hj31 (by omega) ?_
            refine xj_eq rfl rfl (kG_set (by decide)) ?_
            refine xj_aload_n dX7_shelf_91 rfl rfl ?_
            refine xj_get dX7_shelf_92 K7 43 (by decide) q1972 (kG_a (by decide) hO) rfl ?_
            refine xj_iload_n dX7_shelf_95 rfl ?_
            refine xj_iload_n dX7_shelf_96 rfl ?_
            refine xj_ic1 dX7_shelf_97 ?_
            refine xj_icmp_ne (tgt := 110) dX7_shelf_98 rfl (fun c98 => absurd rfl c98) (fun c98 => ?_)
            refine xj_aload_n dX7_shelf_101 rfl rfl ?_
            refine xj_get dX7_shelf_102 K7 38 (by decide) q1967 (kG_a (by decide) hO) rfl ?_
            refine xj_iload_n dX7_shelf_105 rfl ?_
            refine xj_iald dX7_shelf_106 (kG_a (by decide) h76) rfl hp31 hZ1 ?_
            refine xj_goto (tgt := 111) dX7_shelf_107 rfl ?_
            refine xj_iast dX7_shelf_111 (kG_a (by decide) h81) rfl hj31 (by omega) ?_
            refine xj_eq rfl rfl (kG_set (by decide)) ?_
            refine xj_ic1 dX7_shelf_112 ?_
            exact xj_ireturn dX7_shelf_113 rfl rfl (kR_i (by unfold o_shelf; rw [hB]; rfl) ⟨((((kfr.refl _ _).au (by decide)).au (by decide)).au (by decide)), _, _, _, rfl, rfl, rfl, by rw [show s_shelf l sh hl (nI j) (nI 1) (nI p) = hlU hl j (none) by unfold s_shelf; rw [hB, e1, if_pos rfl]; show hlU hl j (match sh (tn (nI p)) with | none => none | some q => some (.inr (q.1, q.2.length))) = _; rw [ep, hq]]; exact mWL_set hWL (List.getElem?_set_self (by omega))⟩)
          | some q =>
            have hq4 := hKp.2.2.2.1 q hq
            have hS1 := s_some hKp.1 hq
            have hZ1 := z_some hKp.2.1 hq
            have h40 : q.2.length ≤ 40 := by have := hKp.2.2.1; rw [hq] at this; exact this
            refine xj_aload_n dX7_shelf_45 rfl rfl ?_
            refine xj_get dX7_shelf_46 K7 41 (by decide) q1970 (kG_a (by decide) hO) rfl ?_
            refine xj_iload_n dX7_shelf_49 rfl ?_
            refine xj_iload_n dX7_shelf_50 rfl ?_
            refine xj_ic1 dX7_shelf_51 ?_
            refine xj_icmp_ne (tgt := 68) dX7_shelf_52 rfl (fun c52 => absurd rfl c52) (fun c52 => ?_)
            refine xj_aload_n dX7_shelf_55 rfl rfl ?_
            refine xj_get dX7_shelf_56 K7 37 (by decide) q1966 (kG_a (by decide) hO) rfl ?_
            refine xj_iload_n dX7_shelf_59 rfl ?_
            refine xj_iald dX7_shelf_60 (kG_a (by decide) h75) rfl hp31 hS1 ?_
            refine xj_if_ge (tgt := 68) dX7_shelf_61 rfl (fun c61 => ?_) (fun c61 => absurd (nI_pos' (by omega)) c61)
            refine xj_iload_n dX7_shelf_68 rfl ?_
            refine xj_iast dX7_shelf_69 (kG_a (by decide) h79) rfl hj31 (by omega) ?_
            refine xj_eq rfl rfl (kG_set (by decide)) ?_
            refine xj_aload_n dX7_shelf_70 rfl rfl ?_
            refine xj_get dX7_shelf_71 K7 42 (by decide) q1971 (kG_a (by decide) hO) rfl ?_
            refine xj_iload_n dX7_shelf_74 rfl ?_
            refine xj_iload_n dX7_shelf_75 rfl ?_
            refine xj_ic1 dX7_shelf_76 ?_
            refine xj_icmp_ne (tgt := 89) dX7_shelf_77 rfl (fun c77 => absurd rfl c77) (fun c77 => ?_)
            refine xj_aload_n dX7_shelf_80 rfl rfl ?_
            refine xj_get dX7_shelf_81 K7 37 (by decide) q1966 (kG_a (by decide) hO) rfl ?_
            refine xj_iload_n dX7_shelf_84 rfl ?_
            refine xj_iald dX7_shelf_85 (kG_a (by decide) h75) rfl hp31 hS1 ?_
            refine xj_goto (tgt := 90) dX7_shelf_86 rfl ?_
            refine xj_iast dX7_shelf_90 (kG_a (by decide) h80) rfl hj31 (by omega) ?_
            refine xj_eq rfl rfl (kG_set (by decide)) ?_
            refine xj_aload_n dX7_shelf_91 rfl rfl ?_
            refine xj_get dX7_shelf_92 K7 43 (by decide) q1972 (kG_a (by decide) hO) rfl ?_
            refine xj_iload_n dX7_shelf_95 rfl ?_
            refine xj_iload_n dX7_shelf_96 rfl ?_
            refine xj_ic1 dX7_shelf_97 ?_
            refine xj_icmp_ne (tgt := 110) dX7_shelf_98 rfl (fun c98 => absurd rfl c98) (fun c98 => ?_)
            refine xj_aload_n dX7_shelf_101 rfl rfl ?_
            refine xj_get dX7_shelf_102 K7 38 (by decide) q1967 (kG_a (by decide) hO) rfl ?_
            refine xj_iload_n dX7_shelf_105 rfl ?_
            refine xj_iald dX7_shelf_106 (kG_a (by decide) h76) rfl hp31 hZ1 ?_
            refine xj_goto (tgt := 111) dX7_shelf_107 rfl ?_
            refine xj_iast dX7_shelf_111 (kG_a (by decide) h81) rfl hj31 (by omega) ?_
            refine xj_eq rfl rfl (kG_set (by decide)) ?_
            refine xj_ic1 dX7_shelf_112 ?_
            exact xj_ireturn dX7_shelf_113 rfl rfl (kR_i (by unfold o_shelf; rw [hB]; rfl) ⟨((((kfr.refl _ _).au (by decide)).au (by decide)).au (by decide)), _, _, _, rfl, rfl, rfl, by rw [show s_shelf l sh hl (nI j) (nI 1) (nI p) = hlU hl j (some (.inr (q.1, q.2.length))) by unfold s_shelf; rw [hB, e1, if_pos rfl]; show hlU hl j (match sh (tn (nI p)) with | none => none | some q => some (.inr (q.1, q.2.length))) = _; rw [ep, hq]]; exact mWL_set hWL (⟨List.getElem?_set_self (by omega), List.getElem?_set_self (by omega), List.getElem?_set_self (by omega), hq4, h40⟩)⟩)
        · refine xj_icm1 dX7_shelf_43 ?_
          exact xj_ireturn dX7_shelf_44 rfl rfl (kR_i (by unfold o_shelf; rw [(show slB l (nI j) (nI 1) m = false by unfold slB; rw [hb1, b1_z c40]; rfl)]; rfl) ⟨kfr.refl _ _, by rw [show s_shelf l sh hl (nI j) (nI 1) m = hl by unfold s_shelf; rw [(show slB l (nI j) (nI 1) m = false by unfold slB; rw [hb1, b1_z c40]; rfl)]; rfl]; exact hw⟩)
      | 2, _ =>
        have hB : slB l (nI j) (nI 2) m = true := by unfold slB; rw [hb1]; rfl
        refine xj_iload_n dX7_shelf_19 rfl ?_
        refine xj_if_ne (tgt := 31) dX7_shelf_20 rfl (fun c20 => ?_) (fun c20 => absurd c20 (by decide))
        refine xj_iload_n dX7_shelf_31 rfl ?_
        refine xj_ic1 dX7_shelf_32 ?_
        refine xj_icmp_ne (tgt := 45) dX7_shelf_33 rfl (fun c33 => ?_) (fun c33 => absurd c33 (by decide))
        refine xj_aload_n dX7_shelf_45 rfl rfl ?_
        refine xj_get dX7_shelf_46 K7 41 (by decide) q1970 (kG_a (by decide) hO) rfl ?_
        refine xj_iload_n dX7_shelf_49 rfl ?_
        refine xj_iload_n dX7_shelf_50 rfl ?_
        refine xj_ic1 dX7_shelf_51 ?_
        refine xj_icmp_ne (tgt := 68) dX7_shelf_52 rfl (fun c52 => ?_) (fun c52 => absurd c52 (by decide))
        refine xj_iload_n dX7_shelf_68 rfl ?_
        refine xj_iast dX7_shelf_69 (kG_a (by decide) h79) rfl hj31 (by omega) ?_
        refine xj_eq rfl rfl (kG_set (by decide)) ?_
        refine xj_aload_n dX7_shelf_70 rfl rfl ?_
        refine xj_get dX7_shelf_71 K7 42 (by decide) q1971 (kG_a (by decide) hO) rfl ?_
        refine xj_iload_n dX7_shelf_74 rfl ?_
        refine xj_iload_n dX7_shelf_75 rfl ?_
        refine xj_ic1 dX7_shelf_76 ?_
        refine xj_icmp_ne (tgt := 89) dX7_shelf_77 rfl (fun c77 => ?_) (fun c77 => absurd c77 (by decide))
        refine xj_iload_n dX7_shelf_89 rfl ?_
        refine xj_iast dX7_shelf_90 (kG_a (by decide) h80) rfl hj31 (by omega) ?_
        refine xj_eq rfl rfl (kG_set (by decide)) ?_
        refine xj_aload_n dX7_shelf_91 rfl rfl ?_
        refine xj_get dX7_shelf_92 K7 43 (by decide) q1972 (kG_a (by decide) hO) rfl ?_
        refine xj_iload_n dX7_shelf_95 rfl ?_
        refine xj_iload_n dX7_shelf_96 rfl ?_
        refine xj_ic1 dX7_shelf_97 ?_
        refine xj_icmp_ne (tgt := 110) dX7_shelf_98 rfl (fun c98 => ?_) (fun c98 => absurd c98 (by decide))
        refine xj_ic0 dX7_shelf_110 ?_
        refine xj_iast dX7_shelf_111 (kG_a (by decide) h81) rfl hj31 (by omega) ?_
        refine xj_eq rfl rfl (kG_set (by decide)) ?_
        refine xj_ic1 dX7_shelf_112 ?_
        exact xj_ireturn dX7_shelf_113 rfl rfl (kR_i (by unfold o_shelf; rw [hB]; rfl) ⟨((((kfr.refl _ _).au (by decide)).au (by decide)).au (by decide)), _, _, _, rfl, rfl, rfl, by rw [show s_shelf l sh hl (nI j) (nI 2) m = hlU hl j (none) by unfold s_shelf; rw [hB, e1, if_pos rfl]; rfl]; exact mWL_set hWL (List.getElem?_set_self (by omega))⟩)
theorem M_areThrees {sh : Nat → Option (Nat × List Int64)} {j : Nat} {q : Nat × List Int64} (hv : kV c n a) (hh : kH sh a) (hq : sh j = some q) (hj4 : j < 4) : xMet E yX7_areThrees cX7_areThrees 4 (some FieldType.boolean) 2 0 0 [.ref 54, .int (nI j)] (kG a T) (xrv (some (.int (b1 (aT n q.2)))) (kG a T)) := by
  obtain ⟨hO, hf0, h1n, hn6, h63, h64⟩ := id hv
  obtain ⟨S, Z, C, h75, h76, h77, hHL⟩ := id hh
  obtain ⟨hS4, hZ4, hC160, hKK⟩ := id hHL
  have hKj := hKK j hj4
  have hj31 : j < 2147483648 := by omega
  have hq4 := hKj.2.2.2.1 q hq
  have hS1 := s_some hKj.1 hq
  have hZ1 := z_some hKj.2.1 hq
  have h40 : q.2.length ≤ 40 := by have := hKj.2.2.1; rw [hq] at this; exact this
  have hCC : ∀ (i : Nat) (x : Int64), q.2[i]? = some x → C[40 * j + i]? = some x := by have := hKj.2.2.2.2; rw [hq] at this; exact this
  refine xMet.of (lv := [some (.ref 54), some (.int (nI j)), none, none]) rfl rfl (Nat.le_of_ble_eq_true rfl) ?_
  refine xj_aload_n dX7_areThrees_0 rfl rfl ?_
  refine xj_get dX7_areThrees_1 K7 38 (by decide) q1967 (kG_a (by decide) hO) rfl ?_
  refine xj_iload_n dX7_areThrees_4 rfl ?_
  refine xj_iald dX7_areThrees_5 (kG_a (by decide) h76) rfl hj31 hZ1 ?_
  refine xj_ic3 dX7_areThrees_6 ?_
  refine xj_irem dX7_areThrees_7 (by decide) ?_
  refine xj_sI_if_ne (tgt := 15) (M := 16) dX7_areThrees_8 rfl (fun c8 k => by
      refine xj_ic0 dX7_areThrees_15 ?_
      exact k) (fun c8 k => by
      refine xj_ic1 dX7_areThrees_11 ?_
      refine xj_goto (tgt := 16) dX7_areThrees_12 rfl ?_
      exact k) ?_
  refine xj_top (y := b1 (q.2.length % 3 == 0)) (by rw [show nI q.2.length - nI q.2.length / 3 * 3 = nI (q.2.length % 3) from pk_rem (d := 3) (by omega) (by decide) (by decide)]; have h3 := Nat.mod_lt q.2.length (show 0 < 3 by decide); generalize q.2.length % 3 = z at h3 ⊢; match z, h3 with | 0, _ => rfl | 1, _ => rfl | 2, _ => rfl) ?_
  refine xj_istn2 dX7_areThrees_16 rfl ?_
  refine xj_ic0 dX7_areThrees_17 ?_
  refine xj_istn3 dX7_areThrees_18 rfl ?_
  have lp : ∀ (K : Nat) (k : Nat) (t : Bool), (q.2.length - k + 2) / 3 < K → (k ≤ 42) → (ar3 n q.2 K k t = aT n q.2) → xJ E (yX7_areThrees, cX7_areThrees, 4, (some FieldType.boolean), []) (xR 2 0 0) (xrv (some (.int (b1 (aT n q.2)))) (kG a T)) 0 0 19 [some (.ref 54), some (.int (nI j)), some (.int (b1 t)), some (.int (nI k))] [] (kG a T) := by
    intro K
    induction K with
    | zero => intro k t h; exact absurd h (Nat.not_lt_zero _)
    | succ K ih_lp =>
      intro k t hK hk hs
      refine xj_iload_n dX7_areThrees_19 rfl ?_
      refine xj_ic2 dX7_areThrees_20 ?_
      refine xj_iadd dX7_areThrees_21 ?_
      refine xj_aload_n dX7_areThrees_22 rfl rfl ?_
      refine xj_get dX7_areThrees_23 K7 38 (by decide) q1967 (kG_a (by decide) hO) rfl ?_
      refine xj_iload_n dX7_areThrees_26 rfl ?_
      refine xj_iald dX7_areThrees_27 (kG_a (by decide) h76) rfl hj31 hZ1 ?_
      rw [show nI k + 2 = nI (k + 2) from nI_add k 2]
      refine xj_icmp_ge (tgt := 108) dX7_areThrees_28 rfl (fun c28 => ?_) (fun c28 => ?_)
      · refine xj_iload_n dX7_areThrees_108 rfl ?_
        exact xj_ireturn dX7_areThrees_109 rfl (b1_nar _) (xrv_i (by have hs : (if k + 2 < q.2.length ∧ t = true then ar3 n q.2 K (k + 3) (t3 n q.2 k) else t) = aT n q.2 := hs; rw [if_neg (fun h => by first | exact absurd h.2 (by rw [b1_z c32]; decide) | exact absurd c28 (nI_ge h.1 (by omega)))] at hs; rw [hs]))
      · refine xj_iload_n dX7_areThrees_31 rfl ?_
        refine xj_if_eq (tgt := 108) dX7_areThrees_32 rfl (fun c32 => ?_) (fun c32 => ?_)
        · refine xj_iload_n dX7_areThrees_108 rfl ?_
          exact xj_ireturn dX7_areThrees_109 rfl (b1_nar _) (xrv_i (by have hs : (if k + 2 < q.2.length ∧ t = true then ar3 n q.2 K (k + 3) (t3 n q.2 k) else t) = aT n q.2 := hs; rw [if_neg (fun h => by first | exact absurd h.2 (by rw [b1_z c32]; decide) | exact absurd c28 (nI_ge h.1 (by omega)))] at hs; rw [hs]))
        · have hkl : k + 2 < q.2.length := Nat.lt_of_not_le fun h => c28 (nI_le h (by omega))
          have ht := b1_nz c32
          have hs : (if k + 2 < q.2.length ∧ t = true then ar3 n q.2 K (k + 3) (t3 n q.2 k) else t) = aT n q.2 := hs
          rw [if_pos ⟨hkl, ht⟩] at hs
          obtain ⟨x0, hx0⟩ : ∃ x, q.2[k]? = some x := ⟨_, List.getElem?_eq_getElem (by omega)⟩
          obtain ⟨x1, hx1⟩ : ∃ x, q.2[k + 1]? = some x := ⟨_, List.getElem?_eq_getElem (by omega)⟩
          obtain ⟨x2, hx2⟩ : ∃ x, q.2[k + 2]? = some x := ⟨_, List.getElem?_eq_getElem (by omega)⟩
          have g0 : q.2.getD k 0 = x0 := x_getD hx0
          have g1 : q.2.getD (k + 1) 0 = x1 := x_getD hx1
          have g2 : q.2.getD (k + 2) 0 = x2 := x_getD hx2
          refine xj_aload_n dX7_areThrees_35 rfl rfl ?_
          refine xj_aload_n dX7_areThrees_36 rfl rfl ?_
          refine xj_get dX7_areThrees_37 K7 39 (by decide) q1968 (kG_a (by decide) hO) rfl ?_
          refine xj_bipush (v := 40) dX7_areThrees_40 rfl ?_
          refine xj_iload_n dX7_areThrees_42 rfl ?_
          refine xj_imul dX7_areThrees_43 ?_
          refine xj_iload_n dX7_areThrees_44 rfl ?_
          refine xj_iadd dX7_areThrees_45 ?_
          refine xj_lald dX7_areThrees_46 (kG_a (by decide) h77) (nI_40 j k) (by omega) (hCC k x0 hx0) ?_
          refine xj_l2i dX7_areThrees_47 ?_
          refine xj_cV dX7_areThrees_48 q2096 kV_X7_isRow (M_isRow hv.V) (kG_a (by decide) hO) rfl rfl rfl rfl (Nat.le_of_ble_eq_true rfl) ⟨(Nat.le_of_ble_eq_true rfl), (Nat.le_of_ble_eq_true rfl)⟩ (Nat.le_of_ble_eq_true rfl) (Nat.le_of_ble_eq_true rfl) ?_
          refine xj_if_eq (tgt := 100) dX7_areThrees_51 rfl (fun c51 => ?_) (fun c51 => ?_)
          · refine xj_ic0 dX7_areThrees_100 ?_
            refine xj_top (y := b1 (t3 n q.2 k)) (by unfold t3; rw [g0, g1, g2]; first | (have h := b1_nz c93; rw [inB_d01] at h; rw [b1_nz c51, b1_nz c72, h]; rfl) | (have h := b1_z c93; rw [inB_d01] at h; rw [b1_nz c51, b1_nz c72, h]; rfl) | (rw [b1_nz c51, b1_z c72]; rfl) | (rw [b1_z c51]; rfl)) ?_
            refine xj_istn2 dX7_areThrees_101 rfl ?_
            refine xj_iinc3 (cst := 3) dX7_areThrees_102 rfl rfl ?_
            rw [show nI k + 3 = nI (k + 3) from nI_add k 3]
            refine xj_goto (tgt := 19) dX7_areThrees_105 rfl ?_
            exact ih_lp (k + 3) _ (by omega) (by omega) hs
          · refine xj_aload_n dX7_areThrees_54 rfl rfl ?_
            refine xj_aload_n dX7_areThrees_55 rfl rfl ?_
            refine xj_get dX7_areThrees_56 K7 39 (by decide) q1968 (kG_a (by decide) hO) rfl ?_
            refine xj_bipush (v := 40) dX7_areThrees_59 rfl ?_
            refine xj_iload_n dX7_areThrees_61 rfl ?_
            refine xj_imul dX7_areThrees_62 ?_
            refine xj_iload_n dX7_areThrees_63 rfl ?_
            refine xj_iadd dX7_areThrees_64 ?_
            refine xj_ic1 dX7_areThrees_65 ?_
            refine xj_iadd dX7_areThrees_66 ?_
            refine xj_lald dX7_areThrees_67 (kG_a (by decide) h77) (show (40 : Int32) * nI j + nI k + 1 = nI (40 * j + (k + 1)) by rw [nI_40, show (1 : Int32) = nI 1 from rfl, nI_add, Nat.add_assoc]) (by omega) (hCC (k + 1) x1 hx1) ?_
            refine xj_l2i dX7_areThrees_68 ?_
            refine xj_cV dX7_areThrees_69 q2096 kV_X7_isRow (M_isRow hv.V) (kG_a (by decide) hO) rfl rfl rfl rfl (Nat.le_of_ble_eq_true rfl) ⟨(Nat.le_of_ble_eq_true rfl), (Nat.le_of_ble_eq_true rfl)⟩ (Nat.le_of_ble_eq_true rfl) (Nat.le_of_ble_eq_true rfl) ?_
            refine xj_if_eq (tgt := 100) dX7_areThrees_72 rfl (fun c72 => ?_) (fun c72 => ?_)
            · refine xj_ic0 dX7_areThrees_100 ?_
              refine xj_top (y := b1 (t3 n q.2 k)) (by unfold t3; rw [g0, g1, g2]; first | (have h := b1_nz c93; rw [inB_d01] at h; rw [b1_nz c51, b1_nz c72, h]; rfl) | (have h := b1_z c93; rw [inB_d01] at h; rw [b1_nz c51, b1_nz c72, h]; rfl) | (rw [b1_nz c51, b1_z c72]; rfl) | (rw [b1_z c51]; rfl)) ?_
              refine xj_istn2 dX7_areThrees_101 rfl ?_
              refine xj_iinc3 (cst := 3) dX7_areThrees_102 rfl rfl ?_
              rw [show nI k + 3 = nI (k + 3) from nI_add k 3]
              refine xj_goto (tgt := 19) dX7_areThrees_105 rfl ?_
              exact ih_lp (k + 3) _ (by omega) (by omega) hs
            · refine xj_aload_n dX7_areThrees_75 rfl rfl ?_
              refine xj_get dX7_areThrees_76 K7 39 (by decide) q1968 (kG_a (by decide) hO) rfl ?_
              refine xj_bipush (v := 40) dX7_areThrees_79 rfl ?_
              refine xj_iload_n dX7_areThrees_81 rfl ?_
              refine xj_imul dX7_areThrees_82 ?_
              refine xj_iload_n dX7_areThrees_83 rfl ?_
              refine xj_iadd dX7_areThrees_84 ?_
              refine xj_ic2 dX7_areThrees_85 ?_
              refine xj_iadd dX7_areThrees_86 ?_
              refine xj_lald dX7_areThrees_87 (kG_a (by decide) h77) (show (40 : Int32) * nI j + nI k + 2 = nI (40 * j + (k + 2)) by rw [nI_40, show (2 : Int32) = nI 2 from rfl, nI_add, Nat.add_assoc]) (by omega) (hCC (k + 2) x2 hx2) ?_
              refine xj_lc0 dX7_areThrees_88 ?_
              refine xj_lc1 dX7_areThrees_89 ?_
              refine xj_cS dX7_areThrees_90 q2085 kS_X7_in M_in rfl rfl (Nat.le_of_ble_eq_true rfl) ⟨(Nat.le_of_ble_eq_true rfl), (Nat.le_of_ble_eq_true rfl)⟩ (Nat.le_of_ble_eq_true rfl) (Nat.le_of_ble_eq_true rfl) ?_
              refine xj_if_eq (tgt := 100) dX7_areThrees_93 rfl (fun c93 => ?_) (fun c93 => ?_)
              · refine xj_ic0 dX7_areThrees_100 ?_
                refine xj_top (y := b1 (t3 n q.2 k)) (by unfold t3; rw [g0, g1, g2]; first | (have h := b1_nz c93; rw [inB_d01] at h; rw [b1_nz c51, b1_nz c72, h]; rfl) | (have h := b1_z c93; rw [inB_d01] at h; rw [b1_nz c51, b1_nz c72, h]; rfl) | (rw [b1_nz c51, b1_z c72]; rfl) | (rw [b1_z c51]; rfl)) ?_
                refine xj_istn2 dX7_areThrees_101 rfl ?_
                refine xj_iinc3 (cst := 3) dX7_areThrees_102 rfl rfl ?_
                rw [show nI k + 3 = nI (k + 3) from nI_add k 3]
                refine xj_goto (tgt := 19) dX7_areThrees_105 rfl ?_
                exact ih_lp (k + 3) _ (by omega) (by omega) hs
              · refine xj_ic1 dX7_areThrees_96 ?_
                refine xj_goto (tgt := 101) dX7_areThrees_97 rfl ?_
                refine xj_top (y := b1 (t3 n q.2 k)) (by unfold t3; rw [g0, g1, g2]; first | (have h := b1_nz c93; rw [inB_d01] at h; rw [b1_nz c51, b1_nz c72, h]; rfl) | (have h := b1_z c93; rw [inB_d01] at h; rw [b1_nz c51, b1_nz c72, h]; rfl) | (rw [b1_nz c51, b1_z c72]; rfl) | (rw [b1_z c51]; rfl)) ?_
                refine xj_istn2 dX7_areThrees_101 rfl ?_
                refine xj_iinc3 (cst := 3) dX7_areThrees_102 rfl rfl ?_
                rw [show nI k + 3 = nI (k + 3) from nI_add k 3]
                refine xj_goto (tgt := 19) dX7_areThrees_105 rfl ?_
                exact ih_lp (k + 3) _ (by omega) (by omega) hs
  exact lp 15 0 _ (by omega) (by omega) rfl
theorem M_fits {sh : Nat → Option (Nat × List Int64)} {j S0 : Nat} {q : Nat × List Int64} (hv : kV c n a) (ha : kA n a) (hh : kH sh a) (hq : sh j = some q) (hj4 : j < 4) (hS64 : S0 < 2 ^ 64) (ht3 : ∀ k, k % 3 = 0 → k + 2 < q.2.length → t3 n q.2 k = true) : xMet E yX7_fits cX7_fits 7 (some FieldType.boolean) 4 0 0 [.ref 54, .int (nI j), .long (lN S0)] (kG a T) (xrv (some (.int (b1 (ftB n S0 q.2)))) (kG a T)) := by
  obtain ⟨hO, hf0, h1n, hn6, h63, h64⟩ := id hv
  obtain ⟨S, Z, C, h75, h76, h77, hHL⟩ := id hh
  obtain ⟨hS4, hZ4, hC160, hKK⟩ := id hHL
  have hKj := hKK j hj4
  have hj31 : j < 2147483648 := by omega
  have hq4 := hKj.2.2.2.1 q hq
  have hS1 := s_some hKj.1 hq
  have hZ1 := z_some hKj.2.1 hq
  have h40 : q.2.length ≤ 40 := by have := hKj.2.2.1; rw [hq] at this; exact this
  have hCC : ∀ (i : Nat) (x : Int64), q.2[i]? = some x → C[40 * j + i]? = some x := by have := hKj.2.2.2.2; rw [hq] at this; exact this
  refine xMet.of (lv := [some (.ref 54), some (.int (nI j)), some (.long (lN S0)), none, none, none, none]) rfl rfl (Nat.le_of_ble_eq_true rfl) ?_
  refine xj_ic0 dX7_fits_0 ?_
  refine xj_ist4 dX7_fits_1 rfl ?_
  have lp : ∀ (K : Nat) (k : Nat), (q.2.length - k + 2) / 3 < K → (k ≤ 42) → (k % 3 = 0) → (ftL n S0 q.2 K k = ftB n S0 q.2) → xJ E (yX7_fits, cX7_fits, 7, (some FieldType.boolean), []) (xR 4 0 0) (xrv (some (.int (b1 (ftB n S0 q.2)))) (kG a T)) 0 0 3 [some (.ref 54), some (.int (nI j)), some (.long (lN S0)), none, some (.int (nI k)), none, none] [] (kG a T) := by
    intro K
    induction K with
    | zero => intro k h; exact absurd h (Nat.not_lt_zero _)
    | succ K ih_lp =>
      intro k hK hk hk3 hs
      refine xj_iload dX7_fits_3 rfl ?_
      refine xj_ic2 dX7_fits_5 ?_
      refine xj_iadd dX7_fits_6 ?_
      refine xj_aload_n dX7_fits_7 rfl rfl ?_
      refine xj_get dX7_fits_8 K7 38 (by decide) q1967 (kG_a (by decide) hO) rfl ?_
      refine xj_iload_n dX7_fits_11 rfl ?_
      refine xj_iald dX7_fits_12 (kG_a (by decide) h76) rfl hj31 hZ1 ?_
      rw [show nI k + 2 = nI (k + 2) from nI_add k 2]
      refine xj_icmp_ge (tgt := 99) dX7_fits_13 rfl (fun c13 => ?_) (fun c13 => ?_)
      · refine xj_ic1 dX7_fits_99 ?_
        exact xj_ireturn dX7_fits_100 rfl rfl (xrv_i (by have hs : (if k + 2 < q.2.length then _ else true) = ftB n S0 q.2 := hs; rw [if_neg (fun h => absurd c13 (nI_ge h (by omega)))] at hs; rw [← hs]; rfl))
      · have hkl : k + 2 < q.2.length := Nat.lt_of_not_le fun h => c13 (nI_le h (by omega))
        obtain ⟨x0, hx0⟩ : ∃ x, q.2[k]? = some x := ⟨_, List.getElem?_eq_getElem (by omega)⟩
        obtain ⟨x1, hx1⟩ : ∃ x, q.2[k + 1]? = some x := ⟨_, List.getElem?_eq_getElem (by omega)⟩
        obtain ⟨x2, hx2⟩ : ∃ x, q.2[k + 2]? = some x := ⟨_, List.getElem?_eq_getElem (by omega)⟩
        have g0 : q.2.getD k 0 = x0 := x_getD hx0
        have g1 : q.2.getD (k + 1) 0 = x1 := x_getD hx1
        have g2 : q.2.getD (k + 2) 0 = x2 := x_getD hx2
        have h3 := ht3 k hk3 hkl
        unfold t3 at h3
        rw [g0, g1, g2, Bool.and_eq_true, Bool.and_eq_true] at h3
        obtain ⟨r0, hr0, hx0r⟩ := rowB_t (by omega) h1n h3.1
        obtain ⟨r1, hr1, hx1r⟩ := rowB_t (by omega) h1n h3.2.1
        have f0 := tn_nI (by omega) hr0
        have f1 := tn_nI (by omega) hr1
        have hm0 := R31 (by omega) (gos_mem' (g := S0) (t := true) (by omega) hr0)
        have hm1 := R31 (by omega) (gos_mem' (g := S0) (t := true) (by omega) hr1)
        have hs : (if k + 2 < q.2.length then (if (b1 (gos n true S0 (tn (q.2.getD k 0).toInt32) == gos n true S0 (tn (q.2.getD (k + 1) 0).toInt32))).toInt64 = q.2.getD (k + 2) 0 then ftL n S0 q.2 K (k + 3) else false) else true) = ftB n S0 q.2 := hs
        rw [if_pos hkl, g0, g1, g2, hx0r, hx1r, f0, f1] at hs
        refine xj_aload_n dX7_fits_16 rfl rfl ?_
        refine xj_aload_n dX7_fits_17 rfl rfl ?_
        refine xj_get dX7_fits_18 K7 39 (by decide) q1968 (kG_a (by decide) hO) rfl ?_
        refine xj_bipush (v := 40) dX7_fits_21 rfl ?_
        refine xj_iload_n dX7_fits_23 rfl ?_
        refine xj_imul dX7_fits_24 ?_
        refine xj_iload dX7_fits_25 rfl ?_
        refine xj_iadd dX7_fits_27 ?_
        refine xj_lald dX7_fits_28 (kG_a (by decide) h77) (nI_40 j k) (by omega) (hCC k x0 hx0) ?_
        refine xj_l2i dX7_fits_29 ?_
        rw [hx0r]
        refine xj_ic1 dX7_fits_30 ?_
        refine xj_lload_n dX7_fits_31 rfl ?_
        refine xj_cV dX7_fits_32 q2362 kV_X7_goes (M_goes (t := true) hv.V ha.A hr0 hS64) (kG_a (by decide) hO) rfl rfl rfl rfl (Nat.le_of_ble_eq_true rfl) ⟨(Nat.le_of_ble_eq_true rfl), (Nat.le_of_ble_eq_true rfl)⟩ (Nat.le_of_ble_eq_true rfl) (Nat.le_of_ble_eq_true rfl) ?_
        refine xj_ist5 dX7_fits_35 rfl ?_
        refine xj_aload_n dX7_fits_37 rfl rfl ?_
        refine xj_aload_n dX7_fits_38 rfl rfl ?_
        refine xj_get dX7_fits_39 K7 39 (by decide) q1968 (kG_a (by decide) hO) rfl ?_
        refine xj_bipush (v := 40) dX7_fits_42 rfl ?_
        refine xj_iload_n dX7_fits_44 rfl ?_
        refine xj_imul dX7_fits_45 ?_
        refine xj_iload dX7_fits_46 rfl ?_
        refine xj_iadd dX7_fits_48 ?_
        refine xj_ic1 dX7_fits_49 ?_
        refine xj_iadd dX7_fits_50 ?_
        refine xj_lald dX7_fits_51 (kG_a (by decide) h77) (show (40 : Int32) * nI j + nI k + 1 = nI (40 * j + (k + 1)) by rw [nI_40, show (1 : Int32) = nI 1 from rfl, nI_add, Nat.add_assoc]) (by omega) (hCC (k + 1) x1 hx1) ?_
        refine xj_l2i dX7_fits_52 ?_
        rw [hx1r]
        refine xj_ic1 dX7_fits_53 ?_
        refine xj_lload_n dX7_fits_54 rfl ?_
        refine xj_cV dX7_fits_55 q2362 kV_X7_goes (M_goes (t := true) hv.V ha.A hr1 hS64) (kG_a (by decide) hO) rfl rfl rfl rfl (Nat.le_of_ble_eq_true rfl) ⟨(Nat.le_of_ble_eq_true rfl), (Nat.le_of_ble_eq_true rfl)⟩ (Nat.le_of_ble_eq_true rfl) (Nat.le_of_ble_eq_true rfl) ?_
        refine xj_ist6 dX7_fits_58 rfl ?_
        refine xj_iload dX7_fits_60 rfl ?_
        refine xj_iload dX7_fits_62 rfl ?_
        refine xj_sI_icmp_ne (tgt := 71) (M := 72) dX7_fits_64 rfl (fun c64 k => by
            refine xj_ic0 dX7_fits_71 ?_
            exact k) (fun c64 k => by
            refine xj_ic1 dX7_fits_67 ?_
            refine xj_goto (tgt := 72) dX7_fits_68 rfl ?_
            exact k) ?_
        refine xj_top (c_eq hm0 hm1) ?_
        refine xj_i2l dX7_fits_72 ?_
        refine xj_aload_n dX7_fits_73 rfl rfl ?_
        refine xj_get dX7_fits_74 K7 39 (by decide) q1968 (kG_a (by decide) hO) rfl ?_
        refine xj_bipush (v := 40) dX7_fits_77 rfl ?_
        refine xj_iload_n dX7_fits_79 rfl ?_
        refine xj_imul dX7_fits_80 ?_
        refine xj_iload dX7_fits_81 rfl ?_
        refine xj_iadd dX7_fits_83 ?_
        refine xj_ic2 dX7_fits_84 ?_
        refine xj_iadd dX7_fits_85 ?_
        refine xj_lald dX7_fits_86 (kG_a (by decide) h77) (show (40 : Int32) * nI j + nI k + 2 = nI (40 * j + (k + 2)) by rw [nI_40, show (2 : Int32) = nI 2 from rfl, nI_add, Nat.add_assoc]) (by omega) (hCC (k + 2) x2 hx2) ?_
        refine xj_lcmp dX7_fits_87 ?_
        refine xj_if_eq (tgt := 93) dX7_fits_88 rfl (fun c88 => ?_) (fun c88 => ?_)
        · rw [if_pos ((lg_cmp_eq _ _).mp c88)] at hs
          refine xj_iinc4 (cst := 3) dX7_fits_93 rfl rfl ?_
          rw [show nI k + 3 = nI (k + 3) from nI_add k 3]
          refine xj_goto (tgt := 3) dX7_fits_96 rfl ?_
          exact xj_fg5 (xj_fg6 (ih_lp (k + 3) (by omega) (by omega) (by omega) hs))
        · refine xj_ic0 dX7_fits_91 ?_
          exact xj_ireturn dX7_fits_92 rfl rfl (xrv_i (by rw [if_neg (fun h => c88 ((lg_cmp_eq _ _).mpr h))] at hs; rw [← hs]; rfl))
  exact lp 15 0 (by omega) (by omega) rfl rfl
theorem M_whatIs {sh : Nat → Option (Nat × List Int64)} {k w : Int32} (hv : kV c n a) (ha : kA n a) (hf : kF c n a) (hh : kH sh a) : xMet E yX7_whatIs cX7_whatIs 6 (some FieldType.int) 5 0 0 [.ref 54, .int k, .int w] (kG a T) (xrv (some (.int (o_whatIs n sh k w))) (kG a T)) := by
  obtain ⟨hO, hf0, h1n, hn6, h63, h64⟩ := id hv
  obtain ⟨S, Z, C, h75, h76, h77, hHL⟩ := id hh
  obtain ⟨hS4, hZ4, hC160, hKK⟩ := id hHL
  have hna := na_lt n (by omega)
  refine xMet.of (lv := [some (.ref 54), some (.int k), some (.int w), none, none, none]) rfl rfl (Nat.le_of_ble_eq_true rfl) ?_
  refine xj_iload_n dX7_whatIs_0 rfl ?_
  refine xj_cS dX7_whatIs_1 q2446 kS_X7_isSheet M_isSheet rfl rfl (Nat.le_of_ble_eq_true rfl) ⟨(Nat.le_of_ble_eq_true rfl), (Nat.le_of_ble_eq_true rfl)⟩ (Nat.le_of_ble_eq_true rfl) (Nat.le_of_ble_eq_true rfl) ?_
  refine xj_if_eq (tgt := 17) dX7_whatIs_4 rfl (fun c4 => ?_) (fun c4 => ?_)
  · refine xj_icm1 dX7_whatIs_17 ?_
    exact xj_ireturn dX7_whatIs_18 rfl rfl (xrv_i (by first | (simp [o_whatIs, b1_z c4]; done) | (have hb2 := b1_z c14; rw [inB_c1] at hb2; simp [o_whatIs, hb2]; done)))
  · refine xj_iload_n dX7_whatIs_7 rfl ?_
    refine xj_i2l dX7_whatIs_8 ?_
    refine xj_lc0 dX7_whatIs_9 ?_
    refine xj_lc1 dX7_whatIs_10 ?_
    refine xj_cS dX7_whatIs_11 q2085 kS_X7_in M_in rfl rfl (Nat.le_of_ble_eq_true rfl) ⟨(Nat.le_of_ble_eq_true rfl), (Nat.le_of_ble_eq_true rfl)⟩ (Nat.le_of_ble_eq_true rfl) (Nat.le_of_ble_eq_true rfl) ?_
    refine xj_if_ne (tgt := 19) dX7_whatIs_14 rfl (fun c14 => ?_) (fun c14 => ?_)
    · have hb1 := b1_nz c4
      obtain ⟨j, hj4, hj31, rfl⟩ := inI_t hb1
      have e1 : tn (nI j) = j := nI_clamp hj31
      have hKj := hKK j hj4
      have hb2 := b1_nz c14
      rw [inB_c1] at hb2
      cases hq : sh j with
      | none =>
        have hS1 := s_none hKj.1 hq
        refine xj_aload_n dX7_whatIs_19 rfl rfl ?_
        refine xj_get dX7_whatIs_20 K7 37 (by decide) q1966 (kG_a (by decide) hO) rfl ?_
        refine xj_iload_n dX7_whatIs_23 rfl ?_
        refine xj_iald dX7_whatIs_24 (kG_a (by decide) h75) rfl hj31 hS1 ?_
        refine xj_ic2 dX7_whatIs_25 ?_
        refine xj_icmp_eq (tgt := 46) dX7_whatIs_26 rfl (fun c26 => absurd c26 (by decide)) (fun c26 => ?_)
        refine xj_aload_n dX7_whatIs_29 rfl rfl ?_
        refine xj_get dX7_whatIs_30 K7 37 (by decide) q1966 (kG_a (by decide) hO) rfl ?_
        refine xj_iload_n dX7_whatIs_33 rfl ?_
        refine xj_iald dX7_whatIs_34 (kG_a (by decide) h75) rfl hj31 hS1 ?_
        refine xj_if_ge (tgt := 43) dX7_whatIs_35 rfl (fun c35 => absurd c35 (by decide)) (fun c35 => ?_)
        refine xj_bipush (v := -11) dX7_whatIs_38 rfl ?_
        refine xj_goto (tgt := 45) dX7_whatIs_40 rfl ?_
        exact xj_ireturn dX7_whatIs_45 rfl rfl (xrv_i (by simp [o_whatIs, hb1, hb2, e1, hq]))
      | some q =>
        have hq4 := hKj.2.2.2.1 q hq
        have hS1 := s_some hKj.1 hq
        have hZ1 := z_some hKj.2.1 hq
        have h40 : q.2.length ≤ 40 := by have := hKj.2.2.1; rw [hq] at this; exact this
        have hCC : ∀ (i : Nat) (x : Int64), q.2[i]? = some x → C[40 * j + i]? = some x := by have := hKj.2.2.2.2; rw [hq] at this; exact this
        refine xj_aload_n dX7_whatIs_19 rfl rfl ?_
        refine xj_get dX7_whatIs_20 K7 37 (by decide) q1966 (kG_a (by decide) hO) rfl ?_
        refine xj_iload_n dX7_whatIs_23 rfl ?_
        refine xj_iald dX7_whatIs_24 (kG_a (by decide) h75) rfl hj31 hS1 ?_
        refine xj_ic2 dX7_whatIs_25 ?_
        refine xj_icmp_eq (tgt := 46) dX7_whatIs_26 rfl (fun c26 => ?_) (fun c26 => ?_)
        · have h2 : q.1 = 2 := (nI_eq (by omega) (by omega)).mp (show nI q.1 = nI 2 from c26)
          by_cases hat : aT n q.2 = true
          · have ht3 : ∀ k, k % 3 = 0 → k + 2 < q.2.length → t3 n q.2 k = true := fun k h1 h2 => by
              have := (ar3_t 15 0 _ (by omega) hat).2 (k / 3) (by omega)
              rwa [show 0 + 3 * (k / 3) = k by omega] at this
            refine xj_ic0 dX7_whatIs_46 ?_
            refine xj_istn3 dX7_whatIs_47 rfl ?_
            refine xj_bipush (v := -3) dX7_whatIs_48 rfl ?_
            refine xj_ist4 dX7_whatIs_50 rfl ?_
            refine xj_bipush (v := 95) dX7_whatIs_52 rfl ?_
            refine xj_ist5 dX7_whatIs_54 rfl ?_
            have lp : ∀ (K : Nat) (z : Nat) (u : Nat) (v : Int32), z < K → (z ≤ 96) → (wiF n q.2 z (u, v) = wiS n q.2) → xJ E (yX7_whatIs, cX7_whatIs, 6, (some FieldType.int), []) (xR 5 0 0) (xrv (some (.int (o_whatIs n sh (nI j) w))) (kG a T)) 0 0 56 [some (.ref 54), some (.int (nI j)), some (.int w), some (.int (nI u)), some (.int v), some (.int (nI z - 1))] [] (kG a T) := by
              intro K
              induction K with
              | zero => intro z u v h; exact absurd h (Nat.not_lt_zero _)
              | succ K ih_lp =>
                intro z u v hK hz hs
                refine xj_iload dX7_whatIs_56 rfl ?_
                refine xj_if_lt (tgt := 108) dX7_whatIs_58 rfl (fun c58 => ?_) (fun c58 => ?_)
                · have hz0 : z = 0 := by
                    rcases Nat.eq_zero_or_pos z with h | h
                    · exact h
                    · exact absurd c58 (by rw [show nI z - 1 = nI (z - 1) from nI_sub1 h]; exact nI_pos (by omega))
                  subst hz0
                  have hs : (u, v) = wiS n q.2 := hs
                  refine xj_iload_n dX7_whatIs_108 rfl ?_
                  refine xj_if_ne (tgt := 116) dX7_whatIs_109 rfl (fun c109 => ?_) (fun c109 => ?_)
                  · refine xj_iload dX7_whatIs_116 rfl ?_
                    exact xj_ireturn dX7_whatIs_118 rfl rfl (xrv_i (by unfold o_whatIs; rw [hb1, hb2, e1, hq]; show _ = (if q.1 = 2 then (if w = 0 then nI (wiS n q.2).1 else (wiS n q.2).2) else -13); rw [if_pos h2]; first | (rw [if_pos c109, ← hs]; done) | (rw [if_neg c109, ← hs]; done) | (rw [if_pos c109]; unfold wiS; rw [hat]; rfl) | (rw [if_neg c109]; unfold wiS; rw [hat]; rfl)))
                  · refine xj_iload_n dX7_whatIs_112 rfl ?_
                    refine xj_goto (tgt := 118) dX7_whatIs_113 rfl ?_
                    exact xj_ireturn dX7_whatIs_118 rfl rfl (xrv_i (by unfold o_whatIs; rw [hb1, hb2, e1, hq]; show _ = (if q.1 = 2 then (if w = 0 then nI (wiS n q.2).1 else (wiS n q.2).2) else -13); rw [if_pos h2]; first | (rw [if_pos c109, ← hs]; done) | (rw [if_neg c109, ← hs]; done) | (rw [if_pos c109]; unfold wiS; rw [hat]; rfl) | (rw [if_neg c109]; unfold wiS; rw [hat]; rfl)))
                · obtain ⟨z, rfl⟩ : ∃ z0, z = z0 + 1 := ⟨z - 1, by have : z ≠ 0 := fun h => c58 (by subst h; decide); omega⟩
                  have hs : wiF n q.2 z (if ftB n (clo n (tkS n (z / 16) (z % 16))) q.2 then (u + 1, nI z) else (u, v)) = wiS n q.2 := hs
                  rw [show nI (z + 1) - 1 = nI z from nI_pred z]
                  refine xj_aload_n dX7_whatIs_61 rfl rfl ?_
                  refine xj_iload_n dX7_whatIs_62 rfl ?_
                  refine xj_cV dX7_whatIs_63 q2449 kV_X7_areThrees (M_areThrees hv hh hq hj4) (kG_a (by decide) hO) rfl rfl rfl rfl (Nat.le_of_ble_eq_true rfl) ⟨(Nat.le_of_ble_eq_true rfl), (Nat.le_of_ble_eq_true rfl)⟩ (Nat.le_of_ble_eq_true rfl) (Nat.le_of_ble_eq_true rfl) ?_
                  refine xj_if_eq (tgt := 108) dX7_whatIs_66 rfl (fun c66 => absurd c66 (by rw [hat]; decide)) (fun c66 => ?_)
                  refine xj_aload_n dX7_whatIs_69 rfl rfl ?_
                  refine xj_iload_n dX7_whatIs_70 rfl ?_
                  refine xj_aload_n dX7_whatIs_71 rfl rfl ?_
                  refine xj_aload_n dX7_whatIs_72 rfl rfl ?_
                  refine xj_iload dX7_whatIs_73 rfl ?_
                  refine xj_bipush (v := 16) dX7_whatIs_75 rfl ?_
                  refine xj_idiv dX7_whatIs_77 (by decide) ?_
                  refine xj_top (pk_div (d := 16) (by omega) (by decide) (by decide)) ?_
                  refine xj_iload dX7_whatIs_78 rfl ?_
                  refine xj_bipush (v := 16) dX7_whatIs_80 rfl ?_
                  refine xj_irem dX7_whatIs_82 (by decide) ?_
                  refine xj_top (pk_rem (d := 16) (by omega) (by decide) (by decide)) ?_
                  refine xj_cV dX7_whatIs_83 q2248 kV_X7_takenBy (M_takenBy hv.V ha.A hf.1 (Nat.mod_lt _ (by decide)) (by omega)) (kG_a (by decide) hO) rfl rfl rfl rfl (Nat.le_of_ble_eq_true rfl) ⟨(Nat.le_of_ble_eq_true rfl), (Nat.le_of_ble_eq_true rfl)⟩ (Nat.le_of_ble_eq_true rfl) (Nat.le_of_ble_eq_true rfl) ?_
                  refine xj_cV dX7_whatIs_86 q2268 kV_X7_closedBy (M_closedBy hv.V hf.F (Nat.lt_trans (tkS_lt (by omega)) (by decide))) (kG_a (by decide) hO) rfl rfl rfl rfl (Nat.le_of_ble_eq_true rfl) ⟨(Nat.le_of_ble_eq_true rfl), (Nat.le_of_ble_eq_true rfl)⟩ (Nat.le_of_ble_eq_true rfl) (Nat.le_of_ble_eq_true rfl) ?_
                  refine xj_cV dX7_whatIs_89 q2453 kV_X7_fits (M_fits hv ha hh hq hj4 (Nat.lt_trans (clo_lt (by omega) _) (by decide)) ht3) (kG_a (by decide) hO) rfl rfl rfl rfl (Nat.le_of_ble_eq_true rfl) ⟨(Nat.le_of_ble_eq_true rfl), (Nat.le_of_ble_eq_true rfl)⟩ (Nat.le_of_ble_eq_true rfl) (Nat.le_of_ble_eq_true rfl) ?_
                  refine xj_if_eq (tgt := 102) dX7_whatIs_92 rfl (fun c92 => ?_) (fun c92 => ?_)
                  · first | rw [if_pos (b1_nz c92)] at hs | (rw [show ftB n (clo n (tkS n (z / 16) (z % 16))) q.2 = false from b1_z c92] at hs; rw [if_neg (by decide)] at hs)
                    refine xj_iinc5 (cst := (-1)) dX7_whatIs_102 rfl rfl ?_
                    rw [← Int32.sub_eq_add_neg]
                    refine xj_goto (tgt := 56) dX7_whatIs_105 rfl ?_
                    exact ih_lp z _ _ (by omega) (by omega) hs
                  · refine xj_iinc3 (cst := 1) dX7_whatIs_95 rfl rfl ?_
                    rw [nI_1]
                    refine xj_iload dX7_whatIs_98 rfl ?_
                    refine xj_ist4 dX7_whatIs_100 rfl ?_
                    first | rw [if_pos (b1_nz c92)] at hs | (rw [show ftB n (clo n (tkS n (z / 16) (z % 16))) q.2 = false from b1_z c92] at hs; rw [if_neg (by decide)] at hs)
                    refine xj_iinc5 (cst := (-1)) dX7_whatIs_102 rfl rfl ?_
                    rw [← Int32.sub_eq_add_neg]
                    refine xj_goto (tgt := 56) dX7_whatIs_105 rfl ?_
                    exact ih_lp z _ _ (by omega) (by omega) hs
            exact lp 97 96 0 (-3) (by omega) (by omega) (by unfold wiS; rw [if_pos hat])
          · have hat : aT n q.2 = false := by simpa using hat
            refine xj_ic0 dX7_whatIs_46 ?_
            refine xj_istn3 dX7_whatIs_47 rfl ?_
            refine xj_bipush (v := -3) dX7_whatIs_48 rfl ?_
            refine xj_ist4 dX7_whatIs_50 rfl ?_
            refine xj_bipush (v := 95) dX7_whatIs_52 rfl ?_
            refine xj_ist5 dX7_whatIs_54 rfl ?_
            refine xj_iload dX7_whatIs_56 rfl ?_
            refine xj_if_lt (tgt := 108) dX7_whatIs_58 rfl (fun c58 => absurd c58 (by decide)) (fun c58 => ?_)
            refine xj_aload_n dX7_whatIs_61 rfl rfl ?_
            refine xj_iload_n dX7_whatIs_62 rfl ?_
            refine xj_cV dX7_whatIs_63 q2449 kV_X7_areThrees (M_areThrees hv hh hq hj4) (kG_a (by decide) hO) rfl rfl rfl rfl (Nat.le_of_ble_eq_true rfl) ⟨(Nat.le_of_ble_eq_true rfl), (Nat.le_of_ble_eq_true rfl)⟩ (Nat.le_of_ble_eq_true rfl) (Nat.le_of_ble_eq_true rfl) ?_
            refine xj_if_eq (tgt := 108) dX7_whatIs_66 rfl (fun c66 => ?_) (fun c66 => absurd (by rw [hat]; decide) c66)
            refine xj_iload_n dX7_whatIs_108 rfl ?_
            refine xj_if_ne (tgt := 116) dX7_whatIs_109 rfl (fun c109 => ?_) (fun c109 => ?_)
            · refine xj_iload dX7_whatIs_116 rfl ?_
              exact xj_ireturn dX7_whatIs_118 rfl rfl (xrv_i (by unfold o_whatIs; rw [hb1, hb2, e1, hq]; show _ = (if q.1 = 2 then (if w = 0 then nI (wiS n q.2).1 else (wiS n q.2).2) else -13); rw [if_pos h2]; first | (rw [if_pos c109, ← hs]; done) | (rw [if_neg c109, ← hs]; done) | (rw [if_pos c109]; unfold wiS; rw [hat]; rfl) | (rw [if_neg c109]; unfold wiS; rw [hat]; rfl)))
            · refine xj_iload_n dX7_whatIs_112 rfl ?_
              refine xj_goto (tgt := 118) dX7_whatIs_113 rfl ?_
              exact xj_ireturn dX7_whatIs_118 rfl rfl (xrv_i (by unfold o_whatIs; rw [hb1, hb2, e1, hq]; show _ = (if q.1 = 2 then (if w = 0 then nI (wiS n q.2).1 else (wiS n q.2).2) else -13); rw [if_pos h2]; first | (rw [if_pos c109, ← hs]; done) | (rw [if_neg c109, ← hs]; done) | (rw [if_pos c109]; unfold wiS; rw [hat]; rfl) | (rw [if_neg c109]; unfold wiS; rw [hat]; rfl)))
        · refine xj_aload_n dX7_whatIs_29 rfl rfl ?_
          refine xj_get dX7_whatIs_30 K7 37 (by decide) q1966 (kG_a (by decide) hO) rfl ?_
          refine xj_iload_n dX7_whatIs_33 rfl ?_
          refine xj_iald dX7_whatIs_34 (kG_a (by decide) h75) rfl hj31 hS1 ?_
          refine xj_if_ge (tgt := 43) dX7_whatIs_35 rfl (fun c35 => ?_) (fun c35 => absurd (nI_pos' (by omega)) c35)
          refine xj_bipush (v := -13) dX7_whatIs_43 rfl ?_
          exact xj_ireturn dX7_whatIs_45 rfl rfl (xrv_i (by have h2 : q.1 ≠ 2 := fun h => c26 (by rw [h]; rfl); simp [o_whatIs, hb1, hb2, e1, hq, h2]))
    · refine xj_icm1 dX7_whatIs_17 ?_
      exact xj_ireturn dX7_whatIs_18 rfl rfl (xrv_i (by first | (simp [o_whatIs, b1_z c4]; done) | (have hb2 := b1_z c14; rw [inB_c1] at hb2; simp [o_whatIs, hb2]; done)))
end M18
