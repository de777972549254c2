/-! ===== the reference: sheets ===== -/
set_option maxRecDepth 100000
theorem kS_X7_isSheet : xsS yX7_isSheet cX7_isSheet 1 (some FieldType.boolean) 1 := ⟨q2447, q161, q2448, by decide, by decide, by decide +kernel⟩
theorem kS_X7_narrowed : xsS yX7_narrowed cX7_narrowed 3 (some FieldType.long) 2 := ⟨q2504, q161, q2505, by decide, by decide, by decide +kernel⟩
section M17
variable {E : xE} {G T : xH} {a : Nat → xC} {c : Nat → Value} {n : Nat}
theorem M_isSheet {k : Int32} : xMet E yX7_isSheet cX7_isSheet 1 (some FieldType.boolean) 1 0 0 [.int k] G (xrv (some (.int (b1 (inI k 4)))) G) := by
  refine xMet.of (lv := [some (.int k)]) rfl rfl (Nat.le_of_ble_eq_true rfl) ?_
  refine xj_iload_n dX7_isSheet_0 rfl ?_
  refine xj_i2l dX7_isSheet_1 ?_
  refine xj_lc0 dX7_isSheet_2 ?_
  refine xj_ldc2 dX7_isSheet_3 q2139 ?_
  refine xj_cS dX7_isSheet_6 q2085 kS_X7_in M_in rfl rfl (Nat.le_of_ble_eq_true rfl) ⟨(Nat.le_of_ble_eq_true rfl), (Nat.le_of_ble_eq_true rfl)⟩ (Nat.le_of_ble_eq_true rfl) (Nat.le_of_ble_eq_true rfl) ?_
  exact xj_ireturn dX7_isSheet_9 rfl (b1_nar _) (xrv_i (by rw [inB_c3]))
theorem M_isShelf {k : Int32} : xMet E yX7_isShelf cX7_isShelf 1 (some FieldType.boolean) 1 0 0 [.int k] G (xrv (some (.int (b1 (inI k 4)))) G) := by
  refine xMet.of (lv := [some (.int k)]) rfl rfl (Nat.le_of_ble_eq_true rfl) ?_
  refine xj_iload_n dX7_isShelf_0 rfl ?_
  refine xj_i2l dX7_isShelf_1 ?_
  refine xj_lc0 dX7_isShelf_2 ?_
  refine xj_ldc2 dX7_isShelf_3 q2139 ?_
  refine xj_cS dX7_isShelf_6 q2085 kS_X7_in M_in rfl rfl (Nat.le_of_ble_eq_true rfl) ⟨(Nat.le_of_ble_eq_true rfl), (Nat.le_of_ble_eq_true rfl)⟩ (Nat.le_of_ble_eq_true rfl) (Nat.le_of_ble_eq_true rfl) ?_
  exact xj_ireturn dX7_isShelf_9 rfl (b1_nar _) (xrv_i (by rw [inB_c3]))
theorem M_narrowed {s : Int32} {v : Int64} : xMet E yX7_narrowed cX7_narrowed 3 (some FieldType.long) 0 0 0 [.int s, .long v] G (xrv (some (.long (nrw s v))) G) := by
  refine xMet.of (lv := [some (.int s), some (.long v), none]) rfl rfl (Nat.le_of_ble_eq_true rfl) ?_
  refine xj_iload_n dX7_narrowed_0 rfl ?_
  refine xj_if_ne (tgt := 11) dX7_narrowed_1 rfl (fun c1 => ?_) (fun c1 => ?_)
  · refine xj_iload_n dX7_narrowed_11 rfl ?_
    refine xj_ic1 dX7_narrowed_12 ?_
    refine xj_icmp_ne (tgt := 23) dX7_narrowed_13 rfl (fun c13 => ?_) (fun c13 => ?_)
    · refine xj_iload_n dX7_narrowed_23 rfl ?_
      refine xj_ic2 dX7_narrowed_24 ?_
      refine xj_icmp_ne (tgt := 34) dX7_narrowed_25 rfl (fun c25 => ?_) (fun c25 => ?_)
      · refine xj_lload_n dX7_narrowed_34 rfl ?_
        exact xj_lreturn dX7_narrowed_35 rfl (xrv_l (by unfold nrw; first | (rw [if_pos c1]; done) | (rw [if_neg c1, if_pos c13]; done) | (rw [if_neg c1, if_neg c13, if_pos c25]; done) | (rw [if_neg c1, if_neg c13, if_neg c25]; done)))
      · refine xj_lload_n dX7_narrowed_28 rfl ?_
        refine xj_l2i dX7_narrowed_29 ?_
        refine xj_i2l dX7_narrowed_30 ?_
        refine xj_goto (tgt := 35) dX7_narrowed_31 rfl ?_
        exact xj_lreturn dX7_narrowed_35 rfl (xrv_l (by unfold nrw; first | (rw [if_pos c1]; done) | (rw [if_neg c1, if_pos c13]; done) | (rw [if_neg c1, if_neg c13, if_pos c25]; done) | (rw [if_neg c1, if_neg c13, if_neg c25]; done)))
    · refine xj_lload_n dX7_narrowed_16 rfl ?_
      refine xj_l2i dX7_narrowed_17 ?_
      refine xj_i2s dX7_narrowed_18 ?_
      refine xj_i2l dX7_narrowed_19 ?_
      refine xj_goto (tgt := 35) dX7_narrowed_20 rfl ?_
      exact xj_lreturn dX7_narrowed_35 rfl (xrv_l (by unfold nrw; first | (rw [if_pos c1]; done) | (rw [if_neg c1, if_pos c13]; done) | (rw [if_neg c1, if_neg c13, if_pos c25]; done) | (rw [if_neg c1, if_neg c13, if_neg c25]; done)))
  · refine xj_lload_n dX7_narrowed_4 rfl ?_
    refine xj_l2i dX7_narrowed_5 ?_
    refine xj_i2b dX7_narrowed_6 ?_
    refine xj_i2l dX7_narrowed_7 ?_
    refine xj_goto (tgt := 35) dX7_narrowed_8 rfl ?_
    exact xj_lreturn dX7_narrowed_35 rfl (xrv_l (by unfold nrw; first | (rw [if_pos c1]; done) | (rw [if_neg c1, if_pos c13]; done) | (rw [if_neg c1, if_neg c13, if_pos c25]; done) | (rw [if_neg c1, if_neg c13, if_neg c25]; done)))
theorem M_put {sh : Nat → Option (Nat × List Int64)} {k i : Int32} {v : Int64} (hv : kV c n a) (hh : kH sh a) : xMet E yX7_put cX7_put 5 (some FieldType.int) 2 0 0 [.ref 54, .int k, .int i, .long v] (kG a T) (kR (some (.int (o_put sh k i))) T (fun b => kfr [77] a b ∧ kH (s_put sh k i v) b)) := by
  obtain ⟨hO, hf0, h1n, hn6, h63, h64⟩ := id hv
  obtain ⟨S, Z, C, h75, h76, h77, hHL⟩ := id hh
  obtain ⟨hS4, hZ4, hC160, hKK⟩ := id hHL
  refine xMet.of (lv := [some (.ref 54), some (.int k), some (.int i), some (.long v), none]) rfl rfl (Nat.le_of_ble_eq_true rfl) ?_
  refine xj_iload_n dX7_put_0 rfl ?_
  refine xj_cS dX7_put_1 q2446 kS_X7_isSheet M_isSheet rfl rfl (Nat.le_of_ble_eq_true rfl) ⟨(Nat.le_of_ble_eq_true rfl), (Nat.le_of_ble_eq_true rfl)⟩ (Nat.le_of_ble_eq_true rfl) (Nat.le_of_ble_eq_true rfl) ?_
  refine xj_if_ne (tgt := 9) dX7_put_4 rfl (fun c4 => ?_) (fun c4 => ?_)
  · have hb1 := b1_nz c4
    obtain ⟨j, hj4, hj31, rfl⟩ := inI_t hb1
    have e1 : tn (nI j) = j := nI_clamp hj31
    have hKj := hKK j hj4
    cases hq : sh j with
    | none =>
      have hS1 := s_none hKj.1 hq
      refine xj_aload_n dX7_put_9 rfl rfl ?_
      refine xj_get dX7_put_10 K7 37 (by decide) q1966 (kG_a (by decide) hO) rfl ?_
      refine xj_iload_n dX7_put_13 rfl ?_
      refine xj_iald dX7_put_14 (kG_a (by decide) h75) rfl hj31 hS1 ?_
      refine xj_if_ge (tgt := 21) dX7_put_15 rfl (fun c15 => absurd c15 (by decide)) (fun c15 => ?_)
      refine xj_bipush (v := -11) dX7_put_18 rfl ?_
      exact xj_ireturn dX7_put_20 rfl rfl (kR_i (by simp [o_put, hb1, e1, hq]) ⟨kfr.refl _ _, by rw [show s_put sh (nI j) i v = sh by simp [s_put, hb1, e1, hq]]; exact hh⟩)
    | some q =>
      have hq4 := hKj.2.2.2.1 q hq
      have hS1 := s_some hKj.1 hq
      have hZ1 := z_some hKj.2.1 hq
      have h40 : q.2.length ≤ 40 := by have := hKj.2.2.1; rw [hq] at this; exact this
      have hCC : ∀ (i : Nat) (x : Int64), q.2[i]? = some x → C[40 * j + i]? = some x := by have := hKj.2.2.2.2; rw [hq] at this; exact this
      refine xj_aload_n dX7_put_9 rfl rfl ?_
      refine xj_get dX7_put_10 K7 37 (by decide) q1966 (kG_a (by decide) hO) rfl ?_
      refine xj_iload_n dX7_put_13 rfl ?_
      refine xj_iald dX7_put_14 (kG_a (by decide) h75) rfl hj31 hS1 ?_
      refine xj_if_ge (tgt := 21) dX7_put_15 rfl (fun c15 => ?_) (fun c15 => absurd (nI_pos' (by omega)) c15)
      refine xj_iload_n dX7_put_21 rfl ?_
      refine xj_i2l dX7_put_22 ?_
      refine xj_lc0 dX7_put_23 ?_
      refine xj_aload_n dX7_put_24 rfl rfl ?_
      refine xj_get dX7_put_25 K7 38 (by decide) q1967 (kG_a (by decide) hO) rfl ?_
      refine xj_iload_n dX7_put_28 rfl ?_
      refine xj_iald dX7_put_29 (kG_a (by decide) h76) rfl hj31 hZ1 ?_
      refine xj_ic1 dX7_put_30 ?_
      refine xj_isub dX7_put_31 ?_
      refine xj_i2l dX7_put_32 ?_
      refine xj_cS dX7_put_33 q2085 kS_X7_in M_in rfl rfl (Nat.le_of_ble_eq_true rfl) ⟨(Nat.le_of_ble_eq_true rfl), (Nat.le_of_ble_eq_true rfl)⟩ (Nat.le_of_ble_eq_true rfl) (Nat.le_of_ble_eq_true rfl) ?_
      rw [inB_inI (by omega)]
      refine xj_if_ne (tgt := 42) dX7_put_36 rfl (fun c36 => ?_) (fun c36 => ?_)
      · have hb2 := b1_nz c36
        obtain ⟨p, hp, hp31, rfl⟩ := inI_t hb2
        have e2 : tn (nI p) = p := nI_clamp hp31
        refine xj_aload_n dX7_put_42 rfl rfl ?_
        refine xj_get dX7_put_43 K7 39 (by decide) q1968 (kG_a (by decide) hO) rfl ?_
        refine xj_bipush (v := 40) dX7_put_46 rfl ?_
        refine xj_iload_n dX7_put_48 rfl ?_
        refine xj_imul dX7_put_49 ?_
        refine xj_iload_n dX7_put_50 rfl ?_
        refine xj_iadd dX7_put_51 ?_
        refine xj_aload_n dX7_put_52 rfl rfl ?_
        refine xj_get dX7_put_53 K7 37 (by decide) q1966 (kG_a (by decide) hO) rfl ?_
        refine xj_iload_n dX7_put_56 rfl ?_
        refine xj_iald dX7_put_57 (kG_a (by decide) h75) rfl hj31 hS1 ?_
        refine xj_lload_n dX7_put_58 rfl ?_
        refine xj_cS dX7_put_59 q2503 kS_X7_narrowed M_narrowed rfl rfl (Nat.le_of_ble_eq_true rfl) ⟨(Nat.le_of_ble_eq_true rfl), (Nat.le_of_ble_eq_true rfl)⟩ (Nat.le_of_ble_eq_true rfl) (Nat.le_of_ble_eq_true rfl) ?_
        refine xj_last dX7_put_62 (kG_a (by decide) h77) (nI_40 _ _) (by omega) (by omega) ?_
        refine xj_eq rfl rfl (kG_set (by decide)) ?_
        refine xj_ic1 dX7_put_63 ?_
        exact xj_ireturn dX7_put_64 rfl rfl (kR_i (by simp [o_put, hb1, e1, hq, hb2]) ⟨(kfr.refl _ _).au (by decide), S, Z, _, h75, h76, rfl, by rw [show s_put sh (nI j) (nI p) v = shU sh j (some (q.1, q.2.set p (nrw (nI q.1) v))) by simp [s_put, hb1, e1, hq, hb2, e2]]; exact mHL_put hHL hj4 hq hp⟩)
      · refine xj_bipush (v := -12) dX7_put_39 rfl ?_
        exact xj_ireturn dX7_put_41 rfl rfl (kR_i (by simp [o_put, hb1, e1, hq, b1_z c36]) ⟨kfr.refl _ _, by rw [show s_put sh (nI j) i v = sh by simp [s_put, hb1, e1, hq, b1_z c36]]; exact hh⟩)
  · refine xj_icm1 dX7_put_7 ?_
    exact xj_ireturn dX7_put_8 rfl rfl (kR_i (by simp [o_put, b1_z c4]) ⟨kfr.refl _ _, by rw [show s_put sh k i v = sh by simp [s_put, b1_z c4]]; exact hh⟩)
theorem M_item {sh : Nat → Option (Nat × List Int64)} {k s i : Int32} (hv : kV c n a) (hh : kH sh a) : xMet E yX7_item cX7_item 4 (some FieldType.int) 2 0 0 [.ref 54, .int k, .int s, .int i] (kG a T) (xrv (some (.int (o_item sh k s i))) (kG a T)) := by
  obtain ⟨hO, hf0, h1n, hn6, h63, h64⟩ := id hv
  obtain ⟨S, Z, C, h75, h76, h77, hHL⟩ := id hh
  obtain ⟨hS4, hZ4, hC160, hKK⟩ := id hHL
  refine xMet.of (lv := [some (.ref 54), some (.int k), some (.int s), some (.int i)]) rfl rfl (Nat.le_of_ble_eq_true rfl) ?_
  refine xj_iload_n dX7_item_0 rfl ?_
  refine xj_cS dX7_item_1 q2446 kS_X7_isSheet M_isSheet rfl rfl (Nat.le_of_ble_eq_true rfl) ⟨(Nat.le_of_ble_eq_true rfl), (Nat.le_of_ble_eq_true rfl)⟩ (Nat.le_of_ble_eq_true rfl) (Nat.le_of_ble_eq_true rfl) ?_
  refine xj_if_eq (tgt := 19) dX7_item_4 rfl (fun c4 => ?_) (fun c4 => ?_)
  · refine xj_icm1 dX7_item_19 ?_
    exact xj_ireturn dX7_item_20 rfl rfl (xrv_i (by first | (simp [o_item, b1_z c4]; done) | (have hb2 := b1_z c16; rw [inB_c3] at hb2; simp [o_item, hb2]; done)))
  · refine xj_iload_n dX7_item_7 rfl ?_
    refine xj_i2l dX7_item_8 ?_
    refine xj_lc0 dX7_item_9 ?_
    refine xj_ldc2 dX7_item_10 q2139 ?_
    refine xj_cS dX7_item_13 q2085 kS_X7_in M_in rfl rfl (Nat.le_of_ble_eq_true rfl) ⟨(Nat.le_of_ble_eq_true rfl), (Nat.le_of_ble_eq_true rfl)⟩ (Nat.le_of_ble_eq_true rfl) (Nat.le_of_ble_eq_true rfl) ?_
    refine xj_if_ne (tgt := 21) dX7_item_16 rfl (fun c16 => ?_) (fun c16 => ?_)
    · have hb1 := b1_nz c4
      obtain ⟨j, hj4, hj31, rfl⟩ := inI_t hb1
      have e1 : tn (nI j) = j := nI_clamp hj31
      have hKj := hKK j hj4
      have hb2 := b1_nz c16
      rw [inB_c3] at hb2
      cases hq : sh j with
      | none =>
        have hS1 := s_none hKj.1 hq
        refine xj_aload_n dX7_item_21 rfl rfl ?_
        refine xj_get dX7_item_22 K7 37 (by decide) q1966 (kG_a (by decide) hO) rfl ?_
        refine xj_iload_n dX7_item_25 rfl ?_
        refine xj_iald dX7_item_26 (kG_a (by decide) h75) rfl hj31 hS1 ?_
        refine xj_iload_n dX7_item_27 rfl ?_
        refine xj_icmp_eq (tgt := 48) dX7_item_28 rfl (fun c28 => absurd c28 (fun q => by obtain ⟨p, hp, hp31, rfl⟩ := inI_t hb2; have := i32n (x := nI p) (by rw [← q]; decide); rw [nI_toInt (by omega)] at this; omega)) (fun c28 => ?_)
        refine xj_aload_n dX7_item_31 rfl rfl ?_
        refine xj_get dX7_item_32 K7 37 (by decide) q1966 (kG_a (by decide) hO) rfl ?_
        refine xj_iload_n dX7_item_35 rfl ?_
        refine xj_iald dX7_item_36 (kG_a (by decide) h75) rfl hj31 hS1 ?_
        refine xj_if_ge (tgt := 45) dX7_item_37 rfl (fun c37 => absurd c37 (by decide)) (fun c37 => ?_)
        refine xj_bipush (v := -11) dX7_item_40 rfl ?_
        refine xj_goto (tgt := 47) dX7_item_42 rfl ?_
        exact xj_ireturn dX7_item_47 rfl rfl (xrv_i (by simp [o_item, hb1, hb2, e1, hq]))
      | some q =>
        have hq4 := hKj.2.2.2.1 q hq
        have hS1 := s_some hKj.1 hq
        have hZ1 := z_some hKj.2.1 hq
        have h40 : q.2.length ≤ 40 := by have := hKj.2.2.1; rw [hq] at this; exact this
        have hCC : ∀ (i : Nat) (x : Int64), q.2[i]? = some x → C[40 * j + i]? = some x := by have := hKj.2.2.2.2; rw [hq] at this; exact this
        refine xj_aload_n dX7_item_21 rfl rfl ?_
        refine xj_get dX7_item_22 K7 37 (by decide) q1966 (kG_a (by decide) hO) rfl ?_
        refine xj_iload_n dX7_item_25 rfl ?_
        refine xj_iald dX7_item_26 (kG_a (by decide) h75) rfl hj31 hS1 ?_
        refine xj_iload_n dX7_item_27 rfl ?_
        refine xj_icmp_eq (tgt := 48) dX7_item_28 rfl (fun c28 => ?_) (fun c28 => ?_)
        · refine xj_iload_n dX7_item_48 rfl ?_
          refine xj_i2l dX7_item_49 ?_
          refine xj_lc0 dX7_item_50 ?_
          refine xj_aload_n dX7_item_51 rfl rfl ?_
          refine xj_get dX7_item_52 K7 38 (by decide) q1967 (kG_a (by decide) hO) rfl ?_
          refine xj_iload_n dX7_item_55 rfl ?_
          refine xj_iald dX7_item_56 (kG_a (by decide) h76) rfl hj31 hZ1 ?_
          refine xj_ic1 dX7_item_57 ?_
          refine xj_isub dX7_item_58 ?_
          refine xj_i2l dX7_item_59 ?_
          refine xj_cS dX7_item_60 q2085 kS_X7_in M_in rfl rfl (Nat.le_of_ble_eq_true rfl) ⟨(Nat.le_of_ble_eq_true rfl), (Nat.le_of_ble_eq_true rfl)⟩ (Nat.le_of_ble_eq_true rfl) (Nat.le_of_ble_eq_true rfl) ?_
          rw [inB_inI (by omega)]
          refine xj_if_eq (tgt := 81) dX7_item_63 rfl (fun c63 => ?_) (fun c63 => ?_)
          · refine xj_bipush (v := -12) dX7_item_81 rfl ?_
            exact xj_ireturn dX7_item_83 rfl rfl (xrv_i (by first | (simp [o_item, hb1, hb2, e1, hq, c28, hb3, e2, hx]; done) | (simp [o_item, hb1, hb2, e1, hq, c28, b1_z c63]; done)))
          · have hb3 := b1_nz c63
            obtain ⟨p, hp, hp31, rfl⟩ := inI_t hb3
            have e2 : tn (nI p) = p := nI_clamp hp31
            obtain ⟨x, hx⟩ : ∃ x, q.2[p]? = some x := ⟨_, List.getElem?_eq_getElem hp⟩
            have hx2 : q.2.getD p 0 = x := x_getD hx
            refine xj_aload_n dX7_item_66 rfl rfl ?_
            refine xj_get dX7_item_67 K7 39 (by decide) q1968 (kG_a (by decide) hO) rfl ?_
            refine xj_bipush (v := 40) dX7_item_70 rfl ?_
            refine xj_iload_n dX7_item_72 rfl ?_
            refine xj_imul dX7_item_73 ?_
            refine xj_iload_n dX7_item_74 rfl ?_
            refine xj_iadd dX7_item_75 ?_
            refine xj_lald dX7_item_76 (kG_a (by decide) h77) (nI_40 _ _) (by omega) (hCC p x hx) ?_
            refine xj_l2i dX7_item_77 ?_
            refine xj_goto (tgt := 83) dX7_item_78 rfl ?_
            exact xj_ireturn dX7_item_83 rfl rfl (xrv_i (by first | (simp [o_item, hb1, hb2, e1, hq, c28, hb3, e2, hx]; done) | (simp [o_item, hb1, hb2, e1, hq, c28, b1_z c63]; done)))
        · refine xj_aload_n dX7_item_31 rfl rfl ?_
          refine xj_get dX7_item_32 K7 37 (by decide) q1966 (kG_a (by decide) hO) rfl ?_
          refine xj_iload_n dX7_item_35 rfl ?_
          refine xj_iald dX7_item_36 (kG_a (by decide) h75) rfl hj31 hS1 ?_
          refine xj_if_ge (tgt := 45) dX7_item_37 rfl (fun c37 => ?_) (fun c37 => absurd (nI_pos' (by omega)) c37)
          refine xj_bipush (v := -13) dX7_item_45 rfl ?_
          exact xj_ireturn dX7_item_47 rfl rfl (xrv_i (by simp [o_item, hb1, hb2, e1, hq, c28]))
    · refine xj_icm1 dX7_item_19 ?_
      exact xj_ireturn dX7_item_20 rfl rfl (xrv_i (by first | (simp [o_item, b1_z c4]; done) | (have hb2 := b1_z c16; rw [inB_c3] at hb2; simp [o_item, hb2]; done)))
theorem M_sheet {sh : Nat → Option (Nat × List Int64)} {k s m : Int32} (hv : kV c n a) (hh : kH sh a) : xMet E yX7_sheet cX7_sheet 5 (some FieldType.int) 2 0 0 [.ref 54, .int k, .int s, .int m] (kG a T) (kR (some (.int (o_sheet k s m))) T (fun b => kfr [75, 76, 77] a b ∧ kH (s_sheet sh k s m) b)) := by
  obtain ⟨hO, hf0, h1n, hn6, h63, h64⟩ := id hv
  obtain ⟨S, Z, C, h75, h76, h77, hHL⟩ := id hh
  obtain ⟨hS4, hZ4, hC160, hKK⟩ := id hHL
  refine xMet.of (lv := [some (.ref 54), some (.int k), some (.int s), some (.int m), none]) rfl rfl (Nat.le_of_ble_eq_true rfl) ?_
  refine xj_iload_n dX7_sheet_0 rfl ?_
  refine xj_cS dX7_sheet_1 q2446 kS_X7_isSheet M_isSheet rfl rfl (Nat.le_of_ble_eq_true rfl) ⟨(Nat.le_of_ble_eq_true rfl), (Nat.le_of_ble_eq_true rfl)⟩ (Nat.le_of_ble_eq_true rfl) (Nat.le_of_ble_eq_true rfl) ?_
  refine xj_if_eq (tgt := 31) dX7_sheet_4 rfl (fun c4 => ?_) (fun c4 => ?_)
  · refine xj_icm1 dX7_sheet_31 ?_
    exact xj_ireturn dX7_sheet_32 rfl rfl (kR_i (by unfold o_sheet; rw [(show shB k s m = false by unfold shB; first | (rw [b1_z c4]; rfl) | (have hb2 := b1_z c18; rw [inB_m3] at hb2; rw [hb2, Bool.false_and, Bool.and_false]) | (rw [decide_eq_true (show 0 ≤ s from i32_ge c22), decide_eq_true (show 40 < m from i32_nle c28), Bool.and_true, Bool.not_true, Bool.and_false, Bool.and_false]))]; rfl) ⟨kfr.refl _ _, by rw [show s_sheet sh k s m = sh by unfold s_sheet; rw [(show shB k s m = false by unfold shB; first | (rw [b1_z c4]; rfl) | (have hb2 := b1_z c18; rw [inB_m3] at hb2; rw [hb2, Bool.false_and, Bool.and_false]) | (rw [decide_eq_true (show 0 ≤ s from i32_ge c22), decide_eq_true (show 40 < m from i32_nle c28), Bool.and_true, Bool.not_true, Bool.and_false, Bool.and_false]))]; rfl]; exact hh⟩)
  · refine xj_iload_n dX7_sheet_7 rfl ?_
    refine xj_i2l dX7_sheet_8 ?_
    refine xj_ldc2 dX7_sheet_9 q2212 ?_
    refine xj_ldc2 dX7_sheet_12 q2139 ?_
    refine xj_cS dX7_sheet_15 q2085 kS_X7_in M_in rfl rfl (Nat.le_of_ble_eq_true rfl) ⟨(Nat.le_of_ble_eq_true rfl), (Nat.le_of_ble_eq_true rfl)⟩ (Nat.le_of_ble_eq_true rfl) (Nat.le_of_ble_eq_true rfl) ?_
    refine xj_if_eq (tgt := 31) dX7_sheet_18 rfl (fun c18 => ?_) (fun c18 => ?_)
    · refine xj_icm1 dX7_sheet_31 ?_
      exact xj_ireturn dX7_sheet_32 rfl rfl (kR_i (by unfold o_sheet; rw [(show shB k s m = false by unfold shB; first | (rw [b1_z c4]; rfl) | (have hb2 := b1_z c18; rw [inB_m3] at hb2; rw [hb2, Bool.false_and, Bool.and_false]) | (rw [decide_eq_true (show 0 ≤ s from i32_ge c22), decide_eq_true (show 40 < m from i32_nle c28), Bool.and_true, Bool.not_true, Bool.and_false, Bool.and_false]))]; rfl) ⟨kfr.refl _ _, by rw [show s_sheet sh k s m = sh by unfold s_sheet; rw [(show shB k s m = false by unfold shB; first | (rw [b1_z c4]; rfl) | (have hb2 := b1_z c18; rw [inB_m3] at hb2; rw [hb2, Bool.false_and, Bool.and_false]) | (rw [decide_eq_true (show 0 ≤ s from i32_ge c22), decide_eq_true (show 40 < m from i32_nle c28), Bool.and_true, Bool.not_true, Bool.and_false, Bool.and_false]))]; rfl]; exact hh⟩)
    · refine xj_iload_n dX7_sheet_21 rfl ?_
      refine xj_if_lt (tgt := 33) dX7_sheet_22 rfl (fun c22 => ?_) (fun c22 => ?_)
      · have hb1 := b1_nz c4
        obtain ⟨j, hj4, hj31, rfl⟩ := inI_t hb1
        have e1 : tn (nI j) = j := nI_clamp hj31
        have hb2 := b1_nz c18
        rw [inB_m3] at hb2
        have hs3 := of_decide_eq_true hb2
        have hnn : ∀ {x : Int32}, 0 ≤ x → ¬ x < 0 := fun h q => by rw [Int32.le_iff_toInt_le] at h; have := i32n q; have e : (0 : Int32).toInt = 0 := rfl; omega
        by_cases hs : s < 0
        · obtain ⟨o, ho0⟩ : ∃ o, o = (if s < 0 then none else some (tn s, List.replicate (tn m) (0 : Int64))) := ⟨_, rfl⟩
          have ho1 : o = none := by rw [ho0, if_pos hs]
          have ho : o = none ∨ ∃ s m, s < 4 ∧ m ≤ 40 ∧ o = some (s, List.replicate m 0) := Or.inl ho1
          have eS : s = shS o := by rw [ho1]; exact i32_of (x := s) (v := -1) (by have := i32n hs; have := hs3.1; omega)
          have eZ : (0 : Int32) = nI (shX o).length := by rw [ho1]; rfl
          have hM : (decide (0 ≤ s) && decide (m < 0)) = false := by rw [decide_eq_false (fun q => hnn q hs)]; rfl
          have hB : shB (nI j) s m = true := by unfold shB; rw [hb1, decide_eq_true hs3, decide_eq_false (fun q => hnn q hs)]; rfl
          refine xj_iload_n dX7_sheet_33 rfl ?_
          refine xj_if_lt (tgt := 44) dX7_sheet_34 rfl (fun c34 => ?_) (fun c34 => absurd hs c34)
          refine xj_aload_n dX7_sheet_44 rfl rfl ?_
          refine xj_get dX7_sheet_45 K7 37 (by decide) q1966 (kG_a (by decide) hO) rfl ?_
          refine xj_iload_n dX7_sheet_48 rfl ?_
          refine xj_iload_n dX7_sheet_49 rfl ?_
          refine xj_top eS ?_
          refine xj_iast dX7_sheet_50 (kG_a (by decide) h75) rfl hj31 (by omega) ?_
          refine xj_eq rfl rfl (kG_set (by decide)) ?_
          refine xj_aload_n dX7_sheet_51 rfl rfl ?_
          refine xj_get dX7_sheet_52 K7 38 (by decide) q1967 (kG_a (by decide) hO) rfl ?_
          refine xj_iload_n dX7_sheet_55 rfl ?_
          refine xj_iload_n dX7_sheet_56 rfl ?_
          refine xj_if_ge (tgt := 64) dX7_sheet_57 rfl (fun c57 => absurd c57 (fun q => hnn q hs)) (fun c57 => ?_)
          refine xj_ic0 dX7_sheet_60 ?_
          refine xj_goto (tgt := 65) dX7_sheet_61 rfl ?_
          refine xj_top eZ ?_
          refine xj_iast dX7_sheet_65 (kG_a (by decide) h76) rfl hj31 (by omega) ?_
          refine xj_eq rfl rfl (kG_set (by decide)) ?_
          refine xj_ic0 dX7_sheet_66 ?_
          refine xj_ist4 dX7_sheet_67 rfl ?_
          refine xj_eq rfl rfl (show _ = kG (au (au (au a 75 (cI 0 (S.set j (shS o)))) 76 (cI 0 (Z.set j (nI (shX o).length)))) 77 (cL 4 C)) T by rw [au_id (i := 77) (show au (au a 75 (cI 0 (S.set j (shS o)))) 76 (cI 0 (Z.set j (nI (shX o).length))) 77 = cL 4 C from h77)]) ?_
          have lp : ∀ (K : Nat) (p : Nat) (D : List Int64), 40 - p < K → (p ≤ 40) → (D.length = 160) → (∀ i, i < p → D[40 * j + i]? = some 0) → (∀ i, (i < 40 * j ∨ 40 * j + 40 ≤ i) → D[i]? = C[i]?) → xJ E (yX7_sheet, cX7_sheet, 5, (some FieldType.int), []) (xR 2 0 0) (kR (some (.int (o_sheet (nI j) s m))) T (fun b => kfr [75, 76, 77] a b ∧ kH (s_sheet sh (nI j) s m) b)) 0 0 69 [some (.ref 54), some (.int (nI j)), some (.int s), some (.int m), some (.int (nI p))] [] (kG (au (au (au a 75 (cI 0 (S.set j (shS o)))) 76 (cI 0 (Z.set j (nI (shX o).length)))) 77 (cL 4 D)) T) := by
            intro K
            induction K with
            | zero => intro p D h; exact absurd h (Nat.not_lt_zero _)
            | succ K ih_lp =>
              intro p D hK hp hD hD0 hDo
              refine xj_iload dX7_sheet_69 rfl ?_
              refine xj_bipush (v := 40) dX7_sheet_71 rfl ?_
              refine xj_icmp_ge (tgt := 95) dX7_sheet_73 rfl (fun c73 => ?_) (fun c73 => ?_)
              · refine xj_ic1 dX7_sheet_95 ?_
                exact xj_ireturn dX7_sheet_96 rfl rfl (kR_i (by simp [o_sheet, hB, hM]) ⟨(((kfr.refl _ _).au (by decide)).au (by decide)).au (by decide), _, _, _, rfl, rfl, rfl, by rw [show s_sheet sh (nI j) s m = shU sh j o by simp [s_sheet, hB, hM, e1, ho0]]; exact mHL_new hHL hj4 hD (fun i hi => hD0 i (by have := Nat.le_of_not_lt fun h => absurd c73 (nI_ge (a := p) (b := 40) h (by omega)); omega)) hDo ho⟩)
              · have hp40 : p < 40 := Nat.lt_of_not_le fun h => c73 (nI_le (a := 40) h (by omega))
                refine xj_aload_n dX7_sheet_76 rfl rfl ?_
                refine xj_get dX7_sheet_77 K7 39 (by decide) q1968 (kG_a (by decide) hO) rfl ?_
                refine xj_bipush (v := 40) dX7_sheet_80 rfl ?_
                refine xj_iload_n dX7_sheet_82 rfl ?_
                refine xj_imul dX7_sheet_83 ?_
                refine xj_iload dX7_sheet_84 rfl ?_
                refine xj_iadd dX7_sheet_86 ?_
                refine xj_lc0 dX7_sheet_87 ?_
                refine xj_last dX7_sheet_88 (kG_a (by decide) rfl) (nI_40 _ _) (by omega) (by omega) ?_
                refine xj_eq rfl rfl (kG_set (by decide)) ?_
                refine xj_iinc4 (cst := 1) dX7_sheet_89 rfl rfl ?_
                rw [au_au, nI_1]
                refine xj_goto (tgt := 69) dX7_sheet_92 rfl ?_
                exact ih_lp (p + 1) _ (by omega) (by omega) (by rw [List.length_set]; exact hD) (fun i hi => by
                  by_cases e : i = p
                  · subst e; exact List.getElem?_set_self (by omega)
                  · rw [List.getElem?_set_ne (by omega)]; exact hD0 i (by omega)) (fun i hi => by rw [List.getElem?_set_ne (by omega)]; exact hDo i hi)
          exact lp 41 0 C (by omega) (by omega) hC160 (fun i hi => absurd hi (Nat.not_lt_zero _)) (fun _ _ => rfl)
        · have h40 : ¬ 40 < m := by first | exact i32_le c28 | exact absurd c22 hs
          by_cases hm : m < 0
          · have hMm : (decide (0 ≤ s) && decide (m < 0)) = true := by rw [decide_eq_true (i32_ge hs), decide_eq_true hm]; rfl
            have hBm : shB (nI j) s m = true := by unfold shB; rw [hb1, decide_eq_true hs3, decide_eq_false h40, Bool.and_false]; rfl
            refine xj_iload_n dX7_sheet_33 rfl ?_
            refine xj_if_lt (tgt := 44) dX7_sheet_34 rfl (fun c34 => absurd c34 hs) (fun c34 => ?_)
            refine xj_iload_n dX7_sheet_37 rfl ?_
            refine xj_if_ge (tgt := 44) dX7_sheet_38 rfl (fun c38 => absurd c38 (fun q => hnn q hm)) (fun c38 => ?_)
            refine xj_bipush (v := -14) dX7_sheet_41 rfl ?_
            exact xj_ireturn dX7_sheet_43 rfl rfl (kR_i (by unfold o_sheet; rw [hBm, hMm]; rfl) ⟨kfr.refl _ _, by rw [show s_sheet sh (nI j) s m = sh by unfold s_sheet; rw [hBm, hMm]; rfl]; exact hh⟩)
          · obtain ⟨o, ho0⟩ : ∃ o, o = (if s < 0 then none else some (tn s, List.replicate (tn m) (0 : Int64))) := ⟨_, rfl⟩
            have ho1 : o = some (tn s, List.replicate (tn m) 0) := by rw [ho0, if_neg hs]
            obtain ⟨u, hu, rfl⟩ := nI_of hs
            obtain ⟨w, hw, rfl⟩ := nI_of hm
            have eu : tn (nI u) = u := nI_clamp hu
            have ew : tn (nI w) = w := nI_clamp hw
            rw [eu, ew] at ho1
            have hu4 : u < 4 := by have := hs3.2; rw [nI_toInt hu] at this; omega
            have hw40 : w ≤ 40 := Nat.le_of_not_lt fun h => h40 (nI_lt (a := 40) h (by omega))
            have ho : o = none ∨ ∃ s m, s < 4 ∧ m ≤ 40 ∧ o = some (s, List.replicate m 0) := Or.inr ⟨u, w, hu4, hw40, ho1⟩
            have eS : nI u = shS o := by rw [ho1]; rfl
            have eZ : nI w = nI (shX o).length := by rw [ho1]; show nI w = nI (List.replicate w (0 : Int64)).length; rw [List.length_replicate]
            have hM : (decide (0 ≤ nI u) && decide (nI w < 0)) = false := by rw [decide_eq_false hm, Bool.and_false]
            have hB : shB (nI j) (nI u) (nI w) = true := by unfold shB; rw [hb1, decide_eq_true hs3, decide_eq_false h40, Bool.and_false]; rfl
            refine xj_iload_n dX7_sheet_33 rfl ?_
            refine xj_if_lt (tgt := 44) dX7_sheet_34 rfl (fun c34 => absurd c34 hs) (fun c34 => ?_)
            refine xj_iload_n dX7_sheet_37 rfl ?_
            refine xj_if_ge (tgt := 44) dX7_sheet_38 rfl (fun c38 => ?_) (fun c38 => absurd (nI_pos' hw) c38)
            refine xj_aload_n dX7_sheet_44 rfl rfl ?_
            refine xj_get dX7_sheet_45 K7 37 (by decide) q1966 (kG_a (by decide) hO) rfl ?_
            refine xj_iload_n dX7_sheet_48 rfl ?_
            refine xj_iload_n dX7_sheet_49 rfl ?_
            refine xj_top eS ?_
            refine xj_iast dX7_sheet_50 (kG_a (by decide) h75) rfl hj31 (by omega) ?_
            refine xj_eq rfl rfl (kG_set (by decide)) ?_
            refine xj_aload_n dX7_sheet_51 rfl rfl ?_
            refine xj_get dX7_sheet_52 K7 38 (by decide) q1967 (kG_a (by decide) hO) rfl ?_
            refine xj_iload_n dX7_sheet_55 rfl ?_
            refine xj_iload_n dX7_sheet_56 rfl ?_
            refine xj_if_ge (tgt := 64) dX7_sheet_57 rfl (fun c57 => ?_) (fun c57 => absurd (nI_pos' hu) c57)
            refine xj_iload_n dX7_sheet_64 rfl ?_
            refine xj_top eZ ?_
            refine xj_iast dX7_sheet_65 (kG_a (by decide) h76) rfl hj31 (by omega) ?_
            refine xj_eq rfl rfl (kG_set (by decide)) ?_
            refine xj_ic0 dX7_sheet_66 ?_
            refine xj_ist4 dX7_sheet_67 rfl ?_
            refine xj_eq rfl rfl (show _ = kG (au (au (au a 75 (cI 0 (S.set j (shS o)))) 76 (cI 0 (Z.set j (nI (shX o).length)))) 77 (cL 4 C)) T by rw [au_id (i := 77) (show au (au a 75 (cI 0 (S.set j (shS o)))) 76 (cI 0 (Z.set j (nI (shX o).length))) 77 = cL 4 C from h77)]) ?_
            have lp : ∀ (K : Nat) (p : Nat) (D : List Int64), 40 - p < K → (p ≤ 40) → (D.length = 160) → (∀ i, i < p → D[40 * j + i]? = some 0) → (∀ i, (i < 40 * j ∨ 40 * j + 40 ≤ i) → D[i]? = C[i]?) → xJ E (yX7_sheet, cX7_sheet, 5, (some FieldType.int), []) (xR 2 0 0) (kR (some (.int (o_sheet (nI j) (nI u) (nI w)))) T (fun b => kfr [75, 76, 77] a b ∧ kH (s_sheet sh (nI j) (nI u) (nI w)) b)) 0 0 69 [some (.ref 54), some (.int (nI j)), some (.int (nI u)), some (.int (nI w)), some (.int (nI p))] [] (kG (au (au (au a 75 (cI 0 (S.set j (shS o)))) 76 (cI 0 (Z.set j (nI (shX o).length)))) 77 (cL 4 D)) T) := by
              intro K
              induction K with
              | zero => intro p D h; exact absurd h (Nat.not_lt_zero _)
              | succ K ih_lp =>
                intro p D hK hp hD hD0 hDo
                refine xj_iload dX7_sheet_69 rfl ?_
                refine xj_bipush (v := 40) dX7_sheet_71 rfl ?_
                refine xj_icmp_ge (tgt := 95) dX7_sheet_73 rfl (fun c73 => ?_) (fun c73 => ?_)
                · refine xj_ic1 dX7_sheet_95 ?_
                  exact xj_ireturn dX7_sheet_96 rfl rfl (kR_i (by simp [o_sheet, hB, hM]) ⟨(((kfr.refl _ _).au (by decide)).au (by decide)).au (by decide), _, _, _, rfl, rfl, rfl, by rw [show s_sheet sh (nI j) (nI u) (nI w) = shU sh j o by simp [s_sheet, hB, hM, e1, ho0]]; exact mHL_new hHL hj4 hD (fun i hi => hD0 i (by have := Nat.le_of_not_lt fun h => absurd c73 (nI_ge (a := p) (b := 40) h (by omega)); omega)) hDo ho⟩)
                · have hp40 : p < 40 := Nat.lt_of_not_le fun h => c73 (nI_le (a := 40) h (by omega))
                  refine xj_aload_n dX7_sheet_76 rfl rfl ?_
                  refine xj_get dX7_sheet_77 K7 39 (by decide) q1968 (kG_a (by decide) hO) rfl ?_
                  refine xj_bipush (v := 40) dX7_sheet_80 rfl ?_
                  refine xj_iload_n dX7_sheet_82 rfl ?_
                  refine xj_imul dX7_sheet_83 ?_
                  refine xj_iload dX7_sheet_84 rfl ?_
                  refine xj_iadd dX7_sheet_86 ?_
                  refine xj_lc0 dX7_sheet_87 ?_
                  refine xj_last dX7_sheet_88 (kG_a (by decide) rfl) (nI_40 _ _) (by omega) (by omega) ?_
                  refine xj_eq rfl rfl (kG_set (by decide)) ?_
                  refine xj_iinc4 (cst := 1) dX7_sheet_89 rfl rfl ?_
                  rw [au_au, nI_1]
                  refine xj_goto (tgt := 69) dX7_sheet_92 rfl ?_
                  exact ih_lp (p + 1) _ (by omega) (by omega) (by rw [List.length_set]; exact hD) (fun i hi => by
                    by_cases e : i = p
                    · subst e; exact List.getElem?_set_self (by omega)
                    · rw [List.getElem?_set_ne (by omega)]; exact hD0 i (by omega)) (fun i hi => by rw [List.getElem?_set_ne (by omega)]; exact hDo i hi)
            exact lp 41 0 C (by omega) (by omega) hC160 (fun i hi => absurd hi (Nat.not_lt_zero _)) (fun _ _ => rfl)
      · refine xj_iload_n dX7_sheet_25 rfl ?_
        refine xj_bipush (v := 40) dX7_sheet_26 rfl ?_
        refine xj_icmp_le (tgt := 33) dX7_sheet_28 rfl (fun c28 => ?_) (fun c28 => ?_)
        · have hb1 := b1_nz c4
          obtain ⟨j, hj4, hj31, rfl⟩ := inI_t hb1
          have e1 : tn (nI j) = j := nI_clamp hj31
          have hb2 := b1_nz c18
          rw [inB_m3] at hb2
          have hs3 := of_decide_eq_true hb2
          have hnn : ∀ {x : Int32}, 0 ≤ x → ¬ x < 0 := fun h q => by rw [Int32.le_iff_toInt_le] at h; have := i32n q; have e : (0 : Int32).toInt = 0 := rfl; omega
          by_cases hs : s < 0
          · obtain ⟨o, ho0⟩ : ∃ o, o = (if s < 0 then none else some (tn s, List.replicate (tn m) (0 : Int64))) := ⟨_, rfl⟩
            have ho1 : o = none := by rw [ho0, if_pos hs]
            have ho : o = none ∨ ∃ s m, s < 4 ∧ m ≤ 40 ∧ o = some (s, List.replicate m 0) := Or.inl ho1
            have eS : s = shS o := by rw [ho1]; exact i32_of (x := s) (v := -1) (by have := i32n hs; have := hs3.1; omega)
            have eZ : (0 : Int32) = nI (shX o).length := by rw [ho1]; rfl
            have hM : (decide (0 ≤ s) && decide (m < 0)) = false := by rw [decide_eq_false (fun q => hnn q hs)]; rfl
            have hB : shB (nI j) s m = true := by unfold shB; rw [hb1, decide_eq_true hs3, decide_eq_false (fun q => hnn q hs)]; rfl
            refine xj_iload_n dX7_sheet_33 rfl ?_
            refine xj_if_lt (tgt := 44) dX7_sheet_34 rfl (fun c34 => ?_) (fun c34 => absurd hs c34)
            refine xj_aload_n dX7_sheet_44 rfl rfl ?_
            refine xj_get dX7_sheet_45 K7 37 (by decide) q1966 (kG_a (by decide) hO) rfl ?_
            refine xj_iload_n dX7_sheet_48 rfl ?_
            refine xj_iload_n dX7_sheet_49 rfl ?_
            refine xj_top eS ?_
            refine xj_iast dX7_sheet_50 (kG_a (by decide) h75) rfl hj31 (by omega) ?_
            refine xj_eq rfl rfl (kG_set (by decide)) ?_
            refine xj_aload_n dX7_sheet_51 rfl rfl ?_
            refine xj_get dX7_sheet_52 K7 38 (by decide) q1967 (kG_a (by decide) hO) rfl ?_
            refine xj_iload_n dX7_sheet_55 rfl ?_
            refine xj_iload_n dX7_sheet_56 rfl ?_
            refine xj_if_ge (tgt := 64) dX7_sheet_57 rfl (fun c57 => absurd c57 (fun q => hnn q hs)) (fun c57 => ?_)
            refine xj_ic0 dX7_sheet_60 ?_
            refine xj_goto (tgt := 65) dX7_sheet_61 rfl ?_
            refine xj_top eZ ?_
            refine xj_iast dX7_sheet_65 (kG_a (by decide) h76) rfl hj31 (by omega) ?_
            refine xj_eq rfl rfl (kG_set (by decide)) ?_
            refine xj_ic0 dX7_sheet_66 ?_
            refine xj_ist4 dX7_sheet_67 rfl ?_
            refine xj_eq rfl rfl (show _ = kG (au (au (au a 75 (cI 0 (S.set j (shS o)))) 76 (cI 0 (Z.set j (nI (shX o).length)))) 77 (cL 4 C)) T by rw [au_id (i := 77) (show au (au a 75 (cI 0 (S.set j (shS o)))) 76 (cI 0 (Z.set j (nI (shX o).length))) 77 = cL 4 C from h77)]) ?_
            have lp : ∀ (K : Nat) (p : Nat) (D : List Int64), 40 - p < K → (p ≤ 40) → (D.length = 160) → (∀ i, i < p → D[40 * j + i]? = some 0) → (∀ i, (i < 40 * j ∨ 40 * j + 40 ≤ i) → D[i]? = C[i]?) → xJ E (yX7_sheet, cX7_sheet, 5, (some FieldType.int), []) (xR 2 0 0) (kR (some (.int (o_sheet (nI j) s m))) T (fun b => kfr [75, 76, 77] a b ∧ kH (s_sheet sh (nI j) s m) b)) 0 0 69 [some (.ref 54), some (.int (nI j)), some (.int s), some (.int m), some (.int (nI p))] [] (kG (au (au (au a 75 (cI 0 (S.set j (shS o)))) 76 (cI 0 (Z.set j (nI (shX o).length)))) 77 (cL 4 D)) T) := by
              intro K
              induction K with
              | zero => intro p D h; exact absurd h (Nat.not_lt_zero _)
              | succ K ih_lp =>
                intro p D hK hp hD hD0 hDo
                refine xj_iload dX7_sheet_69 rfl ?_
                refine xj_bipush (v := 40) dX7_sheet_71 rfl ?_
                refine xj_icmp_ge (tgt := 95) dX7_sheet_73 rfl (fun c73 => ?_) (fun c73 => ?_)
                · refine xj_ic1 dX7_sheet_95 ?_
                  exact xj_ireturn dX7_sheet_96 rfl rfl (kR_i (by simp [o_sheet, hB, hM]) ⟨(((kfr.refl _ _).au (by decide)).au (by decide)).au (by decide), _, _, _, rfl, rfl, rfl, by rw [show s_sheet sh (nI j) s m = shU sh j o by simp [s_sheet, hB, hM, e1, ho0]]; exact mHL_new hHL hj4 hD (fun i hi => hD0 i (by have := Nat.le_of_not_lt fun h => absurd c73 (nI_ge (a := p) (b := 40) h (by omega)); omega)) hDo ho⟩)
                · have hp40 : p < 40 := Nat.lt_of_not_le fun h => c73 (nI_le (a := 40) h (by omega))
                  refine xj_aload_n dX7_sheet_76 rfl rfl ?_
                  refine xj_get dX7_sheet_77 K7 39 (by decide) q1968 (kG_a (by decide) hO) rfl ?_
                  refine xj_bipush (v := 40) dX7_sheet_80 rfl ?_
                  refine xj_iload_n dX7_sheet_82 rfl ?_
                  refine xj_imul dX7_sheet_83 ?_
                  refine xj_iload dX7_sheet_84 rfl ?_
                  refine xj_iadd dX7_sheet_86 ?_
                  refine xj_lc0 dX7_sheet_87 ?_
                  refine xj_last dX7_sheet_88 (kG_a (by decide) rfl) (nI_40 _ _) (by omega) (by omega) ?_
                  refine xj_eq rfl rfl (kG_set (by decide)) ?_
                  refine xj_iinc4 (cst := 1) dX7_sheet_89 rfl rfl ?_
                  rw [au_au, nI_1]
                  refine xj_goto (tgt := 69) dX7_sheet_92 rfl ?_
                  exact ih_lp (p + 1) _ (by omega) (by omega) (by rw [List.length_set]; exact hD) (fun i hi => by
                    by_cases e : i = p
                    · subst e; exact List.getElem?_set_self (by omega)
                    · rw [List.getElem?_set_ne (by omega)]; exact hD0 i (by omega)) (fun i hi => by rw [List.getElem?_set_ne (by omega)]; exact hDo i hi)
            exact lp 41 0 C (by omega) (by omega) hC160 (fun i hi => absurd hi (Nat.not_lt_zero _)) (fun _ _ => rfl)
          · have h40 : ¬ 40 < m := by first | exact i32_le c28 | exact absurd c22 hs
            by_cases hm : m < 0
            · have hMm : (decide (0 ≤ s) && decide (m < 0)) = true := by rw [decide_eq_true (i32_ge hs), decide_eq_true hm]; rfl
              have hBm : shB (nI j) s m = true := by unfold shB; rw [hb1, decide_eq_true hs3, decide_eq_false h40, Bool.and_false]; rfl
              refine xj_iload_n dX7_sheet_33 rfl ?_
              refine xj_if_lt (tgt := 44) dX7_sheet_34 rfl (fun c34 => absurd c34 hs) (fun c34 => ?_)
              refine xj_iload_n dX7_sheet_37 rfl ?_
              refine xj_if_ge (tgt := 44) dX7_sheet_38 rfl (fun c38 => absurd c38 (fun q => hnn q hm)) (fun c38 => ?_)
              refine xj_bipush (v := -14) dX7_sheet_41 rfl ?_
              exact xj_ireturn dX7_sheet_43 rfl rfl (kR_i (by unfold o_sheet; rw [hBm, hMm]; rfl) ⟨kfr.refl _ _, by rw [show s_sheet sh (nI j) s m = sh by unfold s_sheet; rw [hBm, hMm]; rfl]; exact hh⟩)
            · obtain ⟨o, ho0⟩ : ∃ o, o = (if s < 0 then none else some (tn s, List.replicate (tn m) (0 : Int64))) := ⟨_, rfl⟩
              have ho1 : o = some (tn s, List.replicate (tn m) 0) := by rw [ho0, if_neg hs]
              obtain ⟨u, hu, rfl⟩ := nI_of hs
              obtain ⟨w, hw, rfl⟩ := nI_of hm
              have eu : tn (nI u) = u := nI_clamp hu
              have ew : tn (nI w) = w := nI_clamp hw
              rw [eu, ew] at ho1
              have hu4 : u < 4 := by have := hs3.2; rw [nI_toInt hu] at this; omega
              have hw40 : w ≤ 40 := Nat.le_of_not_lt fun h => h40 (nI_lt (a := 40) h (by omega))
              have ho : o = none ∨ ∃ s m, s < 4 ∧ m ≤ 40 ∧ o = some (s, List.replicate m 0) := Or.inr ⟨u, w, hu4, hw40, ho1⟩
              have eS : nI u = shS o := by rw [ho1]; rfl
              have eZ : nI w = nI (shX o).length := by rw [ho1]; show nI w = nI (List.replicate w (0 : Int64)).length; rw [List.length_replicate]
              have hM : (decide (0 ≤ nI u) && decide (nI w < 0)) = false := by rw [decide_eq_false hm, Bool.and_false]
              have hB : shB (nI j) (nI u) (nI w) = true := by unfold shB; rw [hb1, decide_eq_true hs3, decide_eq_false h40, Bool.and_false]; rfl
              refine xj_iload_n dX7_sheet_33 rfl ?_
              refine xj_if_lt (tgt := 44) dX7_sheet_34 rfl (fun c34 => absurd c34 hs) (fun c34 => ?_)
              refine xj_iload_n dX7_sheet_37 rfl ?_
              refine xj_if_ge (tgt := 44) dX7_sheet_38 rfl (fun c38 => ?_) (fun c38 => absurd (nI_pos' hw) c38)
              refine xj_aload_n dX7_sheet_44 rfl rfl ?_
              refine xj_get dX7_sheet_45 K7 37 (by decide) q1966 (kG_a (by decide) hO) rfl ?_
              refine xj_iload_n dX7_sheet_48 rfl ?_
              refine xj_iload_n dX7_sheet_49 rfl ?_
              refine xj_top eS ?_
              refine xj_iast dX7_sheet_50 (kG_a (by decide) h75) rfl hj31 (by omega) ?_
              refine xj_eq rfl rfl (kG_set (by decide)) ?_
              refine xj_aload_n dX7_sheet_51 rfl rfl ?_
              refine xj_get dX7_sheet_52 K7 38 (by decide) q1967 (kG_a (by decide) hO) rfl ?_
              refine xj_iload_n dX7_sheet_55 rfl ?_
              refine xj_iload_n dX7_sheet_56 rfl ?_
              refine xj_if_ge (tgt := 64) dX7_sheet_57 rfl (fun c57 => ?_) (fun c57 => absurd (nI_pos' hu) c57)
              refine xj_iload_n dX7_sheet_64 rfl ?_
              refine xj_top eZ ?_
              refine xj_iast dX7_sheet_65 (kG_a (by decide) h76) rfl hj31 (by omega) ?_
              refine xj_eq rfl rfl (kG_set (by decide)) ?_
              refine xj_ic0 dX7_sheet_66 ?_
              refine xj_ist4 dX7_sheet_67 rfl ?_
              refine xj_eq rfl rfl (show _ = kG (au (au (au a 75 (cI 0 (S.set j (shS o)))) 76 (cI 0 (Z.set j (nI (shX o).length)))) 77 (cL 4 C)) T by rw [au_id (i := 77) (show au (au a 75 (cI 0 (S.set j (shS o)))) 76 (cI 0 (Z.set j (nI (shX o).length))) 77 = cL 4 C from h77)]) ?_
              have lp : ∀ (K : Nat) (p : Nat) (D : List Int64), 40 - p < K → (p ≤ 40) → (D.length = 160) → (∀ i, i < p → D[40 * j + i]? = some 0) → (∀ i, (i < 40 * j ∨ 40 * j + 40 ≤ i) → D[i]? = C[i]?) → xJ E (yX7_sheet, cX7_sheet, 5, (some FieldType.int), []) (xR 2 0 0) (kR (some (.int (o_sheet (nI j) (nI u) (nI w)))) T (fun b => kfr [75, 76, 77] a b ∧ kH (s_sheet sh (nI j) (nI u) (nI w)) b)) 0 0 69 [some (.ref 54), some (.int (nI j)), some (.int (nI u)), some (.int (nI w)), some (.int (nI p))] [] (kG (au (au (au a 75 (cI 0 (S.set j (shS o)))) 76 (cI 0 (Z.set j (nI (shX o).length)))) 77 (cL 4 D)) T) := by
                intro K
                induction K with
                | zero => intro p D h; exact absurd h (Nat.not_lt_zero _)
                | succ K ih_lp =>
                  intro p D hK hp hD hD0 hDo
                  refine xj_iload dX7_sheet_69 rfl ?_
                  refine xj_bipush (v := 40) dX7_sheet_71 rfl ?_
                  refine xj_icmp_ge (tgt := 95) dX7_sheet_73 rfl (fun c73 => ?_) (fun c73 => ?_)
                  · refine xj_ic1 dX7_sheet_95 ?_
                    exact xj_ireturn dX7_sheet_96 rfl rfl (kR_i (by simp [o_sheet, hB, hM]) ⟨(((kfr.refl _ _).au (by decide)).au (by decide)).au (by decide), _, _, _, rfl, rfl, rfl, by rw [show s_sheet sh (nI j) (nI u) (nI w) = shU sh j o by simp [s_sheet, hB, hM, e1, ho0]]; exact mHL_new hHL hj4 hD (fun i hi => hD0 i (by have := Nat.le_of_not_lt fun h => absurd c73 (nI_ge (a := p) (b := 40) h (by omega)); omega)) hDo ho⟩)
                  · have hp40 : p < 40 := Nat.lt_of_not_le fun h => c73 (nI_le (a := 40) h (by omega))
                    refine xj_aload_n dX7_sheet_76 rfl rfl ?_
                    refine xj_get dX7_sheet_77 K7 39 (by decide) q1968 (kG_a (by decide) hO) rfl ?_
                    refine xj_bipush (v := 40) dX7_sheet_80 rfl ?_
                    refine xj_iload_n dX7_sheet_82 rfl ?_
                    refine xj_imul dX7_sheet_83 ?_
                    refine xj_iload dX7_sheet_84 rfl ?_
                    refine xj_iadd dX7_sheet_86 ?_
                    refine xj_lc0 dX7_sheet_87 ?_
                    refine xj_last dX7_sheet_88 (kG_a (by decide) rfl) (nI_40 _ _) (by omega) (by omega) ?_
                    refine xj_eq rfl rfl (kG_set (by decide)) ?_
                    refine xj_iinc4 (cst := 1) dX7_sheet_89 rfl rfl ?_
                    rw [au_au, nI_1]
                    refine xj_goto (tgt := 69) dX7_sheet_92 rfl ?_
                    exact ih_lp (p + 1) _ (by omega) (by omega) (by rw [List.length_set]; exact hD) (fun i hi => by
                      by_cases e : i = p
                      · subst e; exact List.getElem?_set_self (by omega)
                      · rw [List.getElem?_set_ne (by omega)]; exact hD0 i (by omega)) (fun i hi => by rw [List.getElem?_set_ne (by omega)]; exact hDo i hi)
              exact lp 41 0 C (by omega) (by omega) hC160 (fun i hi => absurd hi (Nat.not_lt_zero _)) (fun _ _ => rfl)
        · refine xj_icm1 dX7_sheet_31 ?_
          exact xj_ireturn dX7_sheet_32 rfl rfl (kR_i (by unfold o_sheet; rw [(show shB k s m = false by unfold shB; first | (rw [b1_z c4]; rfl) | (have hb2 := b1_z c18; rw [inB_m3] at hb2; rw [hb2, Bool.false_and, Bool.and_false]) | (rw [decide_eq_true (show 0 ≤ s from i32_ge c22), decide_eq_true (show 40 < m from i32_nle c28), Bool.and_true, Bool.not_true, Bool.and_false, Bool.and_false]))]; rfl) ⟨kfr.refl _ _, by rw [show s_sheet sh k s m = sh by unfold s_sheet; rw [(show shB k s m = false by unfold shB; first | (rw [b1_z c4]; rfl) | (have hb2 := b1_z c18; rw [inB_m3] at hb2; rw [hb2, Bool.false_and, Bool.and_false]) | (rw [decide_eq_true (show 0 ≤ s from i32_ge c22), decide_eq_true (show 40 < m from i32_nle c28), Bool.and_true, Bool.not_true, Bool.and_false, Bool.and_false]))]; rfl]; exact hh⟩)
theorem M_move {sh : Nat → Option (Nat × List Int64)} {k i k2 j m : Int32} {A0 : List Int64} (hv : kV c n a) (hh : kH sh a) (h78 : a 78 = cL 4 A0) (hA0 : A0.length = 40) : xMet E yX7_move cX7_move 7 (some FieldType.int) 2 0 0 [.ref 54, .int k, .int i, .int k2, .int j, .int m] (kG a T) (kR (some (.int (o_move sh k i k2 j m))) T (fun b => kfr [77, 78] a b ∧ kH (s_move sh k i k2 j m) b ∧ ∃ A : List Int64, b 78 = cL 4 A ∧ A.length = 40)) := by
  obtain ⟨hO, hf0, h1n, hn6, h63, h64⟩ := id hv
  obtain ⟨S, Z, C, h75, h76, h77, hHL⟩ := id hh
  obtain ⟨hS4, hZ4, hC160, hKK⟩ := id hHL
  refine xMet.of (lv := [some (.ref 54), some (.int k), some (.int i), some (.int k2), some (.int j), some (.int m), none]) rfl rfl (Nat.le_of_ble_eq_true rfl) ?_
  refine xj_iload_n dX7_move_0 rfl ?_
  refine xj_cS dX7_move_1 q2446 kS_X7_isSheet M_isSheet rfl rfl (Nat.le_of_ble_eq_true rfl) ⟨(Nat.le_of_ble_eq_true rfl), (Nat.le_of_ble_eq_true rfl)⟩ (Nat.le_of_ble_eq_true rfl) (Nat.le_of_ble_eq_true rfl) ?_
  refine xj_if_eq (tgt := 14) dX7_move_4 rfl (fun c4 => ?_) (fun c4 => ?_)
  · refine xj_icm1 dX7_move_14 ?_
    exact xj_ireturn dX7_move_15 rfl rfl (kR_i (by first | (simp [o_move, b1_z c4]; done) | (simp [o_move, b1_z c11]; done)) ⟨kfr.refl _ _, by rw [show s_move sh k i k2 j m = sh by first | (simp [s_move, b1_z c4]; done) | (simp [s_move, b1_z c11]; done)]; exact hh, A0, h78, hA0⟩)
  · refine xj_iload_n dX7_move_7 rfl ?_
    refine xj_cS dX7_move_8 q2446 kS_X7_isSheet M_isSheet rfl rfl (Nat.le_of_ble_eq_true rfl) ⟨(Nat.le_of_ble_eq_true rfl), (Nat.le_of_ble_eq_true rfl)⟩ (Nat.le_of_ble_eq_true rfl) (Nat.le_of_ble_eq_true rfl) ?_
    refine xj_if_ne (tgt := 16) dX7_move_11 rfl (fun c11 => ?_) (fun c11 => ?_)
    · have hb1 := b1_nz c4
      obtain ⟨x, hx4, hx31, rfl⟩ := inI_t hb1
      have e1 : tn (nI x) = x := nI_clamp hx31
      have hKx := hKK x hx4
      have hb2 := b1_nz c11
      obtain ⟨y, hy4, hy31, rfl⟩ := inI_t hb2
      have e2 : tn (nI y) = y := nI_clamp hy31
      have hKy := hKK y hy4
      cases hq : sh x with
      | none =>
        have hS1 := s_none hKx.1 hq
        refine xj_aload_n dX7_move_16 rfl rfl ?_
        refine xj_get dX7_move_17 K7 37 (by decide) q1966 (kG_a (by decide) hO) rfl ?_
        refine xj_iload_n dX7_move_20 rfl ?_
        refine xj_iald dX7_move_21 (kG_a (by decide) h75) rfl hx31 hS1 ?_
        refine xj_if_lt (tgt := 34) dX7_move_22 rfl (fun c22 => ?_) (fun c22 => absurd (by decide) c22)
        refine xj_bipush (v := -11) dX7_move_34 rfl ?_
        exact xj_ireturn dX7_move_36 rfl rfl (kR_i (by simp [o_move, hb1, hb2, e1, e2, hq]) ⟨kfr.refl _ _, by rw [show s_move sh (nI x) i (nI y) j m = sh by simp [s_move, hb1, hb2, e1, e2, hq]]; exact hh, A0, h78, hA0⟩)
      | some q =>
        have hq4 := hKx.2.2.2.1 q hq
        have hS1 := s_some hKx.1 hq
        have hZ1 := z_some hKx.2.1 hq
        have h40 : q.2.length ≤ 40 := by have := hKx.2.2.1; rw [hq] at this; exact this
        cases hq2 : sh y with
        | none =>
          have hS2 := s_none hKy.1 hq2
          refine xj_aload_n dX7_move_16 rfl rfl ?_
          refine xj_get dX7_move_17 K7 37 (by decide) q1966 (kG_a (by decide) hO) rfl ?_
          refine xj_iload_n dX7_move_20 rfl ?_
          refine xj_iald dX7_move_21 (kG_a (by decide) h75) rfl hx31 hS1 ?_
          refine xj_if_lt (tgt := 34) dX7_move_22 rfl (fun c22 => absurd c22 (nI_pos (by omega))) (fun c22 => ?_)
          refine xj_aload_n dX7_move_25 rfl rfl ?_
          refine xj_get dX7_move_26 K7 37 (by decide) q1966 (kG_a (by decide) hO) rfl ?_
          refine xj_iload_n dX7_move_29 rfl ?_
          refine xj_iald dX7_move_30 (kG_a (by decide) h75) rfl hy31 hS2 ?_
          refine xj_if_ge (tgt := 37) dX7_move_31 rfl (fun c31 => absurd c31 (by decide)) (fun c31 => ?_)
          refine xj_bipush (v := -11) dX7_move_34 rfl ?_
          exact xj_ireturn dX7_move_36 rfl rfl (kR_i (by simp [o_move, hb1, hb2, e1, e2, hq, hq2]) ⟨kfr.refl _ _, by rw [show s_move sh (nI x) i (nI y) j m = sh by simp [s_move, hb1, hb2, e1, e2, hq, hq2]]; exact hh, A0, h78, hA0⟩)
        | some q2 =>
          have hq24 := hKy.2.2.2.1 q2 hq2
          have hS2 := s_some hKy.1 hq2
          have hZ2 := z_some hKy.2.1 hq2
          have h402 : q2.2.length ≤ 40 := by have := hKy.2.2.1; rw [hq2] at this; exact this
          refine xj_aload_n dX7_move_16 rfl rfl ?_
          refine xj_get dX7_move_17 K7 37 (by decide) q1966 (kG_a (by decide) hO) rfl ?_
          refine xj_iload_n dX7_move_20 rfl ?_
          refine xj_iald dX7_move_21 (kG_a (by decide) h75) rfl hx31 hS1 ?_
          refine xj_if_lt (tgt := 34) dX7_move_22 rfl (fun c22 => absurd c22 (nI_pos (by omega))) (fun c22 => ?_)
          refine xj_aload_n dX7_move_25 rfl rfl ?_
          refine xj_get dX7_move_26 K7 37 (by decide) q1966 (kG_a (by decide) hO) rfl ?_
          refine xj_iload_n dX7_move_29 rfl ?_
          refine xj_iald dX7_move_30 (kG_a (by decide) h75) rfl hy31 hS2 ?_
          refine xj_if_ge (tgt := 37) dX7_move_31 rfl (fun c31 => ?_) (fun c31 => absurd (nI_pos' (by omega)) c31)
          refine xj_aload_n dX7_move_37 rfl rfl ?_
          refine xj_get dX7_move_38 K7 37 (by decide) q1966 (kG_a (by decide) hO) rfl ?_
          refine xj_iload_n dX7_move_41 rfl ?_
          refine xj_iald dX7_move_42 (kG_a (by decide) h75) rfl hx31 hS1 ?_
          refine xj_aload_n dX7_move_43 rfl rfl ?_
          refine xj_get dX7_move_44 K7 37 (by decide) q1966 (kG_a (by decide) hO) rfl ?_
          refine xj_iload_n dX7_move_47 rfl ?_
          refine xj_iald dX7_move_48 (kG_a (by decide) h75) rfl hy31 hS2 ?_
          refine xj_icmp_eq (tgt := 55) dX7_move_49 rfl (fun c49 => ?_) (fun c49 => ?_)
          · have hsq : q.1 = q2.1 := (nI_eq (by omega) (by omega)).mp c49
            refine xj_iload dX7_move_55 rfl ?_
            refine xj_if_lt (tgt := 96) dX7_move_57 rfl (fun c57 => ?_) (fun c57 => ?_)
            · have hmv : mvB i j m q.2.length q2.2.length = false := by
                unfold mvB
                apply decide_eq_false
                rintro ⟨w1, w2, w3, w4, w5⟩
                first
                | (have := i32n c57; omega)
                | (have := i32n c61; omega)
                | (have := i32n c66; omega)
                | (have := (mv_gt h40 c57 c61).mp c79; omega)
                | exact c93 ((mv_le h402 c57 c66).mpr w5)
              refine xj_bipush (v := -12) dX7_move_96 rfl ?_
              exact xj_ireturn dX7_move_98 rfl rfl (kR_i (by simp [o_move, hb1, hb2, e1, e2, hq, hq2, hsq, hmv]) ⟨kfr.refl _ _, by rw [show s_move sh (nI x) i (nI y) j m = sh by simp [s_move, hb1, hb2, e1, e2, hq, hq2, hsq, hmv]]; exact hh, A0, h78, hA0⟩)
            · refine xj_iload_n dX7_move_60 rfl ?_
              refine xj_if_lt (tgt := 96) dX7_move_61 rfl (fun c61 => ?_) (fun c61 => ?_)
              · have hmv : mvB i j m q.2.length q2.2.length = false := by
                  unfold mvB
                  apply decide_eq_false
                  rintro ⟨w1, w2, w3, w4, w5⟩
                  first
                  | (have := i32n c57; omega)
                  | (have := i32n c61; omega)
                  | (have := i32n c66; omega)
                  | (have := (mv_gt h40 c57 c61).mp c79; omega)
                  | exact c93 ((mv_le h402 c57 c66).mpr w5)
                refine xj_bipush (v := -12) dX7_move_96 rfl ?_
                exact xj_ireturn dX7_move_98 rfl rfl (kR_i (by simp [o_move, hb1, hb2, e1, e2, hq, hq2, hsq, hmv]) ⟨kfr.refl _ _, by rw [show s_move sh (nI x) i (nI y) j m = sh by simp [s_move, hb1, hb2, e1, e2, hq, hq2, hsq, hmv]]; exact hh, A0, h78, hA0⟩)
              · refine xj_iload dX7_move_64 rfl ?_
                refine xj_if_lt (tgt := 96) dX7_move_66 rfl (fun c66 => ?_) (fun c66 => ?_)
                · have hmv : mvB i j m q.2.length q2.2.length = false := by
                    unfold mvB
                    apply decide_eq_false
                    rintro ⟨w1, w2, w3, w4, w5⟩
                    first
                    | (have := i32n c57; omega)
                    | (have := i32n c61; omega)
                    | (have := i32n c66; omega)
                    | (have := (mv_gt h40 c57 c61).mp c79; omega)
                    | exact c93 ((mv_le h402 c57 c66).mpr w5)
                  refine xj_bipush (v := -12) dX7_move_96 rfl ?_
                  exact xj_ireturn dX7_move_98 rfl rfl (kR_i (by simp [o_move, hb1, hb2, e1, e2, hq, hq2, hsq, hmv]) ⟨kfr.refl _ _, by rw [show s_move sh (nI x) i (nI y) j m = sh by simp [s_move, hb1, hb2, e1, e2, hq, hq2, hsq, hmv]]; exact hh, A0, h78, hA0⟩)
                · refine xj_iload_n dX7_move_69 rfl ?_
                  refine xj_aload_n dX7_move_70 rfl rfl ?_
                  refine xj_get dX7_move_71 K7 38 (by decide) q1967 (kG_a (by decide) hO) rfl ?_
                  refine xj_iload_n dX7_move_74 rfl ?_
                  refine xj_iald dX7_move_75 (kG_a (by decide) h76) rfl hx31 hZ1 ?_
                  refine xj_iload dX7_move_76 rfl ?_
                  refine xj_isub dX7_move_78 ?_
                  refine xj_icmp_gt (tgt := 96) dX7_move_79 rfl (fun c79 => ?_) (fun c79 => ?_)
                  · have hmv : mvB i j m q.2.length q2.2.length = false := by
                      unfold mvB
                      apply decide_eq_false
                      rintro ⟨w1, w2, w3, w4, w5⟩
                      first
                      | (have := i32n c57; omega)
                      | (have := i32n c61; omega)
                      | (have := i32n c66; omega)
                      | (have := (mv_gt h40 c57 c61).mp c79; omega)
                      | exact c93 ((mv_le h402 c57 c66).mpr w5)
                    refine xj_bipush (v := -12) dX7_move_96 rfl ?_
                    exact xj_ireturn dX7_move_98 rfl rfl (kR_i (by simp [o_move, hb1, hb2, e1, e2, hq, hq2, hsq, hmv]) ⟨kfr.refl _ _, by rw [show s_move sh (nI x) i (nI y) j m = sh by simp [s_move, hb1, hb2, e1, e2, hq, hq2, hsq, hmv]]; exact hh, A0, h78, hA0⟩)
                  · refine xj_iload dX7_move_82 rfl ?_
                    refine xj_aload_n dX7_move_84 rfl rfl ?_
                    refine xj_get dX7_move_85 K7 38 (by decide) q1967 (kG_a (by decide) hO) rfl ?_
                    refine xj_iload_n dX7_move_88 rfl ?_
                    refine xj_iald dX7_move_89 (kG_a (by decide) h76) rfl hy31 hZ2 ?_
                    refine xj_iload dX7_move_90 rfl ?_
                    refine xj_isub dX7_move_92 ?_
                    refine xj_icmp_le (tgt := 99) dX7_move_93 rfl (fun c93 => ?_) (fun c93 => ?_)
                    · have g1 := Int.not_lt.mp (fun w => c79 ((mv_gt h40 c57 c61).mpr w))
                      have g2 := (mv_le h402 c57 c66).mp c93
                      obtain ⟨M, hM31, rfl⟩ := nI_of c57
                      obtain ⟨I, hI31, rfl⟩ := nI_of c61
                      obtain ⟨J, hJ31, rfl⟩ := nI_of c66
                      rw [nI_toInt hI31, nI_toInt hM31] at g1
                      rw [nI_toInt hJ31, nI_toInt hM31] at g2
                      have hIM : I + M ≤ q.2.length := by omega
                      have hJM : J + M ≤ q2.2.length := by omega
                      have hmv : mvB (nI I) (nI J) (nI M) q.2.length q2.2.length = true := by
                        unfold mvB
                        rw [nI_toInt hI31, nI_toInt hM31, nI_toInt hJ31]
                        apply decide_eq_true
                        omega
                      have e3 : tn (nI I) = I := nI_clamp hI31
                      have e4 : tn (nI J) = J := nI_clamp hJ31
                      have e5 : tn (nI M) = M := nI_clamp hM31
                      refine xj_ic0 dX7_move_99 ?_
                      refine xj_ist6 dX7_move_100 rfl ?_
                      refine xj_eq rfl rfl (show _ = kG (au a 78 (cL 4 A0)) T by rw [au_id h78]) ?_
                      have lp1 : ∀ (K : Nat) (p : Nat) (A : List Int64), M - p < K → (p ≤ M) → (A.length = 40) → (∀ z, z < p → A[z]? = C[40 * x + I + z]?) → xJ E (yX7_move, cX7_move, 7, (some FieldType.int), []) (xR 2 0 0) (kR (some (.int (o_move sh (nI x) (nI I) (nI y) (nI J) (nI M)))) T (fun b => kfr [77, 78] a b ∧ kH (s_move sh (nI x) (nI I) (nI y) (nI J) (nI M)) b ∧ ∃ A : List Int64, b 78 = cL 4 A ∧ A.length = 40)) 0 0 102 [some (.ref 54), some (.int (nI x)), some (.int (nI I)), some (.int (nI y)), some (.int (nI J)), some (.int (nI M)), some (.int (nI p))] [] (kG (au a 78 (cL 4 A)) T) := by
                        intro K
                        induction K with
                        | zero => intro p A h; exact absurd h (Nat.not_lt_zero _)
                        | succ K ih_lp1 =>
                          intro p A hK hp hA40 hA
                          refine xj_iload dX7_move_102 rfl ?_
                          refine xj_iload dX7_move_104 rfl ?_
                          refine xj_icmp_ge (tgt := 136) dX7_move_106 rfl (fun c106 => ?_) (fun c106 => ?_)
                          · have hpM : p = M := by have := Nat.le_of_not_lt fun h => absurd c106 (nI_ge (a := p) (b := M) h (by omega)); omega
                            rw [hpM] at hA
                            refine xj_ic0 dX7_move_136 ?_
                            refine xj_ist6 dX7_move_137 rfl ?_
                            refine xj_eq rfl rfl (show _ = kG (au (au a 78 (cL 4 A)) 77 (cL 4 C)) T by rw [au_id (i := 77) (show au a 78 (cL 4 A) 77 = cL 4 C from h77)]) ?_
                            have lp2 : ∀ (K : Nat) (p : Nat) (D : List Int64), M - p < K → (p ≤ M) → (D.length = 160) → (∀ z, z < p → D[40 * y + J + z]? = C[40 * x + I + z]?) → (∀ z, (z < 40 * y + J ∨ 40 * y + J + p ≤ z) → D[z]? = C[z]?) → xJ E (yX7_move, cX7_move, 7, (some FieldType.int), []) (xR 2 0 0) (kR (some (.int (o_move sh (nI x) (nI I) (nI y) (nI J) (nI M)))) T (fun b => kfr [77, 78] a b ∧ kH (s_move sh (nI x) (nI I) (nI y) (nI J) (nI M)) b ∧ ∃ A : List Int64, b 78 = cL 4 A ∧ A.length = 40)) 0 0 139 [some (.ref 54), some (.int (nI x)), some (.int (nI I)), some (.int (nI y)), some (.int (nI J)), some (.int (nI M)), some (.int (nI p))] [] (kG (au (au a 78 (cL 4 A)) 77 (cL 4 D)) T) := by
                              intro K
                              induction K with
                              | zero => intro p D h; exact absurd h (Nat.not_lt_zero _)
                              | succ K ih_lp2 =>
                                intro p D hK hp hD hDn hDo
                                refine xj_iload dX7_move_139 rfl ?_
                                refine xj_iload dX7_move_141 rfl ?_
                                refine xj_icmp_ge (tgt := 174) dX7_move_143 rfl (fun c143 => ?_) (fun c143 => ?_)
                                · refine xj_iload dX7_move_174 rfl ?_
                                  exact xj_ireturn dX7_move_176 rfl rfl (kR_i (by simp [o_move, hb1, hb2, e1, e2, hq, hq2, hsq, hmv]) ⟨(((kfr.refl _ _).au (by decide)).au (by decide)), ⟨S, Z, _, h75, h76, rfl, by rw [show s_move sh (nI x) (nI I) (nI y) (nI J) (nI M) = shU sh y (some (q2.1, mvL q.2 q2.2 I J M)) by simp [s_move, hb1, hb2, e1, e2, hq, hq2, hsq, hmv, e3, e4, e5]]; exact mHL_move hHL hx4 hy4 hq hq2 hIM hJM hD (fun z hz => hDn z (by have := Nat.le_of_not_lt fun h => absurd c143 (nI_ge (a := p) (b := M) h (by omega)); omega)) (fun z hz => hDo z (by omega))⟩, A, rfl, hA40⟩)
                                · have hpM : p < M := Nat.lt_of_not_le fun h => c143 (nI_le h (by omega))
                                  obtain ⟨v, hvv⟩ : ∃ v, C[40 * x + I + p]? = some v := ⟨_, List.getElem?_eq_getElem (by omega)⟩
                                  refine xj_aload_n dX7_move_146 rfl rfl ?_
                                  refine xj_get dX7_move_147 K7 39 (by decide) q1968 (kG_a (by decide) hO) rfl ?_
                                  refine xj_bipush (v := 40) dX7_move_150 rfl ?_
                                  refine xj_iload_n dX7_move_152 rfl ?_
                                  refine xj_imul dX7_move_153 ?_
                                  refine xj_iload dX7_move_154 rfl ?_
                                  refine xj_iadd dX7_move_156 ?_
                                  refine xj_iload dX7_move_157 rfl ?_
                                  refine xj_iadd dX7_move_159 ?_
                                  refine xj_aload_n dX7_move_160 rfl rfl ?_
                                  refine xj_get dX7_move_161 K7 40 (by decide) q1969 (kG_a (by decide) hO) rfl ?_
                                  refine xj_iload dX7_move_164 rfl ?_
                                  refine xj_lald dX7_move_166 (kG_a (by decide) rfl) rfl (by omega) ((hA p hpM).trans hvv) ?_
                                  refine xj_last dX7_move_167 (kG_a (by decide) rfl) (show (40 : Int32) * nI y + nI J + nI p = nI (40 * y + J + p) by rw [nI_40, nI_add]) (by omega) (by omega) ?_
                                  refine xj_eq rfl rfl (kG_set (by decide)) ?_
                                  refine xj_iinc6 (cst := 1) dX7_move_168 rfl rfl ?_
                                  rw [au_au, nI_1]
                                  refine xj_goto (tgt := 139) dX7_move_171 rfl ?_
                                  exact ih_lp2 (p + 1) _ (by omega) (by omega) (by rw [List.length_set]; exact hD) (fun z hz => by
                                    by_cases e : z = p
                                    · subst e; rw [List.getElem?_set_self (by omega), hvv]
                                    · rw [List.getElem?_set_ne (by omega)]; exact hDn z (by omega)) (fun z hz => by rw [List.getElem?_set_ne (by omega)]; exact hDo z (by omega))
                            exact lp2 (M + 1) 0 C (by omega) (by omega) hC160 (fun z hz => absurd hz (Nat.not_lt_zero _)) (fun _ _ => rfl)
                          · have hpM : p < M := Nat.lt_of_not_le fun h => c106 (nI_le h (by omega))
                            obtain ⟨v, hvv⟩ : ∃ v, C[40 * x + I + p]? = some v := ⟨_, List.getElem?_eq_getElem (by omega)⟩
                            refine xj_aload_n dX7_move_109 rfl rfl ?_
                            refine xj_get dX7_move_110 K7 40 (by decide) q1969 (kG_a (by decide) hO) rfl ?_
                            refine xj_iload dX7_move_113 rfl ?_
                            refine xj_aload_n dX7_move_115 rfl rfl ?_
                            refine xj_get dX7_move_116 K7 39 (by decide) q1968 (kG_a (by decide) hO) rfl ?_
                            refine xj_bipush (v := 40) dX7_move_119 rfl ?_
                            refine xj_iload_n dX7_move_121 rfl ?_
                            refine xj_imul dX7_move_122 ?_
                            refine xj_iload_n dX7_move_123 rfl ?_
                            refine xj_iadd dX7_move_124 ?_
                            refine xj_iload dX7_move_125 rfl ?_
                            refine xj_iadd dX7_move_127 ?_
                            refine xj_lald dX7_move_128 (kG_a (by decide) h77) (show (40 : Int32) * nI x + nI I + nI p = nI (40 * x + I + p) by rw [nI_40, nI_add]) (by omega) hvv ?_
                            refine xj_last dX7_move_129 (kG_a (by decide) rfl) rfl (by omega) (by omega) ?_
                            refine xj_eq rfl rfl (kG_set (by decide)) ?_
                            refine xj_iinc6 (cst := 1) dX7_move_130 rfl rfl ?_
                            rw [au_au, nI_1]
                            refine xj_goto (tgt := 102) dX7_move_133 rfl ?_
                            exact ih_lp1 (p + 1) _ (by omega) (by omega) (by rw [List.length_set]; exact hA40) (fun z hz => by
                              by_cases e : z = p
                              · subst e; rw [List.getElem?_set_self (by omega), hvv]
                              · rw [List.getElem?_set_ne (by omega)]; exact hA z (by omega))
                      exact lp1 (M + 1) 0 A0 (by omega) (by omega) hA0 (fun z hz => absurd hz (Nat.not_lt_zero _))
                    · have hmv : mvB i j m q.2.length q2.2.length = false := by
                        unfold mvB
                        apply decide_eq_false
                        rintro ⟨w1, w2, w3, w4, w5⟩
                        first
                        | (have := i32n c57; omega)
                        | (have := i32n c61; omega)
                        | (have := i32n c66; omega)
                        | (have := (mv_gt h40 c57 c61).mp c79; omega)
                        | exact c93 ((mv_le h402 c57 c66).mpr w5)
                      refine xj_bipush (v := -12) dX7_move_96 rfl ?_
                      exact xj_ireturn dX7_move_98 rfl rfl (kR_i (by simp [o_move, hb1, hb2, e1, e2, hq, hq2, hsq, hmv]) ⟨kfr.refl _ _, by rw [show s_move sh (nI x) i (nI y) j m = sh by simp [s_move, hb1, hb2, e1, e2, hq, hq2, hsq, hmv]]; exact hh, A0, h78, hA0⟩)
          · refine xj_bipush (v := -13) dX7_move_52 rfl ?_
            exact xj_ireturn dX7_move_54 rfl rfl (by have hsq : q.1 ≠ q2.1 := fun e => c49 (by rw [e]); exact kR_i (by simp [o_move, hb1, hb2, e1, e2, hq, hq2, hsq]) ⟨kfr.refl _ _, by rw [show s_move sh (nI x) i (nI y) j m = sh by simp [s_move, hb1, hb2, e1, e2, hq, hq2, hsq]]; exact hh, A0, h78, hA0⟩)
    · refine xj_icm1 dX7_move_14 ?_
      exact xj_ireturn dX7_move_15 rfl rfl (kR_i (by first | (simp [o_move, b1_z c4]; done) | (simp [o_move, b1_z c11]; done)) ⟨kfr.refl _ _, by rw [show s_move sh k i k2 j m = sh by first | (simp [s_move, b1_z c4]; done) | (simp [s_move, b1_z c11]; done)]; exact hh, A0, h78, hA0⟩)
end M17
