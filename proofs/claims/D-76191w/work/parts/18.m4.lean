/-! ===== the reference: rows by ranks ===== -/
set_option maxRecDepth 100000

theorem sub_z (b : Nat) : nI b - 0 = nI b := by rw [show (0 : Int32) = nI 0 from rfl, pk_sub (Nat.zero_le b)]; rfl
theorem add_m1 (k : Nat) : nI k + -1 = nI k - 1 := (Int32.sub_eq_add_neg _ _).symm
section M4
variable {E : xE} {G : xH} {c : Nat → Value} {n : Nat}
theorem M_rowBy {i : Nat} (hv : mV c n G) (hi : i < wy n) : xMet E yX7_rowBy cX7_rowBy 8 (some FieldType.int) 1 0 0 [.ref 54, .int (nI i)] G (xrv (some (.int (nI (rb n i)))) G) := by
  obtain ⟨hO, hf0, h1n, hn6, hPw, hWy⟩ := id hv
  have h0 := f_rb n (by omega) h1n i hi
  refine xMet.of (lv := [some (.ref 54), some (.int (nI i)), none, none, none, none, none, none]) rfl rfl (Nat.le_of_ble_eq_true rfl) ?_
  refine xj_ic0 dX7_rowBy_0 ?_
  refine xj_istn2 dX7_rowBy_1 rfl ?_
  refine xj_ic0 dX7_rowBy_2 ?_
  refine xj_istn3 dX7_rowBy_3 rfl ?_
  refine xj_iload_n dX7_rowBy_4 rfl ?_
  refine xj_ist4 dX7_rowBy_5 rfl ?_
  refine xj_ic0 dX7_rowBy_7 ?_
  refine xj_ist5 dX7_rowBy_8 rfl ?_
  rw [show (some (Value.int (nI i)) : Option Value) = some (.int (nI i)) from rfl]
  refine xj_eq (lv' := [some (.ref 54), some (.int (nI i)), some (.int (nI (zw (rbZ n i 0)))), some (.int (nI (zu (rbZ n i 0)))), some (.int (nI (zr (rbZ n i 0)))), some (.int (nI 0)), none, none]) (by rw [h0.2.1, h0.2.2.1, h0.2.2.2]; rfl) rfl rfl ?_
  have lp : ∀ (K : Nat) (p : Nat), n - p < K → p ≤ n → xJ E (yX7_rowBy, cX7_rowBy, 8, (some FieldType.int), []) (xR 1 0 0) (xrv (some (.int (nI (rb n i)))) G) 0 0 10 [some (.ref 54), some (.int (nI i)), some (.int (nI (zw (rbZ n i p)))), some (.int (nI (zu (rbZ n i p)))), some (.int (nI (zr (rbZ n i p)))), some (.int (nI p)), none, none] [] G := by
    intro K
    induction K with
    | zero => intro p h; exact absurd h (Nat.not_lt_zero _)
    | succ K ih_lp =>
      intro p hK hp
      refine xj_iload dX7_rowBy_10 rfl ?_
      refine xj_aload_n dX7_rowBy_12 rfl rfl ?_
      refine xj_get dX7_rowBy_13 K7 0 (by decide) q1929 hO (congrArg some hf0) ?_
      refine xj_icmp_ge (tgt := 122) dX7_rowBy_16 rfl (fun c16 => ?_) (fun c16 => ?_)
      · have hpn : p = n := Nat.le_antisymm hp (Nat.le_of_not_lt fun h => absurd c16 (nI_ge h (by omega)))
        refine xj_iload_n dX7_rowBy_122 rfl ?_
        exact xj_ireturn dX7_rowBy_123 rfl rfl (xrv_i (by rw [hpn]; rfl))
      · have hpn : p < n := Nat.lt_of_not_le fun h => c16 (nI_le h (by omega))
        have hk := f_rbOk n (by omega) i hi p hpn
        have hwy := wy_in (n - 1 - p) (by omega)
        generalize hz : rbZ n i p = z at hk ⊢
        refine xj_iload dX7_rowBy_19 rfl ?_
        refine xj_aload_n dX7_rowBy_21 rfl rfl ?_
        refine xj_get dX7_rowBy_22 K7 19 (by decide) q1948 hO rfl ?_
        refine xj_aload_n dX7_rowBy_25 rfl rfl ?_
        refine xj_get dX7_rowBy_26 K7 0 (by decide) q1929 hO (congrArg some hf0) ?_
        refine xj_ic1 dX7_rowBy_29 ?_
        refine xj_isub dX7_rowBy_30 ?_
        refine xj_iload dX7_rowBy_31 rfl ?_
        refine xj_isub dX7_rowBy_33 ?_
        refine xj_iald dX7_rowBy_34 hWy (by rw [nI_sub1 h1n, pk_sub (by omega)]) (by omega) (wayL_at (by omega)) ?_
        refine xj_idiv dX7_rowBy_35 (nI_ne0 hwy.1 (Nat.lt_trans hwy.2 (by decide))) ?_
        rw [pk_div (Nat.lt_trans (zr_lt z) (by decide)) hwy.1 (Nat.lt_trans hwy.2 (by decide))]
        refine xj_ist6 dX7_rowBy_36 rfl ?_
        refine xj_iload dX7_rowBy_38 rfl ?_
        refine xj_aload_n dX7_rowBy_40 rfl rfl ?_
        refine xj_get dX7_rowBy_41 K7 19 (by decide) q1948 hO rfl ?_
        refine xj_aload_n dX7_rowBy_44 rfl rfl ?_
        refine xj_get dX7_rowBy_45 K7 0 (by decide) q1929 hO (congrArg some hf0) ?_
        refine xj_ic1 dX7_rowBy_48 ?_
        refine xj_isub dX7_rowBy_49 ?_
        refine xj_iload dX7_rowBy_50 rfl ?_
        refine xj_isub dX7_rowBy_52 ?_
        refine xj_iald dX7_rowBy_53 hWy (by rw [nI_sub1 h1n, pk_sub (by omega)]) (by omega) (wayL_at (by omega)) ?_
        refine xj_irem dX7_rowBy_54 (nI_ne0 hwy.1 (Nat.lt_trans hwy.2 (by decide))) ?_
        rw [pk_rem (Nat.lt_trans (zr_lt z) (by decide)) hwy.1 (Nat.lt_trans hwy.2 (by decide))]
        refine xj_ist4 dX7_rowBy_55 rfl ?_
        refine xj_ic1 dX7_rowBy_57 ?_
        refine xj_ist7 dX7_rowBy_58 rfl ?_
        have lq : ∀ (K : Nat) (f : Nat) (b : Nat) (d : Nat), f < K → rbEnd f (zu z) b d = true → rbDig f (zu z) b d = rbD n p z → d + f ≤ 9 → b < 1000 → xJ E (yX7_rowBy, cX7_rowBy, 8, (some FieldType.int), []) (xR 1 0 0) (xrv (some (.int (nI (rb n i)))) G) 0 0 60 [some (.ref 54), some (.int (nI i)), some (.int (nI (zw z))), some (.int (nI (zu z))), some (.int (nI (zr z % wy (n - 1 - p)))), some (.int (nI p)), some (.int (nI b)), some (.int (nI d))] [] G := by
          intro K
          induction K with
          | zero => intro f b d h; exact absurd h (Nat.not_lt_zero _)
          | succ K ih_lq =>
            intro f b d hK he hD hd hb
            obtain ⟨f, rfl⟩ : ∃ f0, f = f0 + 1 := by
              cases f with
              | zero => cases he
              | succ f => exact ⟨f, rfl⟩
            have he : (if (zu z).testBit d || decide (0 < b) then rbEnd f (zu z) (if (zu z).testBit d then b else b - 1) (d + 1) else true) = true := he
            have hD : (if (zu z).testBit d || decide (0 < b) then rbDig f (zu z) (if (zu z).testBit d then b else b - 1) (d + 1) else d) = rbD n p z := hD
            refine xj_iload_n dX7_rowBy_60 rfl ?_
            refine xj_i2l dX7_rowBy_61 ?_
            refine xj_topl (nI_l (Nat.lt_trans hk.2.1 (by decide))) ?_
            refine xj_iload dX7_rowBy_62 rfl ?_
            refine xj_cS dX7_rowBy_64 q1926 kS_X7_has (M_has (Nat.lt_trans hk.2.1 (by decide)) (by omega)) rfl rfl (Nat.le_of_ble_eq_true rfl) ⟨(Nat.le_of_ble_eq_true rfl), (Nat.le_of_ble_eq_true rfl)⟩ (Nat.le_of_ble_eq_true rfl) (Nat.le_of_ble_eq_true rfl) ?_
            refine xj_if_ne (tgt := 75) dX7_rowBy_67 rfl (fun c67 => ?_) (fun c67 => ?_)
            · have hcond : ((zu z).testBit d || decide (0 < b)) = true := by first | (cases ht : (zu z).testBit d <;> simp_all [b1]; done) | (rw [decide_eq_true (Nat.lt_of_not_le fun h => c72 (nI_le h (by decide))), Bool.or_true])
              rw [if_pos hcond] at he hD
              refine xj_iload dX7_rowBy_75 rfl ?_
              refine xj_iload_n dX7_rowBy_77 rfl ?_
              refine xj_i2l dX7_rowBy_78 ?_
              refine xj_topl (nI_l (Nat.lt_trans hk.2.1 (by decide))) ?_
              refine xj_iload dX7_rowBy_79 rfl ?_
              refine xj_cS dX7_rowBy_81 q1926 kS_X7_has (M_has (Nat.lt_trans hk.2.1 (by decide)) (by omega)) rfl rfl (Nat.le_of_ble_eq_true rfl) ⟨(Nat.le_of_ble_eq_true rfl), (Nat.le_of_ble_eq_true rfl)⟩ (Nat.le_of_ble_eq_true rfl) (Nat.le_of_ble_eq_true rfl) ?_
              refine xj_sI_if_eq (tgt := 91) (M := 92) dX7_rowBy_84 rfl (fun c84 k => by
                  refine xj_ic1 dX7_rowBy_91 ?_
                  exact k) (fun c84 k => by
                  refine xj_ic0 dX7_rowBy_87 ?_
                  refine xj_goto (tgt := 92) dX7_rowBy_88 rfl ?_
                  exact k) ?_
              refine xj_top (b1_if _ _ _) ?_
              refine xj_isub dX7_rowBy_92 ?_
              refine xj_top (y := nI (if (zu z).testBit d then b else b - 1)) (by cases ht : (zu z).testBit d with
                | true => exact sub_z b
                | false => rw [ht, Bool.false_or] at hcond; exact nI_sub1 (of_decide_eq_true hcond)) ?_
              refine xj_ist6 dX7_rowBy_93 rfl ?_
              refine xj_iinc7 (cst := 1) dX7_rowBy_95 rfl rfl ?_
              rw [nI_1]
              refine xj_goto (tgt := 60) dX7_rowBy_98 rfl ?_
              exact ih_lq f _ (d + 1) (by omega) he hD (by omega) (by split <;> omega)
            · refine xj_iload dX7_rowBy_70 rfl ?_
              refine xj_if_le (tgt := 101) dX7_rowBy_72 rfl (fun c72 => ?_) (fun c72 => ?_)
              · have hcond : ((zu z).testBit d || decide (0 < b)) = false := by
                  have hb0 : ¬ 0 < b := fun h => absurd c72 (nI_nle h (by omega))
                  cases ht : (zu z).testBit d with
                  | true => rw [ht] at c67; exact absurd c67 (by decide)
                  | false => rw [decide_eq_false hb0]; rfl
                rw [hcond] at hD
                have hD : d = rbD n p z := hD
                refine xj_iload_n dX7_rowBy_101 rfl ?_
                refine xj_ic1 dX7_rowBy_102 ?_
                refine xj_iload dX7_rowBy_103 rfl ?_
                refine xj_ishl dX7_rowBy_105 ?_
                refine xj_top (c_shl7 d (by rw [hD]; exact hk.2.2.1)) ?_
                refine xj_ior dX7_rowBy_106 ?_
                rw [nI_or]
                refine xj_istn3 dX7_rowBy_107 rfl ?_
                refine xj_bipush (v := 10) dX7_rowBy_108 rfl ?_
                refine xj_iload_n dX7_rowBy_110 rfl ?_
                refine xj_imul dX7_rowBy_111 ?_
                refine xj_top (pk_mul 10 _) ?_
                refine xj_iload dX7_rowBy_112 rfl ?_
                refine xj_iadd dX7_rowBy_114 ?_
                rw [nI_add]
                refine xj_istn2 dX7_rowBy_115 rfl ?_
                refine xj_iinc5 (cst := 1) dX7_rowBy_116 rfl rfl ?_
                rw [nI_1]
                refine xj_goto (tgt := 10) dX7_rowBy_119 rfl ?_
                refine xj_fg6 (xj_fg7 ?_)
                rw [hD, ← hk.2.2.2.1, ← hk.2.2.2.2.1, ← hk.2.2.2.2.2]
                exact ih_lp (p + 1) (by omega) (by omega)
              · have hcond : ((zu z).testBit d || decide (0 < b)) = true := by first | (cases ht : (zu z).testBit d <;> simp_all [b1]; done) | (rw [decide_eq_true (Nat.lt_of_not_le fun h => c72 (nI_le h (by decide))), Bool.or_true])
                rw [if_pos hcond] at he hD
                refine xj_iload dX7_rowBy_75 rfl ?_
                refine xj_iload_n dX7_rowBy_77 rfl ?_
                refine xj_i2l dX7_rowBy_78 ?_
                refine xj_topl (nI_l (Nat.lt_trans hk.2.1 (by decide))) ?_
                refine xj_iload dX7_rowBy_79 rfl ?_
                refine xj_cS dX7_rowBy_81 q1926 kS_X7_has (M_has (Nat.lt_trans hk.2.1 (by decide)) (by omega)) rfl rfl (Nat.le_of_ble_eq_true rfl) ⟨(Nat.le_of_ble_eq_true rfl), (Nat.le_of_ble_eq_true rfl)⟩ (Nat.le_of_ble_eq_true rfl) (Nat.le_of_ble_eq_true rfl) ?_
                refine xj_sI_if_eq (tgt := 91) (M := 92) dX7_rowBy_84 rfl (fun c84 k => by
                    refine xj_ic1 dX7_rowBy_91 ?_
                    exact k) (fun c84 k => by
                    refine xj_ic0 dX7_rowBy_87 ?_
                    refine xj_goto (tgt := 92) dX7_rowBy_88 rfl ?_
                    exact k) ?_
                refine xj_top (b1_if _ _ _) ?_
                refine xj_isub dX7_rowBy_92 ?_
                refine xj_top (y := nI (if (zu z).testBit d then b else b - 1)) (by cases ht : (zu z).testBit d with
                  | true => exact sub_z b
                  | false => rw [ht, Bool.false_or] at hcond; exact nI_sub1 (of_decide_eq_true hcond)) ?_
                refine xj_ist6 dX7_rowBy_93 rfl ?_
                refine xj_iinc7 (cst := 1) dX7_rowBy_95 rfl rfl ?_
                rw [nI_1]
                refine xj_goto (tgt := 60) dX7_rowBy_98 rfl ?_
                exact ih_lq f _ (d + 1) (by omega) he hD (by omega) (by split <;> omega)
        exact lq 9 8 _ 1 (by omega) hk.1 rfl (by omega) (Nat.lt_of_le_of_lt (Nat.div_le_self _ _) (zr_lt z))
  exact lp (n + 1) 0 (by omega) (by omega)
theorem M_turned {r : Nat} (hv : mV c n G) (hr31 : r < 2 ^ 31) : xMet E yX7_turned cX7_turned 4 (some FieldType.int) 1 0 0 [.ref 54, .int (nI r)] G (xrv (some (.int (nI (trn n r n 0)))) G) := by
  obtain ⟨hO, hf0, h1n, hn6, hPw, hWy⟩ := id hv
  refine xMet.of (lv := [some (.ref 54), some (.int (nI r)), none, none]) rfl rfl (Nat.le_of_ble_eq_true rfl) ?_
  refine xj_ic0 dX7_turned_0 ?_
  refine xj_istn2 dX7_turned_1 rfl ?_
  refine xj_aload_n dX7_turned_2 rfl rfl ?_
  refine xj_get dX7_turned_3 K7 0 (by decide) q1929 hO (congrArg some hf0) ?_
  refine xj_ic1 dX7_turned_6 ?_
  refine xj_isub dX7_turned_7 ?_
  refine xj_istn3 dX7_turned_8 rfl ?_
  have lp : ∀ (K : Nat) (k : Nat) (v : Nat), k < K → k ≤ n → trn n r k v = trn n r n 0 → xJ E (yX7_turned, cX7_turned, 4, (some FieldType.int), []) (xR 1 0 0) (xrv (some (.int (nI (trn n r n 0)))) G) 0 0 9 [some (.ref 54), some (.int (nI r)), some (.int (nI v)), some (.int (nI k - 1))] [] G := by
    intro K
    induction K with
    | zero => intro k v h; exact absurd h (Nat.not_lt_zero _)
    | succ K ih_lp =>
      intro k v hK hk hs
      refine xj_iload_n dX7_turned_9 rfl ?_
      refine xj_if_lt (tgt := 31) dX7_turned_10 rfl (fun c10 => ?_) (fun c10 => ?_)
      · have hk0 : k = 0 := Nat.eq_zero_of_not_pos fun h => absurd c10 (by rw [nI_sub1 h]; exact nI_pos (by omega))
        subst hk0
        refine xj_iload_n dX7_turned_31 rfl ?_
        exact xj_ireturn dX7_turned_32 rfl rfl (xrv_i (by rw [← hs]; rfl))
      · obtain ⟨k, rfl⟩ : ∃ k0, k = k0 + 1 := ⟨k - 1, by
          have : k ≠ 0 := fun h => by subst h; exact absurd c10 (by decide)
          omega⟩
        rw [nI_pred k]
        refine xj_bipush (v := 10) dX7_turned_13 rfl ?_
        refine xj_iload_n dX7_turned_15 rfl ?_
        refine xj_imul dX7_turned_16 ?_
        refine xj_top (pk_mul 10 _) ?_
        refine xj_aload_n dX7_turned_17 rfl rfl ?_
        refine xj_iload_n dX7_turned_18 rfl ?_
        refine xj_iload_n dX7_turned_19 rfl ?_
        refine xj_cV dX7_turned_20 q2100 kV_X7_digit (M_digit hv hr31 (by omega)) hO rfl rfl rfl rfl (Nat.le_of_ble_eq_true rfl) ⟨(Nat.le_of_ble_eq_true rfl), (Nat.le_of_ble_eq_true rfl)⟩ (Nat.le_of_ble_eq_true rfl) (Nat.le_of_ble_eq_true rfl) ?_
        refine xj_iadd dX7_turned_23 ?_
        rw [nI_add]
        refine xj_istn2 dX7_turned_24 rfl ?_
        refine xj_iinc3 (cst := (-1)) dX7_turned_25 rfl rfl ?_
        rw [show nI k + -1 = nI k - 1 from add_m1 k]
        refine xj_goto (tgt := 9) dX7_turned_28 rfl ?_
        exact ih_lp k _ (by omega) (by omega) hs
  exact lp (n + 1) n 0 (by omega) (by omega) rfl
end M4
