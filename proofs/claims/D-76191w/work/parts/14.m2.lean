/-! ===== the reference: rows ===== -/
set_option maxRecDepth 100000
theorem kV_X7_digit : xsV yX7_digit cX7_digit 3 (some FieldType.int) 2 := ⟨q2102, qs84, q161, q2103, by decide, by decide, by decide +kernel⟩
theorem kV_X7_isRow : xsV yX7_isRow cX7_isRow 5 (some FieldType.boolean) 1 := ⟨q2098, qs83, q161, q2099, by decide, by decide, by decide +kernel⟩
section M2
variable {E : xE} {G : xH} {c : Nat → Value} {n : Nat}
theorem M_isRow {x : Int32} (hv : mV c n G) : xMet E yX7_isRow cX7_isRow 5 (some FieldType.boolean) 1 0 0 [.ref 54, .int x] G (xrv (some (.int (b1 (rowB n x)))) G) := by
  obtain ⟨hO, hf0, h1n, hn6, hPw, hWy⟩ := id hv
  refine xMet.of (lv := [some (.ref 54), some (.int x), none, none, none]) rfl rfl (Nat.le_of_ble_eq_true rfl) ?_
  refine xj_iload_n dX7_isRow_0 rfl ?_
  refine xj_if_lt (tgt := 17) dX7_isRow_1 rfl (fun c1 => ?_) (fun c1 => ?_)
  · refine xj_ic0 dX7_isRow_17 ?_
    exact xj_ireturn dX7_isRow_18 rfl rfl (xrv_i (by rw [rowB_neg c1]; rfl))
  · refine xj_iload_n dX7_isRow_4 rfl ?_
    refine xj_aload_n dX7_isRow_5 rfl rfl ?_
    refine xj_get dX7_isRow_6 K7 18 (by decide) q1947 hO rfl ?_
    refine xj_aload_n dX7_isRow_9 rfl rfl ?_
    refine xj_get dX7_isRow_10 K7 0 (by decide) q1929 hO (congrArg some hf0) ?_
    refine xj_iald dX7_isRow_13 hPw rfl (by omega) (powL_at hn6) ?_
    refine xj_icmp_lt (tgt := 19) dX7_isRow_14 rfl (fun c14 => ?_) (fun c14 => ?_)
    · obtain ⟨R, hR31, rfl⟩ := nI_of c1
      have hrow := rowB_in hR31 c14
      refine xj_ic0 dX7_isRow_19 ?_
      refine xj_istn2 dX7_isRow_20 rfl ?_
      refine xj_ic0 dX7_isRow_21 ?_
      refine xj_istn3 dX7_isRow_22 rfl ?_
      have loop : ∀ (K : Nat) (p : Nat) (s : Nat), n - p < K → p ≤ n → lpN (fun p s => s ||| mbit n (dgt n R p)) p (n - p) s = mask n R → xJ E (yX7_isRow, cX7_isRow, 5, (some FieldType.boolean), []) (xR 1 0 0) (xrv (some (.int (b1 (rowB n (nI R))))) G) 0 0 23 [some (.ref 54), some (.int (nI R)), some (.int (nI s)), some (.int (nI p)), none] [] G := by
        intro K
        induction K with
        | zero => intro p s h; exact absurd h (Nat.not_lt_zero _)
        | succ K ih_loop =>
          intro p s hK hp hr
          refine xj_iload_n dX7_isRow_23 rfl ?_
          refine xj_aload_n dX7_isRow_24 rfl rfl ?_
          refine xj_get dX7_isRow_25 K7 0 (by decide) q1929 hO (congrArg some hf0) ?_
          refine xj_icmp_ge (tgt := 73) dX7_isRow_28 rfl (fun c28 => ?_) (fun c28 => ?_)
          · have hpn : n ≤ p := Nat.le_of_not_lt fun h => absurd c28 (nI_ge h (by omega))
            have hs : s = mask n R := by rw [← hr, lp_end _ hpn]
            refine xj_iload_n dX7_isRow_73 rfl ?_
            refine xj_ic1 dX7_isRow_74 ?_
            refine xj_aload_n dX7_isRow_75 rfl rfl ?_
            refine xj_get dX7_isRow_76 K7 0 (by decide) q1929 hO (congrArg some hf0) ?_
            refine xj_ishl dX7_isRow_79 ?_
            refine xj_ic1 dX7_isRow_80 ?_
            refine xj_isub dX7_isRow_81 ?_
            refine xj_top (c_full n (by omega)) ?_
            refine xj_sI_icmp_ne (tgt := 89) (M := 90) dX7_isRow_82 rfl (fun c82 k => by
                refine xj_ic0 dX7_isRow_89 ?_
                exact k) (fun c82 k => by
                refine xj_ic1 dX7_isRow_85 ?_
                refine xj_goto (tgt := 90) dX7_isRow_86 rfl ?_
                exact k) ?_
            exact xj_ireturn dX7_isRow_90 rfl b1_01 (xrv_i (by rw [hs, hrow]; exact c_eq (Nat.lt_trans (mask_lt hn6 R) (by decide)) (Nat.lt_of_le_of_lt (Nat.sub_le _ _) (Nat.pow_lt_pow_right (by decide) (by omega)))))
          · have hpn : p < n := Nat.lt_of_not_le fun h => c28 (nI_le h (by omega))
            refine xj_aload_n dX7_isRow_31 rfl rfl ?_
            refine xj_iload_n dX7_isRow_32 rfl ?_
            refine xj_iload_n dX7_isRow_33 rfl ?_
            refine xj_cV dX7_isRow_34 q2100 kV_X7_digit (M_digit hv hR31 hpn) hO rfl rfl rfl rfl (Nat.le_of_ble_eq_true rfl) ⟨(Nat.le_of_ble_eq_true rfl), (Nat.le_of_ble_eq_true rfl)⟩ (Nat.le_of_ble_eq_true rfl) (Nat.le_of_ble_eq_true rfl) ?_
            refine xj_ist4 dX7_isRow_37 rfl ?_
            refine xj_iload_n dX7_isRow_39 rfl ?_
            refine xj_iload dX7_isRow_40 rfl ?_
            refine xj_ic1 dX7_isRow_42 ?_
            refine xj_sI_icmp_lt (tgt := 64) (M := 65) dX7_isRow_43 rfl (fun c43 k => by
                refine xj_ic0 dX7_isRow_64 ?_
                exact k) (fun c43 k => by
                refine xj_iload dX7_isRow_46 rfl ?_
                refine xj_aload_n dX7_isRow_48 rfl rfl ?_
                refine xj_get dX7_isRow_49 K7 0 (by decide) q1929 hO (congrArg some hf0) ?_
                refine xj_sI_icmp_gt (tgt := 64) (M := 65) dX7_isRow_52 rfl (fun c52 k => by
                    refine xj_ic0 dX7_isRow_64 ?_
                    exact k) (fun c52 k => by
                    refine xj_ic1 dX7_isRow_55 ?_
                    refine xj_iload dX7_isRow_56 rfl ?_
                    refine xj_ic1 dX7_isRow_58 ?_
                    refine xj_isub dX7_isRow_59 ?_
                    refine xj_ishl dX7_isRow_60 ?_
                    refine xj_goto (tgt := 65) dX7_isRow_61 rfl ?_
                    exact k) ?_
                exact k) ?_
            refine xj_top (c_mask n (by omega) _ (dgt_lt n R p)) ?_
            refine xj_ior dX7_isRow_65 ?_
            rw [nI_or]
            refine xj_istn2 dX7_isRow_66 rfl ?_
            refine xj_iinc3 (cst := 1) dX7_isRow_67 rfl rfl ?_
            rw [nI_1]
            refine xj_goto (tgt := 23) dX7_isRow_70 rfl ?_
            exact xj_fg4 (ih_loop (p + 1) _ (by omega) (by omega) (by rw [← hr, lp_step _ hpn]))
      exact loop (n + 1) 0 0 (by omega) (by omega) rfl
    · refine xj_ic0 dX7_isRow_17 ?_
      exact xj_ireturn dX7_isRow_18 rfl rfl (xrv_i (by rw [rowB_big c14]; rfl))
theorem M_areRows {x y : Int32} (hv : mV c n G) : xMet E yX7_areRows cX7_areRows 3 (some FieldType.boolean) 2 0 0 [.ref 54, .int x, .int y] G (xrv (some (.int (b1 (rowB n x && rowB n y)))) G) := by
  obtain ⟨hO, hf0, h1n, hn6, hPw, hWy⟩ := id hv
  refine xMet.of (lv := [some (.ref 54), some (.int x), some (.int y)]) rfl rfl (Nat.le_of_ble_eq_true rfl) ?_
  refine xj_aload_n dX7_areRows_0 rfl rfl ?_
  refine xj_iload_n dX7_areRows_1 rfl ?_
  refine xj_cV dX7_areRows_2 q2096 kV_X7_isRow (M_isRow hv) hO rfl rfl rfl rfl (Nat.le_of_ble_eq_true rfl) ⟨(Nat.le_of_ble_eq_true rfl), (Nat.le_of_ble_eq_true rfl)⟩ (Nat.le_of_ble_eq_true rfl) (Nat.le_of_ble_eq_true rfl) ?_
  refine xj_sI_if_eq (tgt := 20) (M := 21) dX7_areRows_5 rfl (fun c5 k => by
      refine xj_ic0 dX7_areRows_20 ?_
      exact k) (fun c5 k => by
      refine xj_aload_n dX7_areRows_8 rfl rfl ?_
      refine xj_iload_n dX7_areRows_9 rfl ?_
      refine xj_cV dX7_areRows_10 q2096 kV_X7_isRow (M_isRow hv) hO rfl rfl rfl rfl (Nat.le_of_ble_eq_true rfl) ⟨(Nat.le_of_ble_eq_true rfl), (Nat.le_of_ble_eq_true rfl)⟩ (Nat.le_of_ble_eq_true rfl) (Nat.le_of_ble_eq_true rfl) ?_
      refine xj_sI_if_eq (tgt := 20) (M := 21) dX7_areRows_13 rfl (fun c13 k => by
          refine xj_ic0 dX7_areRows_20 ?_
          exact k) (fun c13 k => by
          refine xj_ic1 dX7_areRows_16 ?_
          refine xj_goto (tgt := 21) dX7_areRows_17 rfl ?_
          exact k) ?_
      exact k) ?_
  exact xj_ireturn dX7_areRows_21 rfl (by rw [b1_and]; exact b1_nar _) (xrv_i (b1_and _ _))
theorem M_swapAt {r p : Nat} (hv : mV c n G) (hr : r ∈ rws n) (hp : p < n - 1) : xMet E yX7_swapAt cX7_swapAt 3 (some FieldType.int) 1 0 0 [.ref 54, .int (nI r), .int (nI p)] G (xrv (some (.int (nI (sw n r p)))) G) := by
  obtain ⟨hO, hf0, h1n, hn6, hPw, hWy⟩ := id hv
  have hr31 := R31 (by omega) hr
  refine xMet.of (lv := [some (.ref 54), some (.int (nI r)), some (.int (nI p))]) rfl rfl (Nat.le_of_ble_eq_true rfl) ?_
  refine xj_iload_n dX7_swapAt_0 rfl ?_
  refine xj_aload_n dX7_swapAt_1 rfl rfl ?_
  refine xj_iload_n dX7_swapAt_2 rfl ?_
  refine xj_iload_n dX7_swapAt_3 rfl ?_
  refine xj_ic1 dX7_swapAt_4 ?_
  refine xj_iadd dX7_swapAt_5 ?_
  rw [nI_1]
  refine xj_cV dX7_swapAt_6 q2100 kV_X7_digit (M_digit hv hr31 (by omega)) hO rfl rfl rfl rfl (Nat.le_of_ble_eq_true rfl) ⟨(Nat.le_of_ble_eq_true rfl), (Nat.le_of_ble_eq_true rfl)⟩ (Nat.le_of_ble_eq_true rfl) (Nat.le_of_ble_eq_true rfl) ?_
  refine xj_aload_n dX7_swapAt_9 rfl rfl ?_
  refine xj_iload_n dX7_swapAt_10 rfl ?_
  refine xj_iload_n dX7_swapAt_11 rfl ?_
  refine xj_cV dX7_swapAt_12 q2100 kV_X7_digit (M_digit hv hr31 (by omega)) hO rfl rfl rfl rfl (Nat.le_of_ble_eq_true rfl) ⟨(Nat.le_of_ble_eq_true rfl), (Nat.le_of_ble_eq_true rfl)⟩ (Nat.le_of_ble_eq_true rfl) (Nat.le_of_ble_eq_true rfl) ?_
  refine xj_isub dX7_swapAt_15 ?_
  refine xj_aload_n dX7_swapAt_16 rfl rfl ?_
  refine xj_get dX7_swapAt_17 K7 18 (by decide) q1947 hO rfl ?_
  refine xj_aload_n dX7_swapAt_20 rfl rfl ?_
  refine xj_get dX7_swapAt_21 K7 0 (by decide) q1929 hO (congrArg some hf0) ?_
  refine xj_ic1 dX7_swapAt_24 ?_
  refine xj_isub dX7_swapAt_25 ?_
  refine xj_iload_n dX7_swapAt_26 rfl ?_
  refine xj_isub dX7_swapAt_27 ?_
  refine xj_iald dX7_swapAt_28 hPw (by rw [nI_sub1 h1n, pk_sub (by omega)]) (by omega) (powL_at (by omega)) ?_
  refine xj_aload_n dX7_swapAt_29 rfl rfl ?_
  refine xj_get dX7_swapAt_30 K7 18 (by decide) q1947 hO rfl ?_
  refine xj_aload_n dX7_swapAt_33 rfl rfl ?_
  refine xj_get dX7_swapAt_34 K7 0 (by decide) q1929 hO (congrArg some hf0) ?_
  refine xj_ic2 dX7_swapAt_37 ?_
  refine xj_isub dX7_swapAt_38 ?_
  refine xj_iload_n dX7_swapAt_39 rfl ?_
  refine xj_isub dX7_swapAt_40 ?_
  refine xj_iald dX7_swapAt_41 hPw (by rw [show nI n - 2 = nI (n - 2) from pk_sub (a := n) (b := 2) (by omega), pk_sub (by omega)]) (by omega) (powL_at (by omega)) ?_
  refine xj_isub dX7_swapAt_42 ?_
  refine xj_imul dX7_swapAt_43 ?_
  refine xj_iadd dX7_swapAt_44 ?_
  exact xj_ireturn dX7_swapAt_45 rfl rfl (xrv_i (f_swI n (by omega) r hr p hp))
theorem M_isDrop {r p : Nat} (hv : mV c n G) (hr : r < 2 ^ 31) (hp : p + 1 < n) : xMet E yX7_isDrop cX7_isDrop 3 (some FieldType.boolean) 1 0 0 [.ref 54, .int (nI r), .int (nI p)] G (xrv (some (.int (b1 (decide (dgt n r (p + 1) < dgt n r p))))) G) := by
  obtain ⟨hO, hf0, h1n, hn6, hPw, hWy⟩ := id hv
  refine xMet.of (lv := [some (.ref 54), some (.int (nI r)), some (.int (nI p))]) rfl rfl (Nat.le_of_ble_eq_true rfl) ?_
  refine xj_aload_n dX7_isDrop_0 rfl rfl ?_
  refine xj_iload_n dX7_isDrop_1 rfl ?_
  refine xj_iload_n dX7_isDrop_2 rfl ?_
  refine xj_cV dX7_isDrop_3 q2100 kV_X7_digit (M_digit hv hr (by omega)) hO rfl rfl rfl rfl (Nat.le_of_ble_eq_true rfl) ⟨(Nat.le_of_ble_eq_true rfl), (Nat.le_of_ble_eq_true rfl)⟩ (Nat.le_of_ble_eq_true rfl) (Nat.le_of_ble_eq_true rfl) ?_
  refine xj_aload_n dX7_isDrop_6 rfl rfl ?_
  refine xj_iload_n dX7_isDrop_7 rfl ?_
  refine xj_iload_n dX7_isDrop_8 rfl ?_
  refine xj_ic1 dX7_isDrop_9 ?_
  refine xj_iadd dX7_isDrop_10 ?_
  rw [nI_1]
  refine xj_cV dX7_isDrop_11 q2100 kV_X7_digit (M_digit hv hr hp) hO rfl rfl rfl rfl (Nat.le_of_ble_eq_true rfl) ⟨(Nat.le_of_ble_eq_true rfl), (Nat.le_of_ble_eq_true rfl)⟩ (Nat.le_of_ble_eq_true rfl) (Nat.le_of_ble_eq_true rfl) ?_
  refine xj_sI_icmp_le (tgt := 21) (M := 22) dX7_isDrop_14 rfl (fun c14 k => by
      refine xj_ic0 dX7_isDrop_21 ?_
      exact k) (fun c14 k => by
      refine xj_ic1 dX7_isDrop_17 ?_
      refine xj_goto (tgt := 22) dX7_isDrop_18 rfl ?_
      exact k) ?_
  exact xj_ireturn dX7_isDrop_22 rfl b1_10 (xrv_i (by rw [c_le (Nat.lt_trans (dgt_lt n r p) (by decide)) (Nat.lt_trans (dgt_lt n r (p + 1)) (by decide)), b1_nof]; congr 1; by_cases h : dgt n r p ≤ dgt n r (p + 1) <;> simp [h] <;> omega))
theorem M_swapped {r : Nat} (hv : mV c n G) (hr : r ∈ rws n) : xMet E yX7_swapped cX7_swapped 7 (some FieldType.int) 1 0 0 [.ref 54, .int (nI r)] G (xrv (some (.int (nI (inv n r)))) G) := by
  obtain ⟨hO, hf0, h1n, hn6, hPw, hWy⟩ := id hv
  have hr31 := R31 (by omega) hr
  refine xMet.of (lv := [some (.ref 54), some (.int (nI r)), none, none, none, none, none]) rfl rfl (Nat.le_of_ble_eq_true rfl) ?_
  refine xj_ic0 dX7_swapped_0 ?_
  refine xj_istn2 dX7_swapped_1 rfl ?_
  refine xj_ic0 dX7_swapped_2 ?_
  refine xj_istn3 dX7_swapped_3 rfl ?_
  have lp : ∀ (K : Nat) (p : Nat) (s : Nat), n - p < K → p ≤ n → lpN (fun p s => lpN (fun q s => s ||| (if dgt n r p ≤ dgt n r q then 0 else 2 ^ tri (dgt n r p) (dgt n r q))) (p + 1) (n - (p + 1)) s) p (n - p) s = inv n r → xJ E (yX7_swapped, cX7_swapped, 7, (some FieldType.int), []) (xR 1 0 0) (xrv (some (.int (nI (inv n r)))) G) 0 0 4 [some (.ref 54), some (.int (nI r)), some (.int (nI s)), some (.int (nI p)), none, none, none] [] G := by
    intro K
    induction K with
    | zero => intro p s h; exact absurd h (Nat.not_lt_zero _)
    | succ K ih_lp =>
      intro p s hK hp hs0
      refine xj_iload_n dX7_swapped_4 rfl ?_
      refine xj_aload_n dX7_swapped_5 rfl rfl ?_
      refine xj_get dX7_swapped_6 K7 0 (by decide) q1929 hO (congrArg some hf0) ?_
      refine xj_icmp_ge (tgt := 87) dX7_swapped_9 rfl (fun c9 => ?_) (fun c9 => ?_)
      · have hpn : n ≤ p := Nat.le_of_not_lt fun h => absurd c9 (nI_ge h (by omega))
        refine xj_iload_n dX7_swapped_87 rfl ?_
        exact xj_ireturn dX7_swapped_88 rfl rfl (xrv_i (by rw [← hs0, lp_end _ hpn]))
      · have hpn : p < n := Nat.lt_of_not_le fun h => c9 (nI_le h (by omega))
        refine xj_iload_n dX7_swapped_12 rfl ?_
        refine xj_ic1 dX7_swapped_13 ?_
        refine xj_iadd dX7_swapped_14 ?_
        rw [nI_1]
        refine xj_ist4 dX7_swapped_15 rfl ?_
        have lq : ∀ (K : Nat) (q : Nat) (s : Nat), n - q < K → p < q ∧ q ≤ n → lpN (fun p s => lpN (fun q s => s ||| (if dgt n r p ≤ dgt n r q then 0 else 2 ^ tri (dgt n r p) (dgt n r q))) (p + 1) (n - (p + 1)) s) (p + 1) (n - (p + 1)) (lpN (fun q s => s ||| (if dgt n r p ≤ dgt n r q then 0 else 2 ^ tri (dgt n r p) (dgt n r q))) q (n - q) s) = inv n r → xJ E (yX7_swapped, cX7_swapped, 7, (some FieldType.int), []) (xR 1 0 0) (xrv (some (.int (nI (inv n r)))) G) 0 0 17 [some (.ref 54), some (.int (nI r)), some (.int (nI s)), some (.int (nI p)), some (.int (nI q)), none, none] [] G := by
          intro K
          induction K with
          | zero => intro q s h; exact absurd h (Nat.not_lt_zero _)
          | succ K ih_lq =>
            intro q s hK hq hs
            refine xj_iload dX7_swapped_17 rfl ?_
            refine xj_aload_n dX7_swapped_19 rfl rfl ?_
            refine xj_get dX7_swapped_20 K7 0 (by decide) q1929 hO (congrArg some hf0) ?_
            refine xj_icmp_ge (tgt := 81) dX7_swapped_23 rfl (fun c23 => ?_) (fun c23 => ?_)
            · have hqn : n ≤ q := Nat.le_of_not_lt fun h => absurd c23 (nI_ge h (by omega))
              refine xj_iinc3 (cst := 1) dX7_swapped_81 rfl rfl ?_
              rw [nI_1]
              refine xj_goto (tgt := 4) dX7_swapped_84 rfl ?_
              exact xj_fg4 (ih_lp (p + 1) _ (by omega) (by omega) (by rw [← hs, lp_end _ hqn]))
            · have hqn : q < n := Nat.lt_of_not_le fun h => c23 (nI_le h (by omega))
              have h1 := f_dig n (by omega) r hr p hpn
              have h2 := f_dig n (by omega) r hr q hqn
              refine xj_aload_n dX7_swapped_26 rfl rfl ?_
              refine xj_iload_n dX7_swapped_27 rfl ?_
              refine xj_iload_n dX7_swapped_28 rfl ?_
              refine xj_cV dX7_swapped_29 q2100 kV_X7_digit (M_digit hv hr31 (by omega)) hO rfl rfl rfl rfl (Nat.le_of_ble_eq_true rfl) ⟨(Nat.le_of_ble_eq_true rfl), (Nat.le_of_ble_eq_true rfl)⟩ (Nat.le_of_ble_eq_true rfl) (Nat.le_of_ble_eq_true rfl) ?_
              refine xj_ist5 dX7_swapped_32 rfl ?_
              refine xj_aload_n dX7_swapped_34 rfl rfl ?_
              refine xj_iload_n dX7_swapped_35 rfl ?_
              refine xj_iload dX7_swapped_36 rfl ?_
              refine xj_cV dX7_swapped_38 q2100 kV_X7_digit (M_digit hv hr31 (by omega)) hO rfl rfl rfl rfl (Nat.le_of_ble_eq_true rfl) ⟨(Nat.le_of_ble_eq_true rfl), (Nat.le_of_ble_eq_true rfl)⟩ (Nat.le_of_ble_eq_true rfl) (Nat.le_of_ble_eq_true rfl) ?_
              refine xj_ist6 dX7_swapped_41 rfl ?_
              refine xj_iload_n dX7_swapped_43 rfl ?_
              refine xj_iload dX7_swapped_44 rfl ?_
              refine xj_iload dX7_swapped_46 rfl ?_
              refine xj_sI_icmp_le (tgt := 72) (M := 73) dX7_swapped_48 rfl (fun c48 k => by
                  refine xj_ic0 dX7_swapped_72 ?_
                  exact k) (fun c48 k => by
                  refine xj_ic1 dX7_swapped_51 ?_
                  refine xj_iload dX7_swapped_52 rfl ?_
                  refine xj_ic1 dX7_swapped_54 ?_
                  refine xj_isub dX7_swapped_55 ?_
                  refine xj_iload dX7_swapped_56 rfl ?_
                  refine xj_ic2 dX7_swapped_58 ?_
                  refine xj_isub dX7_swapped_59 ?_
                  refine xj_imul dX7_swapped_60 ?_
                  refine xj_ic2 dX7_swapped_61 ?_
                  refine xj_idiv dX7_swapped_62 (by decide) ?_
                  refine xj_iload dX7_swapped_63 rfl ?_
                  refine xj_iadd dX7_swapped_65 ?_
                  refine xj_ic1 dX7_swapped_66 ?_
                  refine xj_isub dX7_swapped_67 ?_
                  refine xj_ishl dX7_swapped_68 ?_
                  refine xj_goto (tgt := 73) dX7_swapped_69 rfl ?_
                  exact k) ?_
              refine xj_top (c_tri _ (by omega) _ (by omega) h1.1 h2.1) ?_
              refine xj_ior dX7_swapped_73 ?_
              rw [nI_or]
              refine xj_istn2 dX7_swapped_74 rfl ?_
              refine xj_iinc4 (cst := 1) dX7_swapped_75 rfl rfl ?_
              rw [nI_1]
              refine xj_goto (tgt := 17) dX7_swapped_78 rfl ?_
              exact xj_fg5 (xj_fg6 (ih_lq (q + 1) _ (by omega) (by omega) (by rw [← hs, lp_step _ hqn])))
        exact lq (n + 1) (p + 1) s (by omega) (by omega) (by rw [← hs0, lp_step _ hpn])
  exact lp (n + 1) 0 0 (by omega) (by omega) rfl
end M2
