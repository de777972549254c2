/-! ===== the reference: rows, on ===== -/
set_option maxRecDepth 100000
theorem kV_X7_isDrop : xsV yX7_isDrop cX7_isDrop 3 (some FieldType.boolean) 2 := ⟨q2146, qs91, q161, q2147, by decide, by decide, by decide +kernel⟩
theorem kV_X7_swapped : xsV yX7_swapped cX7_swapped 7 (some FieldType.int) 1 := ⟨q2110, qs86, q161, q2111, by decide, by decide, by decide +kernel⟩
section M3
variable {E : xE} {G : xH} {c : Nat → Value} {n : Nat}
theorem M_in {x y z : Int64} : xMet E yX7_in cX7_in 6 (some FieldType.boolean) 0 0 0 [.long x, .long y, .long z] G (xrv (some (.int (b1 (inB x y z)))) G) := by
  refine xMet.of (lv := [some (.long x), none, some (.long y), none, some (.long z), none]) rfl rfl (Nat.le_of_ble_eq_true rfl) ?_
  refine xj_lload_n dX7_in_0 rfl ?_
  refine xj_lload_n dX7_in_1 rfl ?_
  refine xj_lcmp dX7_in_2 ?_
  refine xj_sI_if_lt (tgt := 17) (M := 18) dX7_in_3 rfl (fun c3 k => by
      refine xj_ic0 dX7_in_17 ?_
      exact k) (fun c3 k => by
      refine xj_lload_n dX7_in_6 rfl ?_
      refine xj_lload dX7_in_7 rfl ?_
      refine xj_lcmp dX7_in_9 ?_
      refine xj_sI_if_gt (tgt := 17) (M := 18) dX7_in_10 rfl (fun c10 k => by
          refine xj_ic0 dX7_in_17 ?_
          exact k) (fun c10 k => by
          refine xj_ic1 dX7_in_13 ?_
          refine xj_goto (tgt := 18) dX7_in_14 rfl ?_
          exact k) ?_
      exact k) ?_
  exact xj_ireturn dX7_in_18 rfl (by rw [c_in]; exact b1_nar _) (xrv_i (c_in x y z))
theorem M_isBelow {r r2 : Nat} (hv : mV c n G) (hr : r ∈ rws n) (hr2 : r2 ∈ rws n) : xMet E yX7_isBelow cX7_isBelow 3 (some FieldType.boolean) 2 0 0 [.ref 54, .int (nI r), .int (nI r2)] G (xrv (some (.int (b1 (subB n r r2)))) G) := by
  obtain ⟨hO, hf0, h1n, hn6, hPw, hWy⟩ := id hv
  refine xMet.of (lv := [some (.ref 54), some (.int (nI r)), some (.int (nI r2))]) rfl rfl (Nat.le_of_ble_eq_true rfl) ?_
  refine xj_aload_n dX7_isBelow_0 rfl rfl ?_
  refine xj_iload_n dX7_isBelow_1 rfl ?_
  refine xj_cV dX7_isBelow_2 q2108 kV_X7_swapped (M_swapped hv hr) hO rfl rfl rfl rfl (Nat.le_of_ble_eq_true rfl) ⟨(Nat.le_of_ble_eq_true rfl), (Nat.le_of_ble_eq_true rfl)⟩ (Nat.le_of_ble_eq_true rfl) (Nat.le_of_ble_eq_true rfl) ?_
  refine xj_aload_n dX7_isBelow_5 rfl rfl ?_
  refine xj_iload_n dX7_isBelow_6 rfl ?_
  refine xj_cV dX7_isBelow_7 q2108 kV_X7_swapped (M_swapped hv hr2) hO rfl rfl rfl rfl (Nat.le_of_ble_eq_true rfl) ⟨(Nat.le_of_ble_eq_true rfl), (Nat.le_of_ble_eq_true rfl)⟩ (Nat.le_of_ble_eq_true rfl) (Nat.le_of_ble_eq_true rfl) ?_
  refine xj_icm1 dX7_isBelow_10 ?_
  refine xj_ixor dX7_isBelow_11 ?_
  refine xj_iand dX7_isBelow_12 ?_
  refine xj_sI_if_ne (tgt := 20) (M := 21) dX7_isBelow_13 rfl (fun c13 k => by
      refine xj_ic0 dX7_isBelow_20 ?_
      exact k) (fun c13 k => by
      refine xj_ic1 dX7_isBelow_16 ?_
      refine xj_goto (tgt := 21) dX7_isBelow_17 rfl ?_
      exact k) ?_
  exact xj_ireturn dX7_isBelow_21 rfl b1_01 (xrv_i (by rw [b1_of]; congr 1; rw [subB, Bool.eq_iff_iff, decide_eq_true_iff, beq_iff_eq]; exact c_subI (Nat.lt_trans (inv_lt (by omega) hr) (by decide))))
theorem M_rank {r : Nat} (hv : mV c n G) (hr31 : r < 2 ^ 31) : xMet E yX7_rank cX7_rank 5 (some FieldType.int) 1 0 0 [.ref 54, .int (nI r)] G (xrv (some (.int (nI (rk n r)))) G) := by
  obtain ⟨hO, hf0, h1n, hn6, hPw, hWy⟩ := id hv
  refine xMet.of (lv := [some (.ref 54), some (.int (nI r)), none, none, none]) rfl rfl (Nat.le_of_ble_eq_true rfl) ?_
  refine xj_ic0 dX7_rank_0 ?_
  refine xj_istn2 dX7_rank_1 rfl ?_
  refine xj_ic0 dX7_rank_2 ?_
  refine xj_istn3 dX7_rank_3 rfl ?_
  have lp : ∀ (K : Nat) (p : Nat) (s : Nat), n - p < K → p ≤ n → lpN (fun p v => lpN (fun q v => v + (if dgt n r q < dgt n r p then wy (n - 1 - p) else 0)) (p + 1) (n - (p + 1)) v) p (n - p) s = rk n r → xJ E (yX7_rank, cX7_rank, 5, (some FieldType.int), []) (xR 1 0 0) (xrv (some (.int (nI (rk n r)))) G) 0 0 4 [some (.ref 54), some (.int (nI r)), some (.int (nI s)), some (.int (nI p)), none] [] G := by
    intro K
    induction K with
    | zero => intro p s h; exact absurd h (Nat.not_lt_zero _)
    | succ K ih_lp =>
      intro p s hK hp hs0
      refine xj_iload_n dX7_rank_4 rfl ?_
      refine xj_aload_n dX7_rank_5 rfl rfl ?_
      refine xj_get dX7_rank_6 K7 0 (by decide) q1929 hO (congrArg some hf0) ?_
      refine xj_icmp_ge (tgt := 74) dX7_rank_9 rfl (fun c9 => ?_) (fun c9 => ?_)
      · have hpn : n ≤ p := Nat.le_of_not_lt fun h => absurd c9 (nI_ge h (by omega))
        refine xj_iload_n dX7_rank_74 rfl ?_
        exact xj_ireturn dX7_rank_75 rfl rfl (xrv_i (by rw [← hs0, lp_end _ hpn]))
      · have hpn : p < n := Nat.lt_of_not_le fun h => c9 (nI_le h (by omega))
        refine xj_iload_n dX7_rank_12 rfl ?_
        refine xj_ic1 dX7_rank_13 ?_
        refine xj_iadd dX7_rank_14 ?_
        rw [nI_1]
        refine xj_ist4 dX7_rank_15 rfl ?_
        have lq : ∀ (K : Nat) (q : Nat) (s : Nat), n - q < K → p < q ∧ q ≤ n → lpN (fun p v => lpN (fun q v => v + (if dgt n r q < dgt n r p then wy (n - 1 - p) else 0)) (p + 1) (n - (p + 1)) v) (p + 1) (n - (p + 1)) (lpN (fun q v => v + (if dgt n r q < dgt n r p then wy (n - 1 - p) else 0)) q (n - q) s) = rk n r → xJ E (yX7_rank, cX7_rank, 5, (some FieldType.int), []) (xR 1 0 0) (xrv (some (.int (nI (rk n r)))) G) 0 0 17 [some (.ref 54), some (.int (nI r)), some (.int (nI s)), some (.int (nI p)), some (.int (nI q))] [] G := by
          intro K
          induction K with
          | zero => intro q s h; exact absurd h (Nat.not_lt_zero _)
          | succ K ih_lq =>
            intro q s hK hq hs
            refine xj_iload dX7_rank_17 rfl ?_
            refine xj_aload_n dX7_rank_19 rfl rfl ?_
            refine xj_get dX7_rank_20 K7 0 (by decide) q1929 hO (congrArg some hf0) ?_
            refine xj_icmp_ge (tgt := 68) dX7_rank_23 rfl (fun c23 => ?_) (fun c23 => ?_)
            · have hqn : n ≤ q := Nat.le_of_not_lt fun h => absurd c23 (nI_ge h (by omega))
              refine xj_iinc3 (cst := 1) dX7_rank_68 rfl rfl ?_
              rw [nI_1]
              refine xj_goto (tgt := 4) dX7_rank_71 rfl ?_
              exact xj_fg4 (ih_lp (p + 1) _ (by omega) (by omega) (by rw [← hs, lp_end _ hqn]))
            · have hqn : q < n := Nat.lt_of_not_le fun h => c23 (nI_le h (by omega))
              refine xj_iload_n dX7_rank_26 rfl ?_
              refine xj_aload_n dX7_rank_27 rfl rfl ?_
              refine xj_iload_n dX7_rank_28 rfl ?_
              refine xj_iload dX7_rank_29 rfl ?_
              refine xj_cV dX7_rank_31 q2100 kV_X7_digit (M_digit hv hr31 (by omega)) hO rfl rfl rfl rfl (Nat.le_of_ble_eq_true rfl) ⟨(Nat.le_of_ble_eq_true rfl), (Nat.le_of_ble_eq_true rfl)⟩ (Nat.le_of_ble_eq_true rfl) (Nat.le_of_ble_eq_true rfl) ?_
              refine xj_aload_n dX7_rank_34 rfl rfl ?_
              refine xj_iload_n dX7_rank_35 rfl ?_
              refine xj_iload_n dX7_rank_36 rfl ?_
              refine xj_cV dX7_rank_37 q2100 kV_X7_digit (M_digit hv hr31 (by omega)) hO rfl rfl rfl rfl (Nat.le_of_ble_eq_true rfl) ⟨(Nat.le_of_ble_eq_true rfl), (Nat.le_of_ble_eq_true rfl)⟩ (Nat.le_of_ble_eq_true rfl) (Nat.le_of_ble_eq_true rfl) ?_
              refine xj_sI_icmp_ge (tgt := 59) (M := 60) dX7_rank_40 rfl (fun c40 k => by
                  refine xj_ic0 dX7_rank_59 ?_
                  exact k) (fun c40 k => by
                  refine xj_aload_n dX7_rank_43 rfl rfl ?_
                  refine xj_get dX7_rank_44 K7 19 (by decide) q1948 hO rfl ?_
                  refine xj_aload_n dX7_rank_47 rfl rfl ?_
                  refine xj_get dX7_rank_48 K7 0 (by decide) q1929 hO (congrArg some hf0) ?_
                  refine xj_ic1 dX7_rank_51 ?_
                  refine xj_isub dX7_rank_52 ?_
                  refine xj_iload_n dX7_rank_53 rfl ?_
                  refine xj_isub dX7_rank_54 ?_
                  refine xj_iald dX7_rank_55 hWy (by rw [nI_sub1 h1n, pk_sub (by omega)]) (by omega) (wayL_at (by omega)) ?_
                  refine xj_goto (tgt := 60) dX7_rank_56 rfl ?_
                  exact k) ?_
              refine xj_top (c_way (Nat.lt_trans (dgt_lt _ _ _) (by decide)) (Nat.lt_trans (dgt_lt _ _ _) (by decide))) ?_
              refine xj_iadd dX7_rank_60 ?_
              rw [nI_add]
              refine xj_istn2 dX7_rank_61 rfl ?_
              refine xj_iinc4 (cst := 1) dX7_rank_62 rfl rfl ?_
              rw [nI_1]
              refine xj_goto (tgt := 17) dX7_rank_65 rfl ?_
              exact ih_lq (q + 1) _ (by omega) (by omega) (by rw [← hs, lp_step _ hqn])
        exact lq (n + 1) (p + 1) s (by omega) (by omega) (by rw [← hs0, lp_step _ hpn])
  exact lp (n + 1) 0 0 (by omega) (by omega) rfl
theorem M_drops {r : Nat} (hv : mV c n G) (hr31 : r < 2 ^ 31) : xMet E yX7_drops cX7_drops 4 (some FieldType.int) 2 0 0 [.ref 54, .int (nI r)] G (xrv (some (.int (nI (drp n r)))) G) := by
  obtain ⟨hO, hf0, h1n, hn6, hPw, hWy⟩ := id hv
  refine xMet.of (lv := [some (.ref 54), some (.int (nI r)), none, none]) rfl rfl (Nat.le_of_ble_eq_true rfl) ?_
  refine xj_ic0 dX7_drops_0 ?_
  refine xj_istn2 dX7_drops_1 rfl ?_
  refine xj_ic0 dX7_drops_2 ?_
  refine xj_istn3 dX7_drops_3 rfl ?_
  have lp : ∀ (K : Nat) (p : Nat) (s : Nat), n - 1 - p < K → p ≤ n - 1 → lpN (fun p s => s ||| (if dgt n r (p + 1) < dgt n r p then 2 ^ p else 0)) p (n - 1 - p) s = drp n r → xJ E (yX7_drops, cX7_drops, 4, (some FieldType.int), []) (xR 2 0 0) (xrv (some (.int (nI (drp n r)))) G) 0 0 4 [some (.ref 54), some (.int (nI r)), some (.int (nI s)), some (.int (nI p))] [] G := by
    intro K
    induction K with
    | zero => intro p s h; exact absurd h (Nat.not_lt_zero _)
    | succ K ih_lp =>
      intro p s hK hp hs
      refine xj_iload_n dX7_drops_4 rfl ?_
      refine xj_aload_n dX7_drops_5 rfl rfl ?_
      refine xj_get dX7_drops_6 K7 0 (by decide) q1929 hO (congrArg some hf0) ?_
      refine xj_ic1 dX7_drops_9 ?_
      refine xj_isub dX7_drops_10 ?_
      refine xj_top (nI_sub1 h1n) ?_
      refine xj_icmp_ge (tgt := 39) dX7_drops_11 rfl (fun c11 => ?_) (fun c11 => ?_)
      · have hpn : n - 1 ≤ p := Nat.le_of_not_lt fun h => absurd c11 (nI_ge h (by omega))
        refine xj_iload_n dX7_drops_39 rfl ?_
        exact xj_ireturn dX7_drops_40 rfl rfl (xrv_i (by rw [← hs, lp_end _ hpn]))
      · have hpn : p < n - 1 := Nat.lt_of_not_le fun h => c11 (nI_le h (by omega))
        refine xj_iload_n dX7_drops_14 rfl ?_
        refine xj_aload_n dX7_drops_15 rfl rfl ?_
        refine xj_iload_n dX7_drops_16 rfl ?_
        refine xj_iload_n dX7_drops_17 rfl ?_
        refine xj_cV dX7_drops_18 q2144 kV_X7_isDrop (M_isDrop hv hr31 (by omega)) hO rfl rfl rfl rfl (Nat.le_of_ble_eq_true rfl) ⟨(Nat.le_of_ble_eq_true rfl), (Nat.le_of_ble_eq_true rfl)⟩ (Nat.le_of_ble_eq_true rfl) (Nat.le_of_ble_eq_true rfl) ?_
        refine xj_sI_if_eq (tgt := 30) (M := 31) dX7_drops_21 rfl (fun c21 k => by
            refine xj_ic0 dX7_drops_30 ?_
            exact k) (fun c21 k => by
            refine xj_ic1 dX7_drops_24 ?_
            refine xj_iload_n dX7_drops_25 rfl ?_
            refine xj_ishl dX7_drops_26 ?_
            refine xj_goto (tgt := 31) dX7_drops_27 rfl ?_
            exact k) ?_
        refine xj_top (c_drp (by omega)) ?_
        refine xj_ior dX7_drops_31 ?_
        rw [nI_or]
        refine xj_istn2 dX7_drops_32 rfl ?_
        refine xj_iinc3 (cst := 1) dX7_drops_33 rfl rfl ?_
        rw [nI_1]
        refine xj_goto (tgt := 4) dX7_drops_36 rfl ?_
        exact ih_lp (p + 1) _ (by omega) (by omega) (by rw [← hs, lp_step _ hpn]; simp only [decide_eq_true_eq])
  exact lp n 0 0 (by omega) (by omega) rfl
theorem M_placeOf {r v : Nat} (hv : mV c n G) (hr31 : r < 2 ^ 31) (hv31 : v < 2 ^ 31) (hlt : plc n r v n 0 < n) : xMet E yX7_placeOf cX7_placeOf 4 (some FieldType.int) 1 0 0 [.ref 54, .int (nI r), .int (nI v)] G (xrv (some (.int (nI (plc n r v n 0)))) G) := by
  obtain ⟨hO, hf0, h1n, hn6, hPw, hWy⟩ := id hv
  refine xMet.of (lv := [some (.ref 54), some (.int (nI r)), some (.int (nI v)), none]) rfl rfl (Nat.le_of_ble_eq_true rfl) ?_
  refine xj_ic0 dX7_placeOf_0 ?_
  refine xj_istn3 dX7_placeOf_1 rfl ?_
  have lp : ∀ (K : Nat) (k : Nat) (p : Nat), k < K → p + k = n → plc n r v k p = plc n r v n 0 → xJ E (yX7_placeOf, cX7_placeOf, 4, (some FieldType.int), []) (xR 1 0 0) (xrv (some (.int (nI (plc n r v n 0)))) G) 0 0 2 [some (.ref 54), some (.int (nI r)), some (.int (nI v)), some (.int (nI p))] [] G := by
    intro K
    induction K with
    | zero => intro k p h; exact absurd h (Nat.not_lt_zero _)
    | succ K ih_lp =>
      intro k p hK hk hs
      have hpn : p < n := Nat.lt_of_le_of_lt (by rw [← hs]; exact plc_ge n r v k p) hlt
      obtain ⟨k, rfl⟩ : ∃ k0, k = k0 + 1 := ⟨k - 1, by omega⟩
      have hs : (if dgt n r p = v then p else plc n r v k (p + 1)) = plc n r v n 0 := hs
      refine xj_aload_n dX7_placeOf_2 rfl rfl ?_
      refine xj_iload_n dX7_placeOf_3 rfl ?_
      refine xj_iload_n dX7_placeOf_4 rfl ?_
      refine xj_cV dX7_placeOf_5 q2100 kV_X7_digit (M_digit hv hr31 hpn) hO rfl rfl rfl rfl (Nat.le_of_ble_eq_true rfl) ⟨(Nat.le_of_ble_eq_true rfl), (Nat.le_of_ble_eq_true rfl)⟩ (Nat.le_of_ble_eq_true rfl) (Nat.le_of_ble_eq_true rfl) ?_
      refine xj_iload_n dX7_placeOf_8 rfl ?_
      refine xj_icmp_eq (tgt := 18) dX7_placeOf_9 rfl (fun c9 => ?_) (fun c9 => ?_)
      · rw [if_pos ((nI_eq (Nat.lt_trans (dgt_lt _ _ _) (by decide)) (by omega)).mp c9)] at hs
        refine xj_iload_n dX7_placeOf_18 rfl ?_
        exact xj_ireturn dX7_placeOf_19 rfl rfl (xrv_i (by rw [hs]))
      · rw [if_neg (fun q => c9 (by rw [q]))] at hs
        refine xj_iinc3 (cst := 1) dX7_placeOf_12 rfl rfl ?_
        rw [nI_1]
        refine xj_goto (tgt := 2) dX7_placeOf_15 rfl ?_
        exact ih_lp k (p + 1) (by omega) (by omega) hs
  exact lp (n + 1) n 0 (by omega) (by omega) rfl
end M3
