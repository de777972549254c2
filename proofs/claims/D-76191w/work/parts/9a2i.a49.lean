/-! ===== the class: words wanted, figures, names ===== -/
set_option maxRecDepth 100000
theorem kV_X0_faultHere : xsV yX0_faultHere cX0_faultHere 1 (some (FieldType.object "CoarserOrders$Refusal")) 0 := ⟨q1118, qs46, q151, q1119, by decide, by decide, by decide +kernel⟩
theorem kV_X0_goesOn : xsV yX0_goesOn cX0_goesOn 2 (some FieldType.boolean) 1 := ⟨q1043, qs43, q151, q1044, by decide, by decide, by decide +kernel⟩
theorem kV_X0_isName : xsV yX0_isName cX0_isName 3 (some FieldType.boolean) 1 := ⟨q1047, qs44, q151, q1048, by decide, by decide, by decide +kernel⟩
theorem kV_X0_next : xsV yX0_next cX0_next 4 none 0 := ⟨q1020, qs39, q151, q1021, by decide, by decide, by decide +kernel⟩
theorem kU_X2_X2_X1_of : xsU "CoarserOrders$Fault" "CoarserOrders$Refusal" ⟨"CoarserOrders$Fault", "of", "(I)LCoarserOrders$Refusal;"⟩ yX1_of cX1_of 2 (some (FieldType.object "CoarserOrders$Refusal")) 1 := ⟨q1121, Or.inl q1122, q1123, q1124, q155, q1125, by decide, by decide +kernel⟩
def gtE (G : xH) (d : Nat → Value) (tp : List Nat) (e : Nat) : xH := G.set 0 (cO 0 (cFs (dT d (nxF tp e) (nxT tp e))))
theorem gtE_0 {G : xH} {d : Nat → Value} {tp : List Nat} {e : Nat} {x : xC} (h : G[0]? = some x) : (gtE G d tp e)[0]? = some (cO 0 (cFs (dT d (nxF tp e) (nxT tp e)))) := gset_self h
theorem gtE_o {G : xH} {d : Nat → Value} {tp : List Nat} {e i : Nat} (h : 0 ≠ i) : (gtE G d tp e)[i]? = G[i]? := List.getElem?_set_ne h
theorem gtE_2 {G : xH} {d : Nat → Value} {tp : List Nat} {e e2 : Nat} : gtE (gtE G d tp e) d tp e2 = gtE G d tp e2 := gset_set
theorem gtE_len {G : xH} {d : Nat → Value} {tp : List Nat} {e : Nat} : (gtE G d tp e).length = G.length := List.length_set
theorem sb_nI : ∀ b, b < 128 → sb b = nI b := by decide +kernel
theorem nmN {k : Nat} (h : k ≤ 5) : (UInt32.ofNat k).toNat = k := UInt32.toNat_ofNat_of_lt' (by show k < 4294967296; omega)
theorem nm_at {k : Nat} (h : k < 5) : ([.float 0, .float 1, .float 2, .float 3, .float 4] : List Value)[k]? = some (.float (UInt32.ofNat k)) := by
  match k, h with
  | 0, _ => rfl
  | 1, _ => rfl
  | 2, _ => rfl
  | 3, _ => rfl
  | 4, _ => rfl
/-- at most one name stands there -/
theorem fct_pos {tp : List Nat} {e : Nat} (h : fct tp e < 0) : ∃ i, i < 5 ∧ isW tp e i = true ∧ fct tp e = -1 - nI i ∧ ∀ j, j < 5 → j ≠ i → isW tp e j = false := by
  have key : ∀ i, i < 5 → isW tp e i = true → ∀ j, j < 5 → j ≠ i → isW tp e j = false := fun i hi hw j hj hn => by
    cases hc : isW tp e j with
    | false => rfl
    | true =>
      unfold isW at hw hc
      have e2 : wrd i = wrd j := (beq_iff_eq.mp hw).symm.trans (beq_iff_eq.mp hc)
      exact absurd e2 ((by decide : ∀ i, i < 5 → ∀ j, j < 5 → j ≠ i → wrd i ≠ wrd j) i hi j hj hn)
  unfold fct at h ⊢
  by_cases h0 : isW tp e 0 = true
  · exact ⟨0, by decide, h0, by rw [if_pos h0]; decide, key 0 (by decide) h0⟩
  rw [if_neg h0] at h ⊢
  by_cases h1 : isW tp e 1 = true
  · exact ⟨1, by decide, h1, by rw [if_pos h1]; decide, key 1 (by decide) h1⟩
  rw [if_neg h1] at h ⊢
  by_cases h2 : isW tp e 2 = true
  · exact ⟨2, by decide, h2, by rw [if_pos h2]; decide, key 2 (by decide) h2⟩
  rw [if_neg h2] at h ⊢
  by_cases h3 : isW tp e 3 = true
  · exact ⟨3, by decide, h3, by rw [if_pos h3]; decide, key 3 (by decide) h3⟩
  rw [if_neg h3] at h ⊢
  by_cases h4 : isW tp e 4 = true
  · exact ⟨4, by decide, h4, by rw [if_pos h4]; decide, key 4 (by decide) h4⟩
  rw [if_neg h4] at h
  exact absurd h (by decide)
theorem fct_none {tp : List Nat} {e : Nat} (h : ¬ fct tp e < 0) : ∀ j, j < 5 → isW tp e j = false := by
  have h0 : isW tp e 0 = false := by cases hc : isW tp e 0 with | false => rfl | true => exact absurd (by unfold fct; rw [if_pos hc]; decide) h
  have h1 : isW tp e 1 = false := by cases hc : isW tp e 1 with | false => rfl | true => exact absurd (by unfold fct; rw [h0, if_neg (by decide), if_pos hc]; decide) h
  have h2 : isW tp e 2 = false := by cases hc : isW tp e 2 with | false => rfl | true => exact absurd (by unfold fct; rw [h0, if_neg (by decide), h1, if_neg (by decide), if_pos hc]; decide) h
  have h3 : isW tp e 3 = false := by cases hc : isW tp e 3 with | false => rfl | true => exact absurd (by unfold fct; rw [h0, if_neg (by decide), h1, if_neg (by decide), h2, if_neg (by decide), if_pos hc]; decide) h
  have h4 : isW tp e 4 = false := by cases hc : isW tp e 4 with | false => rfl | true => exact absurd (by unfold fct; rw [h0, if_neg (by decide), h1, if_neg (by decide), h2, if_neg (by decide), h3, if_neg (by decide), if_pos hc]; decide) h
  intro j hj
  match j, hj with
  | 0, _ => exact h0
  | 1, _ => exact h1
  | 2, _ => exact h2
  | 3, _ => exact h3
  | 4, _ => exact h4
section A49
variable {E : xE} {G : xH} {d : Nat → Value} {n : Nat}
theorem A_goesOnWY {u : UInt32} {e : Nat} {tp : List Nat} {LT : List Int32}  (hO : G[0]? = some (cO 0 (cFs (dT d (nxF tp e) (nxT tp e))))) (hd17 : d 17 = .int (nI tp.length)) (h19 : G[19]? = some (cI 1 LT)) (hLT : tpB LT tp) (he : e ≤ tp.length) (hu : u.toNat < 13) (hw : isW tp e u.toNat = true) : xMet E yX0_goesOn cX0_goesOn 2 (some FieldType.boolean) 5 0 0 [.ref 0, .float u] G (xrv (some (.int (b1 true))) (gtE G d tp (nxT tp e))) := by
  have htp := hLT.2.1
  have hl200 := hLT.1
  have hnb := nxT_b he
  have hnf := nxF_b he
  refine xMet.of (lv := [some (.ref 0), some (.float u)]) rfl rfl (Nat.le_of_ble_eq_true rfl) ?_
  refine xj_aload_n dX0_goesOn_0 rfl rfl ?_
  refine xj_aload_n dX0_goesOn_1 rfl rfl ?_
  refine xj_cV dX0_goesOn_2 q1045 kV_X0_isName (A_isName hO hd17 h19 hLT hu he) hO rfl rfl rfl rfl (Nat.le_of_ble_eq_true rfl) ⟨(Nat.le_of_ble_eq_true rfl), (Nat.le_of_ble_eq_true rfl)⟩ (Nat.le_of_ble_eq_true rfl) (Nat.le_of_ble_eq_true rfl) ?_
  refine xj_if_ne (tgt := 10) dX0_goesOn_5 rfl (fun c5 => ?_) (fun c5 => absurd c5 (by rw [hw]; decide))
  refine xj_aload_n dX0_goesOn_10 rfl rfl ?_
  refine xj_cV dX0_goesOn_11 q1018 kV_X0_next (A_next hO hd17 h19 hLT hnb.2) hO rfl rfl rfl rfl (Nat.le_of_ble_eq_true rfl) ⟨(Nat.le_of_ble_eq_true rfl), (Nat.le_of_ble_eq_true rfl)⟩ (Nat.le_of_ble_eq_true rfl) (Nat.le_of_ble_eq_true rfl) ?_
  refine xj_ic1 dX0_goesOn_14 ?_
  exact xj_ireturn dX0_goesOn_15 rfl rfl ⟨rfl, rfl⟩
theorem A_goesOnWN {u : UInt32} {e : Nat} {tp : List Nat} {LT : List Int32}  (hO : G[0]? = some (cO 0 (cFs (dT d (nxF tp e) (nxT tp e))))) (hd17 : d 17 = .int (nI tp.length)) (h19 : G[19]? = some (cI 1 LT)) (hLT : tpB LT tp) (he : e ≤ tp.length) (hu : u.toNat < 13) (hw : isW tp e u.toNat = false) : xMet E yX0_goesOn cX0_goesOn 2 (some FieldType.boolean) 5 0 0 [.ref 0, .float u] G (xrv (some (.int (b1 false))) G) := by
  have htp := hLT.2.1
  have hl200 := hLT.1
  have hnb := nxT_b he
  have hnf := nxF_b he
  refine xMet.of (lv := [some (.ref 0), some (.float u)]) rfl rfl (Nat.le_of_ble_eq_true rfl) ?_
  refine xj_aload_n dX0_goesOn_0 rfl rfl ?_
  refine xj_aload_n dX0_goesOn_1 rfl rfl ?_
  refine xj_cV dX0_goesOn_2 q1045 kV_X0_isName (A_isName hO hd17 h19 hLT hu he) hO rfl rfl rfl rfl (Nat.le_of_ble_eq_true rfl) ⟨(Nat.le_of_ble_eq_true rfl), (Nat.le_of_ble_eq_true rfl)⟩ (Nat.le_of_ble_eq_true rfl) (Nat.le_of_ble_eq_true rfl) ?_
  refine xj_if_ne (tgt := 10) dX0_goesOn_5 rfl (fun c5 => absurd (by rw [hw]; rfl) c5) (fun c5 => ?_)
  refine xj_ic0 dX0_goesOn_8 ?_
  exact xj_ireturn dX0_goesOn_9 rfl rfl ⟨rfl, rfl⟩
theorem A_faultHere {r : Nat → Value} {fv : Int32} {e : Nat} {tp : List Nat} {LT : List Int32}  (hO : G[0]? = some (cO 0 (cFs (dT d (nxF tp e) (nxT tp e))))) (hd17 : d 17 = .int (nI tp.length)) (h19 : G[19]? = some (cI 1 LT)) (hLT : tpB LT tp) (he : e ≤ tp.length) (hF : G[2]? = some (cO 2 (rFs r (.int fv)))) : xMet E yX0_faultHere cX0_faultHere 1 (some (FieldType.object "CoarserOrders$Refusal")) 1 0 0 [.ref 0] G (xrv (some (.ref 2)) (G.set 2 (cO 2 (rFs r (.int (nI (nxF tp e))))))) := by
  refine xMet.of (lv := [some (.ref 0)]) rfl rfl (Nat.le_of_ble_eq_true rfl) ?_
  refine xj_aload_n dX0_faultHere_0 rfl rfl ?_
  refine xj_get dX0_faultHere_1 K0 1 (by decide) q469 hO rfl ?_
  refine xj_aload_n dX0_faultHere_4 rfl rfl ?_
  refine xj_get dX0_faultHere_5 K0 18 (by decide) q487 hO rfl ?_
  refine xj_cU dX0_faultHere_8 q1120 kU_X2_X2_X1_of (A_of2 hF) hF rfl rfl rfl (Nat.le_of_ble_eq_true rfl) ⟨(Nat.le_of_ble_eq_true rfl), (Nat.le_of_ble_eq_true rfl)⟩ (Nat.le_of_ble_eq_true rfl) (Nat.le_of_ble_eq_true rfl) ?_
  exact xj_areturn dX0_faultHere_11 rfl (Or.inl ⟨_, rfl⟩) rfl ⟨rfl, rfl⟩
theorem A_wantY {u : UInt32} {e : Nat} {tp : List Nat} {LT : List Int32}  (hO : G[0]? = some (cO 0 (cFs (dT d (nxF tp e) (nxT tp e))))) (hd17 : d 17 = .int (nI tp.length)) (h19 : G[19]? = some (cI 1 LT)) (hLT : tpB LT tp) (he : e ≤ tp.length) (hu : u.toNat < 13) (hw : isW tp e u.toNat = true) : xMet E yX0_want cX0_want 2 none 6 0 0 [.ref 0, .float u] G (xrv none (gtE G d tp (nxT tp e))) := by
  refine xMet.of (lv := [some (.ref 0), some (.float u)]) rfl rfl (Nat.le_of_ble_eq_true rfl) ?_
  refine xj_aload_n dX0_want_0 rfl rfl ?_
  refine xj_aload_n dX0_want_1 rfl rfl ?_
  refine xj_cV dX0_want_2 q1041 kV_X0_goesOn (A_goesOnWY hO hd17 h19 hLT he hu hw) hO rfl rfl rfl rfl (Nat.le_of_ble_eq_true rfl) ⟨(Nat.le_of_ble_eq_true rfl), (Nat.le_of_ble_eq_true rfl)⟩ (Nat.le_of_ble_eq_true rfl) (Nat.le_of_ble_eq_true rfl) ?_
  refine xj_if_ne (tgt := 13) dX0_want_5 rfl (fun c5 => ?_) (fun c5 => absurd c5 (by decide))
  exact xj_return dX0_want_13 rfl ⟨rfl, rfl⟩
theorem A_wantN {r : Nat → Value} {fv : Int32} {u : UInt32} {e : Nat} {tp : List Nat} {LT : List Int32}  (hO : G[0]? = some (cO 0 (cFs (dT d (nxF tp e) (nxT tp e))))) (hd17 : d 17 = .int (nI tp.length)) (h19 : G[19]? = some (cI 1 LT)) (hLT : tpB LT tp) (he : e ≤ tp.length) (hF : G[2]? = some (cO 2 (rFs r (.int fv)))) (hu : u.toNat < 13) (hw : isW tp e u.toNat = false) : xMet E yX0_want cX0_want 2 none 6 0 0 [.ref 0, .float u] G (xth "CoarserOrders$Fault" (some (.ref 2)) (fun G' => G' = G.set 2 (cO 2 (rFs r (.int (nI (nxF tp e))))))) := by
  refine xMet.of (lv := [some (.ref 0), some (.float u)]) rfl rfl (Nat.le_of_ble_eq_true rfl) ?_
  refine xj_aload_n dX0_want_0 rfl rfl ?_
  refine xj_aload_n dX0_want_1 rfl rfl ?_
  refine xj_cV dX0_want_2 q1041 kV_X0_goesOn (A_goesOnWN hO hd17 h19 hLT he hu hw) hO rfl rfl rfl rfl (Nat.le_of_ble_eq_true rfl) ⟨(Nat.le_of_ble_eq_true rfl), (Nat.le_of_ble_eq_true rfl)⟩ (Nat.le_of_ble_eq_true rfl) (Nat.le_of_ble_eq_true rfl) ?_
  refine xj_if_ne (tgt := 13) dX0_want_5 rfl (fun c5 => absurd rfl c5) (fun c5 => ?_)
  refine xj_aload_n dX0_want_8 rfl rfl ?_
  refine xj_cV dX0_want_9 q1116 kV_X0_faultHere (A_faultHere hO hd17 h19 hLT he hF) hO rfl rfl rfl rfl (Nat.le_of_ble_eq_true rfl) ⟨(Nat.le_of_ble_eq_true rfl), (Nat.le_of_ble_eq_true rfl)⟩ (Nat.le_of_ble_eq_true rfl) (Nat.le_of_ble_eq_true rfl) ?_
  exact xj_athrow dX0_want_12 (gset_self hF) rfl (xjT_out (fun _ hx => by cases hx) ⟨rfl, rfl⟩)
theorem A_figureY {e : Nat} {tp : List Nat} {LT : List Int32}  (hO : G[0]? = some (cO 0 (cFs (dT d (nxF tp e) (nxT tp e))))) (hd17 : d 17 = .int (nI tp.length)) (h19 : G[19]? = some (cI 1 LT)) (hLT : tpB LT tp) (he : e ≤ tp.length) (hnum : numB tp e = true) : xMet E yX0_figure cX0_figure 4 (some FieldType.int) 3 0 0 [.ref 0] G (xrv (some (.int (nI (pNum tp e)))) (gtE G d tp (nxT tp e))) := by
  have htp := hLT.2.1
  have hl200 := hLT.1
  have hnb := nxT_b he
  have hnf := nxF_b he
  have hnum2 := hnum
  unfold numB at hnum2
  rw [Bool.and_eq_true, Bool.and_eq_true, decide_eq_true_eq, decide_eq_true_eq] at hnum2
  obtain ⟨hlt, hd0, hlen⟩ := hnum2
  have hnt := nxT_lt hlt
  refine xMet.of (lv := [some (.ref 0), none, none, none]) rfl rfl (Nat.le_of_ble_eq_true rfl) ?_
  refine xj_aload_n dX0_figure_0 rfl rfl ?_
  refine xj_get dX0_figure_1 K0 19 (by decide) q488 hO rfl ?_
  refine xj_aload_n dX0_figure_4 rfl rfl ?_
  refine xj_get dX0_figure_5 K0 18 (by decide) q487 hO rfl ?_
  refine xj_isub dX0_figure_8 ?_
  rw [pk_sub hnb.1]
  refine xj_istn1 dX0_figure_9 rfl ?_
  refine xj_iload_n dX0_figure_10 rfl ?_
  refine xj_ic1 dX0_figure_11 ?_
  refine xj_icmp_lt (tgt := 35) dX0_figure_12 rfl (fun c12 => absurd c12 (Int32.not_lt.mpr (nI_le (a := 1) (by omega) (by omega)))) (fun c12 => ?_)
  refine xj_iload_n dX0_figure_15 rfl ?_
  refine xj_ic4 dX0_figure_16 ?_
  refine xj_icmp_gt (tgt := 35) dX0_figure_17 rfl (fun c17 => absurd c17 (Int32.not_lt.mpr (nI_le (b := 4) hlen (by decide)))) (fun c17 => ?_)
  refine xj_aload_n dX0_figure_20 rfl rfl ?_
  refine xj_get dX0_figure_21 K0 16 (by decide) q485 hO rfl ?_
  refine xj_aload_n dX0_figure_24 rfl rfl ?_
  refine xj_get dX0_figure_25 K0 18 (by decide) q487 hO rfl ?_
  refine xj_bald dX0_figure_28 h19 rfl (by omega) (tpB_at hLT hlt).1 ?_
  refine xj_cS dX0_figure_29 q1025 kS_X0_isDigit (A_isDigit (tpB_at hLT hlt).2) rfl rfl (Nat.le_of_ble_eq_true rfl) ⟨(Nat.le_of_ble_eq_true rfl), (Nat.le_of_ble_eq_true rfl)⟩ (Nat.le_of_ble_eq_true rfl) (Nat.le_of_ble_eq_true rfl) ?_
  refine xj_if_ne (tgt := 40) dX0_figure_32 rfl (fun c32 => ?_) (fun c32 => absurd c32 (by rw [hd0]; decide))
  refine xj_ic0 dX0_figure_40 ?_
  refine xj_istn2 dX0_figure_41 rfl ?_
  refine xj_aload_n dX0_figure_42 rfl rfl ?_
  refine xj_get dX0_figure_43 K0 18 (by decide) q487 hO rfl ?_
  refine xj_istn3 dX0_figure_46 rfl ?_
  have lp : ∀ (K : Nat) (k : Nat) (p : Nat) (v : Nat), k < K → (p + k = nxT tp e) → (nxF tp e ≤ p) → (v < 10 ^ (p - nxF tp e)) → (dgF tp k p v = pNum tp e) → xJ E (yX0_figure, cX0_figure, 4, (some FieldType.int), []) (xR 3 0 0) (xrv (some (.int (nI (pNum tp e)))) (gtE G d tp (nxT tp e))) 0 0 47 [some (.ref 0), some (.int (nI (nxT tp e - nxF tp e))), some (.int (nI v)), some (.int (nI p))] [] G := by
    intro K
    induction K with
    | zero => intro k p v h; exact absurd h (Nat.not_lt_zero _)
    | succ K ih_lp =>
      intro k p v hK hk hpe hv hs
      refine xj_iload_n dX0_figure_47 rfl ?_
      refine xj_aload_n dX0_figure_48 rfl rfl ?_
      refine xj_get dX0_figure_49 K0 19 (by decide) q488 hO rfl ?_
      refine xj_icmp_ge (tgt := 76) dX0_figure_52 rfl (fun c52 => ?_) (fun c52 => ?_)
      · have hk0 : k = 0 := by have := Nat.le_of_not_lt fun h => absurd c52 (nI_ge h (by omega)); omega
        subst hk0
        have hs : v = pNum tp e := hs
        subst hs
        refine xj_aload_n dX0_figure_76 rfl rfl ?_
        refine xj_cV dX0_figure_77 q1018 kV_X0_next (A_next hO hd17 h19 hLT hnb.2) hO rfl rfl rfl rfl (Nat.le_of_ble_eq_true rfl) ⟨(Nat.le_of_ble_eq_true rfl), (Nat.le_of_ble_eq_true rfl)⟩ (Nat.le_of_ble_eq_true rfl) (Nat.le_of_ble_eq_true rfl) ?_
        refine xj_iload_n dX0_figure_80 rfl ?_
        exact xj_ireturn dX0_figure_81 rfl rfl ⟨rfl, rfl⟩
      · obtain ⟨k, rfl⟩ : ∃ k0, k = k0 + 1 := ⟨k - 1, by have : k ≠ 0 := fun h => c52 (nI_le (by omega) (by omega)); omega⟩
        have hta := tpB_at hLT (p := p) (by omega)
        have hdg := dgs_dig he hnum (p := p) hpe (by omega)
        have h104 : 10 ^ (p - nxF tp e + 1) ≤ 10 ^ 4 := Nat.pow_le_pow_right (by decide) (by omega)
        have h10 : 10 ^ (p - nxF tp e + 1) = 10 * 10 ^ (p - nxF tp e) := by rw [Nat.pow_succ, Nat.mul_comm]
        refine xj_bipush (v := 10) dX0_figure_55 rfl ?_
        refine xj_iload_n dX0_figure_57 rfl ?_
        refine xj_imul dX0_figure_58 ?_
        refine xj_aload_n dX0_figure_59 rfl rfl ?_
        refine xj_get dX0_figure_60 K0 16 (by decide) q485 hO rfl ?_
        refine xj_iload_n dX0_figure_63 rfl ?_
        refine xj_bald dX0_figure_64 h19 rfl (by omega) hta.1 ?_
        refine xj_iadd dX0_figure_65 ?_
        refine xj_bipush (v := 48) dX0_figure_66 rfl ?_
        refine xj_isub dX0_figure_68 ?_
        refine xj_top (show (10 : Int32) * nI v + sb (tp.getD p 0) - 48 = nI (10 * v + (tp.getD p 0 - 48)) by rw [sb_nI _ (by omega), show (10 : Int32) * nI v = nI (10 * v) from (Int32.ofNat_mul 10 v).symm, nI_add, show (48 : Int32) = nI 48 from rfl, pk_sub (by omega)]; congr 1; omega) ?_
        refine xj_istn2 dX0_figure_69 rfl ?_
        refine xj_iinc3 (cst := 1) dX0_figure_70 rfl rfl ?_
        rw [nI_1]
        refine xj_goto (tgt := 47) dX0_figure_73 rfl ?_
        exact ih_lp k (p + 1) _ (by omega) (by omega) (by omega) (by rw [show p + 1 - nxF tp e = p - nxF tp e + 1 by omega]; omega) hs
  exact lp (tp.length + 1) (nxT tp e - nxF tp e) (nxF tp e) 0 (by omega) (by omega) (Nat.le_refl _) (by rw [Nat.sub_self]; decide) rfl
theorem A_figureN {r : Nat → Value} {fv : Int32} {e : Nat} {tp : List Nat} {LT : List Int32}  (hO : G[0]? = some (cO 0 (cFs (dT d (nxF tp e) (nxT tp e))))) (hd17 : d 17 = .int (nI tp.length)) (h19 : G[19]? = some (cI 1 LT)) (hLT : tpB LT tp) (he : e ≤ tp.length) (hF : G[2]? = some (cO 2 (rFs r (.int fv)))) (hnum : numB tp e = false) : xMet E yX0_figure cX0_figure 4 (some FieldType.int) 3 0 0 [.ref 0] G (xth "CoarserOrders$Fault" (some (.ref 2)) (fun G' => G' = G.set 2 (cO 2 (rFs r (.int (nI (nxF tp e))))))) := by
  have htp := hLT.2.1
  have hl200 := hLT.1
  have hnb := nxT_b he
  have hnf := nxF_b he
  refine xMet.of (lv := [some (.ref 0), none, none, none]) rfl rfl (Nat.le_of_ble_eq_true rfl) ?_
  refine xj_aload_n dX0_figure_0 rfl rfl ?_
  refine xj_get dX0_figure_1 K0 19 (by decide) q488 hO rfl ?_
  refine xj_aload_n dX0_figure_4 rfl rfl ?_
  refine xj_get dX0_figure_5 K0 18 (by decide) q487 hO rfl ?_
  refine xj_isub dX0_figure_8 ?_
  rw [pk_sub hnb.1]
  refine xj_istn1 dX0_figure_9 rfl ?_
  refine xj_iload_n dX0_figure_10 rfl ?_
  refine xj_ic1 dX0_figure_11 ?_
  refine xj_icmp_lt (tgt := 35) dX0_figure_12 rfl (fun c12 => ?_) (fun c12 => ?_)
  · refine xj_aload_n dX0_figure_35 rfl rfl ?_
    refine xj_cV dX0_figure_36 q1116 kV_X0_faultHere (A_faultHere hO hd17 h19 hLT he hF) hO rfl rfl rfl rfl (Nat.le_of_ble_eq_true rfl) ⟨(Nat.le_of_ble_eq_true rfl), (Nat.le_of_ble_eq_true rfl)⟩ (Nat.le_of_ble_eq_true rfl) (Nat.le_of_ble_eq_true rfl) ?_
    exact xj_athrow dX0_figure_39 (gset_self hF) rfl (xjT_out (fun _ hx => by cases hx) ⟨rfl, rfl⟩)
  · have hlt : nxF tp e < tp.length := by
      have : ¬ nxT tp e - nxF tp e = 0 := fun h => c12 (by rw [h]; decide)
      omega
    refine xj_iload_n dX0_figure_15 rfl ?_
    refine xj_ic4 dX0_figure_16 ?_
    refine xj_icmp_gt (tgt := 35) dX0_figure_17 rfl (fun c17 => ?_) (fun c17 => ?_)
    · refine xj_aload_n dX0_figure_35 rfl rfl ?_
      refine xj_cV dX0_figure_36 q1116 kV_X0_faultHere (A_faultHere hO hd17 h19 hLT he hF) hO rfl rfl rfl rfl (Nat.le_of_ble_eq_true rfl) ⟨(Nat.le_of_ble_eq_true rfl), (Nat.le_of_ble_eq_true rfl)⟩ (Nat.le_of_ble_eq_true rfl) (Nat.le_of_ble_eq_true rfl) ?_
      exact xj_athrow dX0_figure_39 (gset_self hF) rfl (xjT_out (fun _ hx => by cases hx) ⟨rfl, rfl⟩)
    · refine xj_aload_n dX0_figure_20 rfl rfl ?_
      refine xj_get dX0_figure_21 K0 16 (by decide) q485 hO rfl ?_
      refine xj_aload_n dX0_figure_24 rfl rfl ?_
      refine xj_get dX0_figure_25 K0 18 (by decide) q487 hO rfl ?_
      refine xj_bald dX0_figure_28 h19 rfl (by omega) (tpB_at hLT hlt).1 ?_
      refine xj_cS dX0_figure_29 q1025 kS_X0_isDigit (A_isDigit (tpB_at hLT hlt).2) rfl rfl (Nat.le_of_ble_eq_true rfl) ⟨(Nat.le_of_ble_eq_true rfl), (Nat.le_of_ble_eq_true rfl)⟩ (Nat.le_of_ble_eq_true rfl) (Nat.le_of_ble_eq_true rfl) ?_
      refine xj_if_ne (tgt := 40) dX0_figure_32 rfl (fun c32 => ?_) (fun c32 => ?_)
      · exact absurd (show numB tp e = true by unfold numB; rw [decide_eq_true hlt, b1_nz c32, decide_eq_true (Nat.le_of_not_lt fun h => c17 (Int32.not_le.mp (nI_ge (a := 4) h (by omega))))]; rfl) (by rw [hnum]; decide)
      · refine xj_aload_n dX0_figure_35 rfl rfl ?_
        refine xj_cV dX0_figure_36 q1116 kV_X0_faultHere (A_faultHere hO hd17 h19 hLT he hF) hO rfl rfl rfl rfl (Nat.le_of_ble_eq_true rfl) ⟨(Nat.le_of_ble_eq_true rfl), (Nat.le_of_ble_eq_true rfl)⟩ (Nat.le_of_ble_eq_true rfl) (Nat.le_of_ble_eq_true rfl) ?_
        exact xj_athrow dX0_figure_39 (gset_self hF) rfl (xjT_out (fun _ hx => by cases hx) ⟨rfl, rfl⟩)
theorem A_nameOfY {i : Nat} {e : Nat} {tp : List Nat} {LT : List Int32}  (hO : G[0]? = some (cO 0 (cFs (dT d (nxF tp e) (nxT tp e))))) (hd17 : d 17 = .int (nI tp.length)) (h19 : G[19]? = some (cI 1 LT)) (hLT : tpB LT tp) (he : e ≤ tp.length) (hN : G[18]? = some (cR 9 [.float 0, .float 1, .float 2, .float 3, .float 4])) (hi : i < 5) (hw : isW tp e i = true) (hno : ∀ j, j < 5 → j ≠ i → isW tp e j = false) : xMet E yX0_nameOf cX0_nameOf 3 (some FieldType.int) 5 0 0 [.ref 0, .ref 18] G (xrv (some (.int (nI i))) (gtE G d tp (nxT tp e))) := by
  have htp := hLT.2.1
  have hl200 := hLT.1
  have hnb := nxT_b he
  have hnf := nxF_b he
  refine xMet.of (lv := [some (.ref 0), some (.ref 18), none]) rfl rfl (Nat.le_of_ble_eq_true rfl) ?_
  refine xj_aload_n dX0_nameOf_0 rfl rfl ?_
  refine xj_alenR dX0_nameOf_1 hN rfl ?_
  refine xj_ic1 dX0_nameOf_2 ?_
  refine xj_isub dX0_nameOf_3 ?_
  refine xj_istn2 dX0_nameOf_4 rfl ?_
  have lp : ∀ (K : Nat) (k : Nat), k < K → (k ≤ 5) → (i < k) → xJ E (yX0_nameOf, cX0_nameOf, 3, (some FieldType.int), []) (xR 5 0 0) (xrv (some (.int (nI i))) (gtE G d tp (nxT tp e))) 0 0 5 [some (.ref 0), some (.ref 18), some (.int (nI k - 1))] [] G := by
    intro K
    induction K with
    | zero => intro k h; exact absurd h (Nat.not_lt_zero _)
    | succ K ih_lp =>
      intro k hK hk5 hik
      refine xj_iload_n dX0_nameOf_5 rfl ?_
      obtain ⟨k, rfl⟩ : ∃ k0, k = k0 + 1 := ⟨k - 1, by omega⟩
      rw [show nI (k + 1) - 1 = nI k from nI_sub1 (by omega)]
      refine xj_if_lt (tgt := 25) dX0_nameOf_6 rfl (fun c6 => absurd c6 (nI_pos (by omega))) (fun c6 => ?_)
      refine xj_aload_n dX0_nameOf_9 rfl rfl ?_
      refine xj_aload_n dX0_nameOf_10 rfl rfl ?_
      refine xj_iload_n dX0_nameOf_11 rfl ?_
      refine xj_aald dX0_nameOf_12 hN rfl rfl rfl (by omega) (nm_at (by omega)) ?_
      refine xj_cV dX0_nameOf_13 q1045 kV_X0_isName (A_isName hO hd17 h19 hLT (u := UInt32.ofNat k) (by rw [nmN (by omega)]; omega) he) hO rfl rfl rfl rfl (Nat.le_of_ble_eq_true rfl) ⟨(Nat.le_of_ble_eq_true rfl), (Nat.le_of_ble_eq_true rfl)⟩ (Nat.le_of_ble_eq_true rfl) (Nat.le_of_ble_eq_true rfl) ?_
      rw [nmN (by omega)]
      refine xj_if_ne (tgt := 25) dX0_nameOf_16 rfl (fun c16 => ?_) (fun c16 => ?_)
      · obtain rfl : k = i := (by by_cases h : k = i; exact h; have h2 := hno k (by omega) h; rw [b1_nz c16] at h2; cases h2)
        refine xj_iload_n dX0_nameOf_25 rfl ?_
        refine xj_if_lt (tgt := 33) dX0_nameOf_26 rfl (fun c26 => absurd c26 (nI_pos (by omega))) (fun c26 => ?_)
        refine xj_aload_n dX0_nameOf_29 rfl rfl ?_
        refine xj_cV dX0_nameOf_30 q1018 kV_X0_next (A_next hO hd17 h19 hLT hnb.2) hO rfl rfl rfl rfl (Nat.le_of_ble_eq_true rfl) ⟨(Nat.le_of_ble_eq_true rfl), (Nat.le_of_ble_eq_true rfl)⟩ (Nat.le_of_ble_eq_true rfl) (Nat.le_of_ble_eq_true rfl) ?_
        refine xj_iload_n dX0_nameOf_33 rfl ?_
        exact xj_ireturn dX0_nameOf_34 rfl rfl ⟨rfl, rfl⟩
      · have hne : k ≠ i := fun h => (by have := b1_z c16; rw [h, hw] at this; cases this)
        refine xj_iinc2 (cst := (-1)) dX0_nameOf_19 rfl rfl ?_
        rw [show nI k + (-1) = nI k - 1 from (Int32.sub_eq_add_neg ..).symm]
        refine xj_goto (tgt := 5) dX0_nameOf_22 rfl ?_
        exact ih_lp k (by omega) (by omega) (by omega)
  exact lp 6 5 (by decide) (by decide) hi
theorem A_nameOfN {e : Nat} {tp : List Nat} {LT : List Int32}  (hO : G[0]? = some (cO 0 (cFs (dT d (nxF tp e) (nxT tp e))))) (hd17 : d 17 = .int (nI tp.length)) (h19 : G[19]? = some (cI 1 LT)) (hLT : tpB LT tp) (he : e ≤ tp.length) (hN : G[18]? = some (cR 9 [.float 0, .float 1, .float 2, .float 3, .float 4])) (hno : ∀ j, j < 5 → isW tp e j = false) : xMet E yX0_nameOf cX0_nameOf 3 (some FieldType.int) 5 0 0 [.ref 0, .ref 18] G (xrv (some (.int (-1))) G) := by
  have htp := hLT.2.1
  have hl200 := hLT.1
  have hnb := nxT_b he
  have hnf := nxF_b he
  refine xMet.of (lv := [some (.ref 0), some (.ref 18), none]) rfl rfl (Nat.le_of_ble_eq_true rfl) ?_
  refine xj_aload_n dX0_nameOf_0 rfl rfl ?_
  refine xj_alenR dX0_nameOf_1 hN rfl ?_
  refine xj_ic1 dX0_nameOf_2 ?_
  refine xj_isub dX0_nameOf_3 ?_
  refine xj_istn2 dX0_nameOf_4 rfl ?_
  have lp : ∀ (K : Nat) (k : Nat), k < K → (k ≤ 5) → xJ E (yX0_nameOf, cX0_nameOf, 3, (some FieldType.int), []) (xR 5 0 0) (xrv (some (.int (-1))) G) 0 0 5 [some (.ref 0), some (.ref 18), some (.int (nI k - 1))] [] G := by
    intro K
    induction K with
    | zero => intro k h; exact absurd h (Nat.not_lt_zero _)
    | succ K ih_lp =>
      intro k hK hk5
      refine xj_iload_n dX0_nameOf_5 rfl ?_
      refine xj_if_lt (tgt := 25) dX0_nameOf_6 rfl (fun c6 => ?_) (fun c6 => ?_)
      · have hk0 : k = 0 := Nat.eq_zero_of_not_pos fun h => absurd c6 (by rw [nI_sub1 h]; exact nI_pos (by omega))
        subst hk0
        refine xj_iload_n dX0_nameOf_25 rfl ?_
        refine xj_if_lt (tgt := 33) dX0_nameOf_26 rfl (fun c26 => ?_) (fun c26 => absurd (by decide) c26)
        refine xj_iload_n dX0_nameOf_33 rfl ?_
        exact xj_ireturn dX0_nameOf_34 rfl rfl ⟨rfl, rfl⟩
      · obtain ⟨k, rfl⟩ : ∃ k0, k = k0 + 1 := ⟨k - 1, by have : k ≠ 0 := fun h => c6 (by rw [h]; decide); omega⟩
        rw [show nI (k + 1) - 1 = nI k from nI_sub1 (by omega)]
        refine xj_aload_n dX0_nameOf_9 rfl rfl ?_
        refine xj_aload_n dX0_nameOf_10 rfl rfl ?_
        refine xj_iload_n dX0_nameOf_11 rfl ?_
        refine xj_aald dX0_nameOf_12 hN rfl rfl rfl (by omega) (nm_at (by omega)) ?_
        refine xj_cV dX0_nameOf_13 q1045 kV_X0_isName (A_isName hO hd17 h19 hLT (u := UInt32.ofNat k) (by rw [nmN (by omega)]; omega) he) hO rfl rfl rfl rfl (Nat.le_of_ble_eq_true rfl) ⟨(Nat.le_of_ble_eq_true rfl), (Nat.le_of_ble_eq_true rfl)⟩ (Nat.le_of_ble_eq_true rfl) (Nat.le_of_ble_eq_true rfl) ?_
        rw [nmN (by omega)]
        refine xj_if_ne (tgt := 25) dX0_nameOf_16 rfl (fun c16 => absurd (by rw [hno k (by omega)]; rfl) c16) (fun c16 => ?_)
        refine xj_iinc2 (cst := (-1)) dX0_nameOf_19 rfl rfl ?_
        rw [show nI k + (-1) = nI k - 1 from (Int32.sub_eq_add_neg ..).symm]
        refine xj_goto (tgt := 5) dX0_nameOf_22 rfl ?_
        exact ih_lp k (by omega) (by omega)
  exact lp 6 5 (by decide) (by decide)
end A49
