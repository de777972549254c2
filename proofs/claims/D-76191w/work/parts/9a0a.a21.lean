/-! ===== the class: arcs are linked ===== -/
set_option maxRecDepth 100000
theorem kV_X0_arcOf : xsV yX0_arcOf cX0_arcOf 4 (some (FieldType.object "CoarserOrders$Arc")) 3 := ⟨q458, qs5, q151, q459, by decide, by decide, by decide +kernel⟩
theorem c_pw1 : ∀ e, e < 5 → nI (2 ^ e) = 1 → e = 0 := by decide +kernel
theorem pw_one {n k : Nat} (h : aL n k < aH n k) (hb : aH n k - aL n k - 1 < 5) (h2 : nI (2 ^ (aH n k - aL n k - 1)) = 1) : aH n k = aL n k + 1 := by
  have := c_pw1 _ hb h2
  omega
theorem arF_nar {n B k : Nat} (h : aH n k = aL n k + 1) : ((((ar0 n k).set 4 (lval n B k 0)).set 5 (lval n B k 1)).set 6 (lval n B k 2)).set 7 (lval n B k 3) = arF n B k (.long 0) (.long 0) := by
  have l4 : lk n k 4 = none := if_pos h
  have l5 : lk n k 5 = none := if_pos h
  have e4 : lval n B k 4 = .null := by unfold lval; rw [l4]
  have e5 : lval n B k 5 = .null := by unfold lval; rw [l5]
  unfold arF
  rw [e4, e5]
  rfl
section A21
variable {E : xE} {G : xH} {d e : Nat → Value} {n : Nat}
theorem A_arcOfN {x y z : Int32}  (hv : cV d e n G) (h : x < 1 ∨ nI n < y) : xMet E yX0_arcOf cX0_arcOf 4 (some (FieldType.object "CoarserOrders$Arc")) 1 0 0 [.ref 0, .int x, .int y, .int z] G (xrv (some .null) G) := by
  obtain ⟨hO, hN, hn0, h1n, hn6⟩ := id hv
  refine xMet.of (lv := [some (.ref 0), some (.int x), some (.int y), some (.int z)]) rfl rfl (Nat.le_of_ble_eq_true rfl) ?_
  refine xj_iload_n dX0_arcOf_0 rfl ?_
  refine xj_ic1 dX0_arcOf_1 ?_
  refine xj_icmp_lt (tgt := 16) dX0_arcOf_2 rfl (fun c2 => ?_) (fun c2 => ?_)
  · refine xj_null dX0_arcOf_16 ?_
    refine xj_goto (tgt := 39) dX0_arcOf_17 rfl ?_
    exact xj_areturn dX0_arcOf_39 rfl (Or.inl ⟨_, rfl⟩) rfl ⟨rfl, rfl⟩
  · refine xj_iload_n dX0_arcOf_5 rfl ?_
    refine xj_aload_n dX0_arcOf_6 rfl rfl ?_
    refine xj_get dX0_arcOf_7 K0 4 (by decide) q473 hO rfl ?_
    refine xj_getN dX0_arcOf_10 K3 0 (by decide) q321 hN (congrArg some hn0) ?_
    refine xj_icmp_le (tgt := 20) dX0_arcOf_13 rfl (fun c13 => ?_) (fun c13 => ?_)
    · exact absurd h (fun h => h.elim (fun h => c2 h) (fun h => i32_le c13 h))
    · refine xj_null dX0_arcOf_16 ?_
      refine xj_goto (tgt := 39) dX0_arcOf_17 rfl ?_
      exact xj_areturn dX0_arcOf_39 rfl (Or.inl ⟨_, rfl⟩) rfl ⟨rfl, rfl⟩
theorem A_arcOf {ar lo hi l b : Nat} {L : List Value}  (hv : cV d e n G) (hd3 : d 3 = .ref ar) (hAr : G[ar]? = some (cR 5 L)) (h1 : 1 ≤ lo) (hlh : lo < hi) (hhn : hi ≤ n) (hlt : fsA n lo hi + l < 2147483648) (hv_ : L[fsA n lo hi + l]? = some (.ref b)) : xMet E yX0_arcOf cX0_arcOf 4 (some (FieldType.object "CoarserOrders$Arc")) 1 0 0 [.ref 0, .int (nI lo), .int (nI hi), .int (nI l)] G (xrv (some (.ref b)) G) := by
  obtain ⟨hO, hN, hn0, h1n, hn6⟩ := id hv
  refine xMet.of (lv := [some (.ref 0), some (.int (nI lo)), some (.int (nI hi)), some (.int (nI l))]) rfl rfl (Nat.le_of_ble_eq_true rfl) ?_
  refine xj_iload_n dX0_arcOf_0 rfl ?_
  refine xj_ic1 dX0_arcOf_1 ?_
  refine xj_icmp_lt (tgt := 16) dX0_arcOf_2 rfl (fun c2 => absurd c2 (nI_nlt (b := 1) h1 (by omega))) (fun c2 => ?_)
  refine xj_iload_n dX0_arcOf_5 rfl ?_
  refine xj_aload_n dX0_arcOf_6 rfl rfl ?_
  refine xj_get dX0_arcOf_7 K0 4 (by decide) q473 hO rfl ?_
  refine xj_getN dX0_arcOf_10 K3 0 (by decide) q321 hN (congrArg some hn0) ?_
  refine xj_icmp_le (tgt := 20) dX0_arcOf_13 rfl (fun c13 => ?_) (fun c13 => absurd (nI_le hhn (by omega)) c13)
  refine xj_aload_n dX0_arcOf_20 rfl rfl ?_
  refine xj_get dX0_arcOf_21 K0 3 (by decide) q471 hO (congrArg some hd3) ?_
  refine xj_iload_n dX0_arcOf_24 rfl ?_
  refine xj_iload_n dX0_arcOf_25 rfl ?_
  refine xj_aload_n dX0_arcOf_26 rfl rfl ?_
  refine xj_get dX0_arcOf_27 K0 4 (by decide) q473 hO rfl ?_
  refine xj_getN dX0_arcOf_30 K3 0 (by decide) q321 hN (congrArg some hn0) ?_
  refine xj_cS dX0_arcOf_33 q394 kS_X0_firstOf (A_firstOf h1 hlh hhn hn6) rfl rfl (Nat.le_of_ble_eq_true rfl) ⟨(Nat.le_of_ble_eq_true rfl), (Nat.le_of_ble_eq_true rfl)⟩ (Nat.le_of_ble_eq_true rfl) (Nat.le_of_ble_eq_true rfl) ?_
  refine xj_iload_n dX0_arcOf_36 rfl ?_
  refine xj_iadd dX0_arcOf_37 ?_
  rw [nI_add]
  refine xj_aald dX0_arcOf_38 hAr rfl rfl rfl (by omega) hv_ ?_
  exact xj_areturn dX0_arcOf_39 rfl (Or.inl ⟨_, rfl⟩) rfl ⟨rfl, rfl⟩
theorem A_lkv {ar B k i lo hi l : Nat} {L : List Value} (hv : cV d e n G) (hd3 : d 3 = .ref ar) (hAr : G[ar]? = some (cR 5 L)) (hL : ∀ j, j < na n → L[j]? = some (.ref (B + j))) (hk : k < na n) (hi6 : i < 6) (h1 : 1 ≤ lo) (hlh : lo < hi) (hhn : hi ≤ n) (h : lk n k i = some (fsA n lo hi + l)) : xMet E yX0_arcOf cX0_arcOf 4 (some (.object "CoarserOrders$Arc")) 1 0 0 [.ref 0, .int (nI lo), .int (nI hi), .int (nI l)] G (xrv (some (lval n B k i)) G) := by
  have hn7 : n < 7 := by have := hv.2.2.2.2; omega
  have hlt := lk_lt hn7 hk hi6 h
  have hna := na_lt n hn7
  unfold lval
  rw [h]
  exact A_arcOf hv hd3 hAr h1 hlh hhn (by omega) (hL _ hlt)
theorem A_lkn {k i B : Nat} {x y z : Int32} (hv : cV d e n G) (hx : x < 1 ∨ nI n < y) (h : lk n k i = none) : xMet E yX0_arcOf cX0_arcOf 4 (some (.object "CoarserOrders$Arc")) 1 0 0 [.ref 0, .int x, .int y, .int z] G (xrv (some (lval n B k i)) G) := by
  unfold lval
  rw [h]
  exact A_arcOfN hv hx
theorem A_lk0 {ar B k : Nat} {L : List Value} (hv : cV d e n G) (hd3 : d 3 = .ref ar) (hAr : G[ar]? = some (cR 5 L)) (hL : ∀ j, j < na n → L[j]? = some (.ref (B + j))) (hk : k < na n) : xMet E yX0_arcOf cX0_arcOf 4 (some (.object "CoarserOrders$Arc")) 1 0 0 [.ref 0, .int (nI (aL n k) - 1), .int (nI (aH n k)), .int (2 * nI (aF n k))] G (xrv (some (lval n B k 0)) G) := by
  have hn7 : n < 7 := by have := hv.2.2.2.2; omega
  have hac := f_ac n hn7 k hk
  by_cases h : aL n k = 1
  · exact A_lkn hv (Or.inl (by rw [h]; decide)) (if_pos h)
  · rw [nI_sub1 (by omega), show (2 : Int32) * nI (aF n k) = nI (2 * aF n k) from (Int32.ofNat_mul 2 _).symm]
    exact A_lkv hv hd3 hAr hL hk (by decide) (by omega) (by omega) (by omega) (if_neg h)
theorem A_lk1 {ar B k : Nat} {L : List Value} (hv : cV d e n G) (hd3 : d 3 = .ref ar) (hAr : G[ar]? = some (cR 5 L)) (hL : ∀ j, j < na n → L[j]? = some (.ref (B + j))) (hk : k < na n) : xMet E yX0_arcOf cX0_arcOf 4 (some (.object "CoarserOrders$Arc")) 1 0 0 [.ref 0, .int (nI (aL n k) - 1), .int (nI (aH n k)), .int (2 * nI (aF n k) + 1)] G (xrv (some (lval n B k 1)) G) := by
  have hn7 : n < 7 := by have := hv.2.2.2.2; omega
  have hac := f_ac n hn7 k hk
  by_cases h : aL n k = 1
  · exact A_lkn hv (Or.inl (by rw [h]; decide)) (if_pos h)
  · rw [nI_sub1 (by omega), show (2 : Int32) * nI (aF n k) = nI (2 * aF n k) from (Int32.ofNat_mul 2 _).symm, nI_1]
    exact A_lkv hv hd3 hAr hL hk (by decide) (by omega) (by omega) (by omega) (if_neg h)
theorem A_lk2 {ar B k : Nat} {L : List Value} (hv : cV d e n G) (hd3 : d 3 = .ref ar) (hAr : G[ar]? = some (cR 5 L)) (hL : ∀ j, j < na n → L[j]? = some (.ref (B + j))) (hk : k < na n) : xMet E yX0_arcOf cX0_arcOf 4 (some (.object "CoarserOrders$Arc")) 1 0 0 [.ref 0, .int (nI (aL n k)), .int (nI (aH n k) + 1), .int (nI (aF n k))] G (xrv (some (lval n B k 2)) G) := by
  have hn7 : n < 7 := by have := hv.2.2.2.2; omega
  have hac := f_ac n hn7 k hk
  rw [nI_1]
  by_cases h : n ≤ aH n k
  · exact A_lkn hv (Or.inr (nI_lt (by omega) (by omega))) (if_pos h)
  · exact A_lkv hv hd3 hAr hL hk (by decide) (by omega) (by omega) (by omega) (if_neg h)
theorem A_lk3 {ar B k : Nat} {L : List Value} (hv : cV d e n G) (hd3 : d 3 = .ref ar) (hAr : G[ar]? = some (cR 5 L)) (hL : ∀ j, j < na n → L[j]? = some (.ref (B + j))) (hk : k < na n) : xMet E yX0_arcOf cX0_arcOf 4 (some (.object "CoarserOrders$Arc")) 1 0 0 [.ref 0, .int (nI (aL n k)), .int (nI (aH n k) + 1), .int (nI (aF n k) ||| nI (2 ^ (aH n k - aL n k - 1)))] G (xrv (some (lval n B k 3)) G) := by
  have hn7 : n < 7 := by have := hv.2.2.2.2; omega
  have hac := f_ac n hn7 k hk
  rw [nI_1, nI_or]
  by_cases h : n ≤ aH n k
  · exact A_lkn hv (Or.inr (nI_lt (by omega) (by omega))) (if_pos h)
  · exact A_lkv hv hd3 hAr hL hk (by decide) (by omega) (by omega) (by omega) (if_neg h)
theorem A_lk4 {ar B k : Nat} {L : List Value} (hv : cV d e n G) (hd3 : d 3 = .ref ar) (hAr : G[ar]? = some (cR 5 L)) (hL : ∀ j, j < na n → L[j]? = some (.ref (B + j))) (hk : k < na n) (h : ¬ aH n k = aL n k + 1) : xMet E yX0_arcOf cX0_arcOf 4 (some (.object "CoarserOrders$Arc")) 1 0 0 [.ref 0, .int (nI (aL n k) + 1), .int (nI (aH n k)), .int (nI (aF n k) >>> ((1 : Int32) &&& 31))] G (xrv (some (lval n B k 4)) G) := by
  have hn7 : n < 7 := by have := hv.2.2.2.2; omega
  have hac := f_ac n hn7 k hk
  rw [nI_1, c_shr1 _ (by omega)]
  exact A_lkv hv hd3 hAr hL hk (by decide) (by omega) (by omega) (by omega) (if_neg h)
theorem A_lk5 {ar B k : Nat} {L : List Value} (hv : cV d e n G) (hd3 : d 3 = .ref ar) (hAr : G[ar]? = some (cR 5 L)) (hL : ∀ j, j < na n → L[j]? = some (.ref (B + j))) (hk : k < na n) (h : ¬ aH n k = aL n k + 1) : xMet E yX0_arcOf cX0_arcOf 4 (some (.object "CoarserOrders$Arc")) 1 0 0 [.ref 0, .int (nI (aL n k)), .int (nI (aH n k) - 1), .int (nI (aF n k) &&& ((nI (2 ^ (aH n k - aL n k - 1)) >>> ((1 : Int32) &&& 31)) - 1))] G (xrv (some (lval n B k 5)) G) := by
  have hn7 : n < 7 := by have := hv.2.2.2.2; omega
  have hac := f_ac n hn7 k hk
  rw [nI_sub1 (by omega), c_wn _ (by omega) _ (by omega) (by omega)]
  exact A_lkv hv hd3 hAr hL hk (by decide) (by omega) (by omega) (by omega) (if_neg h)
theorem A_link {a ar B k : Nat} {L : List Value}  (hv : cV d e n G) (hd3 : d 3 = .ref ar) (hAr : G[ar]? = some (cR 5 L)) (hL : ∀ j, j < na n → L[j]? = some (.ref (B + j))) (hk : k < na n) (h6 : G[a]? = some (cO 6 (ar0 n k))) (ha0 : a ≠ 0) (ha4 : a ≠ 4) (haa : a ≠ ar) : xMet E yX0_link cX0_link 3 none 2 0 0 [.ref 0, .ref a] G (xrv none (G.set a (cO 6 (arF n B k (.long 0) (.long 0))))) := by
  obtain ⟨hO, hN, hn0, h1n, hn6⟩ := id hv
  have hac := f_ac n (by omega) k hk
  refine xMet.of (lv := [some (.ref 0), some (.ref a), none]) rfl rfl (Nat.le_of_ble_eq_true rfl) ?_
  refine xj_ic1 dX0_link_0 ?_
  refine xj_aload_n dX0_link_1 rfl rfl ?_
  refine xj_getN dX0_link_2 K6 2 (by decide) q410 h6 rfl ?_
  refine xj_aload_n dX0_link_5 rfl rfl ?_
  refine xj_getN dX0_link_6 K6 1 (by decide) q406 h6 rfl ?_
  refine xj_isub dX0_link_9 ?_
  refine xj_ic1 dX0_link_10 ?_
  refine xj_isub dX0_link_11 ?_
  refine xj_ishl dX0_link_12 ?_
  refine xj_top (c_pw (aL n k) (by omega) (aH n k) (by omega) (by omega)) ?_
  refine xj_istn2 dX0_link_13 rfl ?_
  refine xj_aload_n dX0_link_14 rfl rfl ?_
  refine xj_aload_n dX0_link_15 rfl rfl ?_
  refine xj_aload_n dX0_link_16 rfl rfl ?_
  refine xj_getN dX0_link_17 K6 1 (by decide) q406 h6 rfl ?_
  refine xj_ic1 dX0_link_20 ?_
  refine xj_isub dX0_link_21 ?_
  refine xj_aload_n dX0_link_22 rfl rfl ?_
  refine xj_getN dX0_link_23 K6 2 (by decide) q410 h6 rfl ?_
  refine xj_ic2 dX0_link_26 ?_
  refine xj_aload_n dX0_link_27 rfl rfl ?_
  refine xj_getN dX0_link_28 K6 3 (by decide) q412 h6 rfl ?_
  refine xj_imul dX0_link_31 ?_
  refine xj_cV dX0_link_32 q456 kV_X0_arcOf (A_lk0 hv hd3 hAr hL hk) hO rfl rfl rfl rfl (Nat.le_of_ble_eq_true rfl) ⟨(Nat.le_of_ble_eq_true rfl), (Nat.le_of_ble_eq_true rfl)⟩ (Nat.le_of_ble_eq_true rfl) (Nat.le_of_ble_eq_true rfl) ?_
  refine xj_putN dX0_link_35 K6 4 (by decide) q414 rfl lval_rf h6 (Nat.le_of_ble_eq_true rfl) ?_
  have hv1 : cV d e n (G.set a (cO 6 ((ar0 n k).set 4 (lval n B k 0)))) := hv.set ha0 ha4
  have hAr1 : (G.set a (cO 6 ((ar0 n k).set 4 (lval n B k 0))))[ar]? = some (cR 5 L) := by rw [gset haa]; exact hAr
  have h61 : (G.set a (cO 6 ((ar0 n k).set 4 (lval n B k 0))))[a]? = some (cO 6 ((ar0 n k).set 4 (lval n B k 0))) := gset_self h6
  have hO1 := hv1.1
  refine xj_aload_n dX0_link_38 rfl rfl ?_
  refine xj_aload_n dX0_link_39 rfl rfl ?_
  refine xj_aload_n dX0_link_40 rfl rfl ?_
  refine xj_getN dX0_link_41 K6 1 (by decide) q406 h61 rfl ?_
  refine xj_ic1 dX0_link_44 ?_
  refine xj_isub dX0_link_45 ?_
  refine xj_aload_n dX0_link_46 rfl rfl ?_
  refine xj_getN dX0_link_47 K6 2 (by decide) q410 h61 rfl ?_
  refine xj_ic2 dX0_link_50 ?_
  refine xj_aload_n dX0_link_51 rfl rfl ?_
  refine xj_getN dX0_link_52 K6 3 (by decide) q412 h61 rfl ?_
  refine xj_imul dX0_link_55 ?_
  refine xj_ic1 dX0_link_56 ?_
  refine xj_iadd dX0_link_57 ?_
  refine xj_cV dX0_link_58 q456 kV_X0_arcOf (A_lk1 hv1 hd3 hAr1 hL hk) hO1 rfl rfl rfl rfl (Nat.le_of_ble_eq_true rfl) ⟨(Nat.le_of_ble_eq_true rfl), (Nat.le_of_ble_eq_true rfl)⟩ (Nat.le_of_ble_eq_true rfl) (Nat.le_of_ble_eq_true rfl) ?_
  refine xj_putN dX0_link_61 K6 5 (by decide) q416 rfl lval_rf h61 (Nat.le_of_ble_eq_true rfl) ?_
  rw [gset_set]
  have hv2 : cV d e n (G.set a (cO 6 (((ar0 n k).set 4 (lval n B k 0)).set 5 (lval n B k 1)))) := hv.set ha0 ha4
  have hAr2 : (G.set a (cO 6 (((ar0 n k).set 4 (lval n B k 0)).set 5 (lval n B k 1))))[ar]? = some (cR 5 L) := by rw [gset haa]; exact hAr
  have h62 : (G.set a (cO 6 (((ar0 n k).set 4 (lval n B k 0)).set 5 (lval n B k 1))))[a]? = some (cO 6 (((ar0 n k).set 4 (lval n B k 0)).set 5 (lval n B k 1))) := gset_self h6
  have hO2 := hv2.1
  refine xj_aload_n dX0_link_64 rfl rfl ?_
  refine xj_aload_n dX0_link_65 rfl rfl ?_
  refine xj_aload_n dX0_link_66 rfl rfl ?_
  refine xj_getN dX0_link_67 K6 1 (by decide) q406 h62 rfl ?_
  refine xj_aload_n dX0_link_70 rfl rfl ?_
  refine xj_getN dX0_link_71 K6 2 (by decide) q410 h62 rfl ?_
  refine xj_ic1 dX0_link_74 ?_
  refine xj_iadd dX0_link_75 ?_
  refine xj_aload_n dX0_link_76 rfl rfl ?_
  refine xj_getN dX0_link_77 K6 3 (by decide) q412 h62 rfl ?_
  refine xj_cV dX0_link_80 q456 kV_X0_arcOf (A_lk2 hv2 hd3 hAr2 hL hk) hO2 rfl rfl rfl rfl (Nat.le_of_ble_eq_true rfl) ⟨(Nat.le_of_ble_eq_true rfl), (Nat.le_of_ble_eq_true rfl)⟩ (Nat.le_of_ble_eq_true rfl) (Nat.le_of_ble_eq_true rfl) ?_
  refine xj_putN dX0_link_83 K6 6 (by decide) q418 rfl lval_rf h62 (Nat.le_of_ble_eq_true rfl) ?_
  rw [gset_set]
  have hv3 : cV d e n (G.set a (cO 6 ((((ar0 n k).set 4 (lval n B k 0)).set 5 (lval n B k 1)).set 6 (lval n B k 2)))) := hv.set ha0 ha4
  have hAr3 : (G.set a (cO 6 ((((ar0 n k).set 4 (lval n B k 0)).set 5 (lval n B k 1)).set 6 (lval n B k 2))))[ar]? = some (cR 5 L) := by rw [gset haa]; exact hAr
  have h63 : (G.set a (cO 6 ((((ar0 n k).set 4 (lval n B k 0)).set 5 (lval n B k 1)).set 6 (lval n B k 2))))[a]? = some (cO 6 ((((ar0 n k).set 4 (lval n B k 0)).set 5 (lval n B k 1)).set 6 (lval n B k 2))) := gset_self h6
  have hO3 := hv3.1
  refine xj_aload_n dX0_link_86 rfl rfl ?_
  refine xj_aload_n dX0_link_87 rfl rfl ?_
  refine xj_aload_n dX0_link_88 rfl rfl ?_
  refine xj_getN dX0_link_89 K6 1 (by decide) q406 h63 rfl ?_
  refine xj_aload_n dX0_link_92 rfl rfl ?_
  refine xj_getN dX0_link_93 K6 2 (by decide) q410 h63 rfl ?_
  refine xj_ic1 dX0_link_96 ?_
  refine xj_iadd dX0_link_97 ?_
  refine xj_aload_n dX0_link_98 rfl rfl ?_
  refine xj_getN dX0_link_99 K6 3 (by decide) q412 h63 rfl ?_
  refine xj_iload_n dX0_link_102 rfl ?_
  refine xj_ior dX0_link_103 ?_
  refine xj_cV dX0_link_104 q456 kV_X0_arcOf (A_lk3 hv3 hd3 hAr3 hL hk) hO3 rfl rfl rfl rfl (Nat.le_of_ble_eq_true rfl) ⟨(Nat.le_of_ble_eq_true rfl), (Nat.le_of_ble_eq_true rfl)⟩ (Nat.le_of_ble_eq_true rfl) (Nat.le_of_ble_eq_true rfl) ?_
  refine xj_putN dX0_link_107 K6 7 (by decide) q420 rfl lval_rf h63 (Nat.le_of_ble_eq_true rfl) ?_
  rw [gset_set]
  have hv4 : cV d e n (G.set a (cO 6 (((((ar0 n k).set 4 (lval n B k 0)).set 5 (lval n B k 1)).set 6 (lval n B k 2)).set 7 (lval n B k 3)))) := hv.set ha0 ha4
  have hAr4 : (G.set a (cO 6 (((((ar0 n k).set 4 (lval n B k 0)).set 5 (lval n B k 1)).set 6 (lval n B k 2)).set 7 (lval n B k 3))))[ar]? = some (cR 5 L) := by rw [gset haa]; exact hAr
  have h64 : (G.set a (cO 6 (((((ar0 n k).set 4 (lval n B k 0)).set 5 (lval n B k 1)).set 6 (lval n B k 2)).set 7 (lval n B k 3))))[a]? = some (cO 6 (((((ar0 n k).set 4 (lval n B k 0)).set 5 (lval n B k 1)).set 6 (lval n B k 2)).set 7 (lval n B k 3))) := gset_self h6
  have hO4 := hv4.1
  refine xj_iload_n dX0_link_110 rfl ?_
  refine xj_ic1 dX0_link_111 ?_
  refine xj_icmp_ne (tgt := 116) dX0_link_112 rfl (fun c112 => ?_) (fun c112 => ?_)
  · have hw : ¬ aH n k = aL n k + 1 := fun q => c112 (by rw [q, show aL n k + 1 - aL n k - 1 = 0 by omega]; rfl)
    refine xj_aload_n dX0_link_116 rfl rfl ?_
    refine xj_aload_n dX0_link_117 rfl rfl ?_
    refine xj_aload_n dX0_link_118 rfl rfl ?_
    refine xj_getN dX0_link_119 K6 1 (by decide) q406 h64 rfl ?_
    refine xj_ic1 dX0_link_122 ?_
    refine xj_iadd dX0_link_123 ?_
    refine xj_aload_n dX0_link_124 rfl rfl ?_
    refine xj_getN dX0_link_125 K6 2 (by decide) q410 h64 rfl ?_
    refine xj_aload_n dX0_link_128 rfl rfl ?_
    refine xj_getN dX0_link_129 K6 3 (by decide) q412 h64 rfl ?_
    refine xj_ic1 dX0_link_132 ?_
    refine xj_ishr dX0_link_133 ?_
    refine xj_cV dX0_link_134 q456 kV_X0_arcOf (A_lk4 hv4 hd3 hAr4 hL hk hw) hO4 rfl rfl rfl rfl (Nat.le_of_ble_eq_true rfl) ⟨(Nat.le_of_ble_eq_true rfl), (Nat.le_of_ble_eq_true rfl)⟩ (Nat.le_of_ble_eq_true rfl) (Nat.le_of_ble_eq_true rfl) ?_
    refine xj_putN dX0_link_137 K6 8 (by decide) q422 rfl lval_rf h64 (Nat.le_of_ble_eq_true rfl) ?_
    rw [gset_set]
    have hv5 : cV d e n (G.set a (cO 6 ((((((ar0 n k).set 4 (lval n B k 0)).set 5 (lval n B k 1)).set 6 (lval n B k 2)).set 7 (lval n B k 3)).set 8 (lval n B k 4)))) := hv.set ha0 ha4
    have hAr5 : (G.set a (cO 6 ((((((ar0 n k).set 4 (lval n B k 0)).set 5 (lval n B k 1)).set 6 (lval n B k 2)).set 7 (lval n B k 3)).set 8 (lval n B k 4))))[ar]? = some (cR 5 L) := by rw [gset haa]; exact hAr
    have h65 : (G.set a (cO 6 ((((((ar0 n k).set 4 (lval n B k 0)).set 5 (lval n B k 1)).set 6 (lval n B k 2)).set 7 (lval n B k 3)).set 8 (lval n B k 4))))[a]? = some (cO 6 ((((((ar0 n k).set 4 (lval n B k 0)).set 5 (lval n B k 1)).set 6 (lval n B k 2)).set 7 (lval n B k 3)).set 8 (lval n B k 4))) := gset_self h6
    have hO5 := hv5.1
    refine xj_aload_n dX0_link_140 rfl rfl ?_
    refine xj_aload_n dX0_link_141 rfl rfl ?_
    refine xj_aload_n dX0_link_142 rfl rfl ?_
    refine xj_getN dX0_link_143 K6 1 (by decide) q406 h65 rfl ?_
    refine xj_aload_n dX0_link_146 rfl rfl ?_
    refine xj_getN dX0_link_147 K6 2 (by decide) q410 h65 rfl ?_
    refine xj_ic1 dX0_link_150 ?_
    refine xj_isub dX0_link_151 ?_
    refine xj_aload_n dX0_link_152 rfl rfl ?_
    refine xj_getN dX0_link_153 K6 3 (by decide) q412 h65 rfl ?_
    refine xj_iload_n dX0_link_156 rfl ?_
    refine xj_ic1 dX0_link_157 ?_
    refine xj_ishr dX0_link_158 ?_
    refine xj_ic1 dX0_link_159 ?_
    refine xj_isub dX0_link_160 ?_
    refine xj_iand dX0_link_161 ?_
    refine xj_cV dX0_link_162 q456 kV_X0_arcOf (A_lk5 hv5 hd3 hAr5 hL hk hw) hO5 rfl rfl rfl rfl (Nat.le_of_ble_eq_true rfl) ⟨(Nat.le_of_ble_eq_true rfl), (Nat.le_of_ble_eq_true rfl)⟩ (Nat.le_of_ble_eq_true rfl) (Nat.le_of_ble_eq_true rfl) ?_
    refine xj_putN dX0_link_165 K6 9 (by decide) q424 rfl lval_rf h65 (Nat.le_of_ble_eq_true rfl) ?_
    exact xj_return dX0_link_168 rfl ⟨rfl, by rw [gset_set]; rfl⟩
  · exact xj_return dX0_link_115 rfl (by have hw1 : aH n k = aL n k + 1 := pw_one (by omega) (by omega) c112; exact ⟨rfl, by rw [arF_nar hw1]⟩)
end A21
