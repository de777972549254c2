/-! ===== the class: ways up ===== -/
set_option maxRecDepth 100000
theorem kV_X0_byRank : xsV yX0_byRank cX0_byRank 9 none 2 := ⟨q683, qs21, q151, q684, by decide, by decide, by decide +kernel⟩
theorem kV_X0_clearFar : xsV yX0_clearFar cX0_clearFar 2 none 0 := ⟨q1379, qs58, q151, q1380, by decide, by decide, by decide +kernel⟩
theorem kV_X0_findRotations : xsV yX0_findRotations cX0_findRotations 4 none 2 := ⟨q1363, qs56, q151, q1364, by decide, by decide, by decide +kernel⟩
theorem kV_X0_goUp : xsV yX0_goUp cX0_goUp 4 none 1 := ⟨q1395, qs61, q151, q1396, by decide, by decide, by decide +kernel⟩
theorem kV_X0_rankOfTold : xsV yX0_rankOfTold cX0_rankOfTold 2 (some FieldType.int) 1 := ⟨q1383, qs59, q151, q1384, by decide, by decide, by decide +kernel⟩
theorem rep_ext {A : List Int32} (h1 : A.length = 120) (h2 : ∀ i : Nat, i < 120 → A[i]? = some (-1)) : A = List.replicate 120 (-1) := by
  apply List.ext_getElem?
  intro i
  by_cases hi : i < 120
  · rw [h2 i hi, List.getElem?_replicate, if_pos hi]
  · rw [List.getElem?_eq_none (by omega), List.getElem?_eq_none (by rw [List.length_replicate]; omega)]
theorem set_lt {A : List Int32} {k i : Nat} (hk : k < A.length) (h : ∀ i : Nat, i < k → A[i]? = some (-1)) (hi : i < k + 1) : (A.set k (-1))[i]? = some (-1) := by
  by_cases e : k = i
  · subst e; exact List.getElem?_set_self hk
  · rw [List.getElem?_set_ne e]; exact h i (by omega)
theorem c_sh1 {a b : Int32} (h : ¬ 0 ≤ a) : b = if a < 0 ∨ b < a then b else a := by
  rw [if_pos (Or.inl (by rw [Int32.lt_iff_toInt_lt]; rw [Int32.le_iff_toInt_le] at h; omega))]
theorem c_sh2 {a b : Int32} (h : 0 ≤ a) : (if b < a then b else a) = if a < 0 ∨ b < a then b else a := by
  have h0 : ¬ a < 0 := by rw [Int32.lt_iff_toInt_lt]; rw [Int32.le_iff_toInt_le] at h; omega
  by_cases c : b < a
  · rw [if_pos c, if_pos (Or.inr c)]
  · rw [if_neg c, if_neg (by rintro (q | q); exact h0 q; exact c q)]
theorem i32_nl {a : Int32} (h : ¬ a < 0) : 0 ≤ a := by
  rw [Int32.lt_iff_toInt_lt] at h
  rw [Int32.le_iff_toInt_le]
  omega
theorem f_nn : ∀ n, n < 6 → n * (n - 1) ≤ 20 := by decide
section A7
variable {E : xE} {G : xH} {d e : Nat → Value} {n : Nat}
theorem A_clearFar {A0 B0 : List Int32}  (hO : G[0]? = some (cO 0 (cFs d))) (hA0 : G[22]? = some (cI 0 A0)) (hB0 : G[23]? = some (cI 0 B0)) (hlA : A0.length = 120) (hlB : B0.length = 120) : xMet E yX0_clearFar cX0_clearFar 2 none 0 0 0 [.ref 0] G (xre (fun v G' => v = none ∧ G' = (G.set 22 (cI 0 (List.replicate 120 (-1)))).set 23 (cI 0 (List.replicate 120 (-1))))) := by
  refine xMet.of (lv := [some (.ref 0), none]) rfl rfl (Nat.le_of_ble_eq_true rfl) ?_
  refine xj_ic0 dX0_clearFar_0 ?_
  refine xj_istn1 dX0_clearFar_1 rfl ?_
  refine xj_eq rfl rfl (show G = (G.set 22 (cI 0 A0)).set 23 (cI 0 B0) from by rw [gset_id hA0, gset_id hB0]) ?_
  have lp : ∀ (K : Nat) (k : Nat) (A : List Int32) (B : List Int32), 120 - k < K → (k ≤ 120) → (A.length = 120) → (B.length = 120) → (∀ i, i < k → A[i]? = some (-1)) → (∀ i, i < k → B[i]? = some (-1)) → xJ E (yX0_clearFar, cX0_clearFar, 2, none, []) (xR 0 0 0) (xre (fun v G' => v = none ∧ G' = (G.set 22 (cI 0 (List.replicate 120 (-1)))).set 23 (cI 0 (List.replicate 120 (-1))))) 0 0 2 [some (.ref 0), some (.int (nI k))] [] ((G.set 22 (cI 0 A)).set 23 (cI 0 B)) := by
    intro K
    induction K with
    | zero => intro k A B h; exact absurd h (Nat.not_lt_zero _)
    | succ K ih_lp =>
      intro k A B hK hk hA hB hAk hBk
      have hO2 : ((G.set 22 (cI 0 A)).set 23 (cI 0 B))[0]? = some (cO 0 (cFs d)) := by rw [gset (by decide), gset (by decide)]; exact hO
      have h22 : ((G.set 22 (cI 0 A)).set 23 (cI 0 B))[22]? = some (cI 0 A) := by rw [gset (by decide)]; exact gset_self hA0
      refine xj_iload_n dX0_clearFar_2 rfl ?_
      refine xj_bipush (v := 120) dX0_clearFar_3 rfl ?_
      refine xj_icmp_ge (tgt := 28) dX0_clearFar_5 rfl (fun c5 => ?_) (fun c5 => ?_)
      · exact xj_return dX0_clearFar_28 rfl (by have hkn : k = 120 := (by have : 120 ≤ k := Nat.le_of_not_lt fun h => absurd c5 (nI_ge (a := k) (b := 120) h (by omega)); omega); subst hkn; exact ⟨rfl, by rw [rep_ext hA hAk, rep_ext hB hBk]⟩)
      · have hkn : k < 120 := Nat.lt_of_not_le fun h => c5 (nI_le (b := k) (a := 120) h (by omega))
        refine xj_aload_n dX0_clearFar_8 rfl rfl ?_
        refine xj_get dX0_clearFar_9 K0 23 (by decide) q492 hO2 rfl ?_
        refine xj_iload_n dX0_clearFar_12 rfl ?_
        refine xj_icm1 dX0_clearFar_13 ?_
        refine xj_iast dX0_clearFar_14 h22 rfl (by omega) (by omega) ?_
        rw [show (((G.set 22 (cI 0 A)).set 23 (cI 0 B)).set 22 (cI 0 (A.set k (-1)))) = (G.set 22 (cI 0 (A.set k (-1)))).set 23 (cI 0 B) from by rw [gset_comm (by decide), gset_set]]
        have hO3 : ((G.set 22 (cI 0 (A.set k (-1)))).set 23 (cI 0 B))[0]? = some (cO 0 (cFs d)) := by rw [gset (by decide), gset (by decide)]; exact hO
        have h23 : ((G.set 22 (cI 0 (A.set k (-1)))).set 23 (cI 0 B))[23]? = some (cI 0 B) := gset_self (by rw [gset (by decide)]; exact hB0)
        refine xj_aload_n dX0_clearFar_15 rfl rfl ?_
        refine xj_get dX0_clearFar_16 K0 24 (by decide) q493 hO3 rfl ?_
        refine xj_iload_n dX0_clearFar_19 rfl ?_
        refine xj_icm1 dX0_clearFar_20 ?_
        refine xj_iast dX0_clearFar_21 h23 rfl (by omega) (by omega) ?_
        rw [gset_set]
        refine xj_iinc1 (cst := 1) dX0_clearFar_22 rfl rfl ?_
        rw [nI_1]
        refine xj_goto (tgt := 2) dX0_clearFar_25 rfl ?_
        exact ih_lp (k + 1) _ _ (by omega) (by omega) (by rw [List.length_set]; exact hA) (by rw [List.length_set]; exact hB) (fun i hi => set_lt (by omega) hAk hi) (fun i hi => set_lt (by omega) hBk hi)
  exact lp 121 0 A0 B0 (by omega) (by omega) hlA hlB (fun i hi => absurd hi (Nat.not_lt_zero _)) (fun i hi => absurd hi (Nat.not_lt_zero _))
theorem A_goUp {i g : Nat} {A0 B0 : List Int32}  (hv : cV d e n G) (hn3 : e 3 = .long (lN g)) (hg : g < 2 ^ 64) (hdk : dsk G) (hn5 : n < 6) (hi : i < wy n) (h22 : G[22]? = some (cI 0 A0)) (h23 : G[23]? = some (cI 0 B0)) (hlA : A0.length = 120) (hlB : B0.length = 120) : xMet E yX0_goUp cX0_goUp 4 none 4 0 0 [.ref 0, .int (nI i)] G (xre (fun v G' => v = none ∧ dsk G' ∧ gfr [0, 13, 14, 15, 16, 21, 22, 23] G G' ∧ G'[22]? = some (cI 0 (clV n i (rot n g (rb n i) false) (A0, B0)).1) ∧ G'[23]? = some (cI 0 (clV n i (rot n g (rb n i) false) (A0, B0)).2) ∧ G'[0]? = some (cO 0 (cFs (cu d 22 (.int (nI (rot n g (rb n i) false).length))))))) := by
  obtain ⟨hO, hN, hn0, h1n, hn6⟩ := id hv
  have hrb := rb_mem (by omega) h1n hi
  have hwy := f_wy5 n hn5
  obtain ⟨M50, hM50, h15⟩ := hdk.1 15 (by decide) (by decide)
  have hrl := rot_le (n := n) (g := g) (r := rb n i) (t := false)
  refine xMet.of (lv := [some (.ref 0), some (.int (nI i)), none, none]) rfl rfl (Nat.le_of_ble_eq_true rfl) ?_
  refine xj_aload_n dX0_goUp_0 rfl rfl ?_
  refine xj_iload_n dX0_goUp_1 rfl ?_
  refine xj_aload_n dX0_goUp_2 rfl rfl ?_
  refine xj_get dX0_goUp_3 K0 12 (by decide) q481 hO rfl ?_
  refine xj_dV dX0_goUp_6 q681 kV_X0_byRank (A_byRank hv h15 (by decide) (by decide) hi (by omega) (by omega)) hO rfl rfl rfl rfl (Nat.le_of_ble_eq_true rfl) ⟨(Nat.le_of_ble_eq_true rfl), (Nat.le_of_ble_eq_true rfl)⟩ (Nat.le_of_ble_eq_true rfl) (Nat.le_of_ble_eq_true rfl) ?_
  rintro _ _ ⟨rfl, M5, hM5, hM5R, rfl⟩
  have hv2 : cV d e n (G.set 15 (cI 1 M5)) := hv.set (by decide) (by decide)
  obtain ⟨hO2, hN2, -⟩ := id hv2
  have hdk2 := hdk.row (r := 15) (M := M5) (by decide) (by decide) (by omega)
  obtain ⟨M30, hM30, h13⟩ := hdk2.1 13 (by decide) (by decide)
  obtain ⟨M40, hM40, h14⟩ := hdk2.1 14 (by decide) (by decide)
  obtain ⟨F0, hF0, h210⟩ := hdk2.2
  refine xj_aload_n dX0_goUp_9 rfl rfl ?_
  refine xj_aload_n dX0_goUp_10 rfl rfl ?_
  refine xj_get dX0_goUp_11 K0 12 (by decide) q481 hO2 rfl ?_
  refine xj_ic1 dX0_goUp_14 ?_
  refine xj_dV dX0_goUp_15 q1361 kV_X0_findRotations (A_findRotations (t := false) hv2 hn3 hg (gset_self h15) hM5R hrb h13 h14 h210 hM30 hM40 hF0) hO2 rfl rfl rfl rfl (Nat.le_of_ble_eq_true rfl) ⟨(Nat.le_of_ble_eq_true rfl), (Nat.le_of_ble_eq_true rfl)⟩ (Nat.le_of_ble_eq_true rfl) (Nat.le_of_ble_eq_true rfl) ?_
  rintro _ H ⟨rfl, M3, M4, F, hM3, hM4, hF, hlk, hfr, h13, h14, h21, h0⟩
  have hdk3 := hdk2.rot hfr hM3 hM4 hF h13 h14 h21
  have hfr3 : gfr [0, 13, 14, 15, 16, 21, 22, 23] G H := ((gfr.refl.set (by decide)).trans (hfr.mono (by decide)))
  have h22c : H[22]? = some (cI 0 A0) := by rw [hfr.2 22 (by decide), gset (by decide)]; exact h22
  have h23c : H[23]? = some (cI 0 B0) := by rw [hfr.2 23 (by decide), gset (by decide)]; exact h23
  refine xj_ic0 dX0_goUp_18 ?_
  refine xj_istn2 dX0_goUp_19 rfl ?_
  have lk : ∀ (K : Nat) (k : Nat) (s : List Int32 × List Int32) (H : xH), (rot n g (rb n i) false).length - k < K → (k ≤ (rot n g (rb n i) false).length) → (s.1.length = 120 ∧ s.2.length = 120) → (clV n i ((rot n g (rb n i) false).drop k) s = (clV n i (rot n g (rb n i) false) (A0, B0))) → (dsk H) → (gfr [0, 13, 14, 15, 16, 21, 22, 23] G H) → (H[21]? = some (cI 0 F)) → (H[22]? = some (cI 0 s.1)) → (H[23]? = some (cI 0 s.2)) → (H[0]? = some (cO 0 (cFs (cu d 22 (.int (nI (rot n g (rb n i) false).length)))))) → xJ E (yX0_goUp, cX0_goUp, 4, none, []) (xR 4 0 0) (xre (fun v G' => v = none ∧ dsk G' ∧ gfr [0, 13, 14, 15, 16, 21, 22, 23] G G' ∧ G'[22]? = some (cI 0 (clV n i (rot n g (rb n i) false) (A0, B0)).1) ∧ G'[23]? = some (cI 0 (clV n i (rot n g (rb n i) false) (A0, B0)).2) ∧ G'[0]? = some (cO 0 (cFs (cu d 22 (.int (nI (rot n g (rb n i) false).length))))))) 0 0 20 [some (.ref 0), some (.int (nI i)), some (.int (nI k)), none] [] H := by
    intro K
    induction K with
    | zero => intro k s H h; exact absurd h (Nat.not_lt_zero _)
    | succ K ih_lk =>
      intro k s H hK hk hs1 hs hdk hfr h21 h22 h23 h0
      have hv2 : cV (cu d 22 (.int (nI (rot n g (rb n i) false).length))) e n H := hv.mv h0 (hfr.2 4 (by decide))
      obtain ⟨hO2, hN2, -⟩ := id hv2
      refine xj_iload_n dX0_goUp_20 rfl ?_
      refine xj_aload_n dX0_goUp_21 rfl rfl ?_
      refine xj_get dX0_goUp_22 K0 22 (by decide) q491 hO2 rfl ?_
      refine xj_icmp_ge (tgt := 111) dX0_goUp_25 rfl (fun c25 => ?_) (fun c25 => ?_)
      · exact xj_return dX0_goUp_111 rfl (by have hil : (rot n g (rb n i) false).length ≤ k := Nat.le_of_not_lt fun h => absurd c25 (nI_ge h (by omega)); rw [List.drop_eq_nil_of_le hil] at hs; have hs : s = (clV n i (rot n g (rb n i) false) (A0, B0)) := hs; exact ⟨rfl, hdk, hfr, by rw [← hs]; exact h22, by rw [← hs]; exact h23, h0⟩)
      · have hil : k < (rot n g (rb n i) false).length := Nat.lt_of_not_le fun h => c25 (nI_le h (by omega))
        obtain ⟨v, hvi⟩ : ∃ v, (rot n g (rb n i) false)[k]? = some v := ⟨_, List.getElem?_eq_getElem hil⟩
        have hvm : v ∈ rws n := rot_mem (by omega) hrb v (List.mem_of_getElem? hvi)
        have hXi := hlk k v hvi
        have hdr : (rot n g (rb n i) false).drop k = v :: (rot n g (rb n i) false).drop (k + 1) := by rw [List.drop_eq_getElem_cons hil]; congr 1; exact Option.some.inj ((List.getElem?_eq_getElem hil).symm.trans hvi)
        rw [hdr, show clV n i (v :: (rot n g (rb n i) false).drop (k + 1)) s = clV n i ((rot n g (rb n i) false).drop (k + 1)) (clS n i v s) from rfl] at hs
        have hv31 := R31 (by omega) hvm
        have hrk := f_rk5 n hn5 v hvm
        obtain ⟨M6, hM6, h16⟩ := hdk.1 16 (by decide) (by decide)
        refine xj_aload_n dX0_goUp_28 rfl rfl ?_
        refine xj_aload_n dX0_goUp_29 rfl rfl ?_
        refine xj_get dX0_goUp_30 K0 21 (by decide) q490 hO2 rfl ?_
        refine xj_iload_n dX0_goUp_33 rfl ?_
        refine xj_iald dX0_goUp_34 h21 rfl (by omega) hXi ?_
        refine xj_dV dX0_goUp_35 q1381 kV_X0_rankOfTold (A_rankOfTold hv2 h16 (by omega) hvm (by omega)) hO2 rfl rfl rfl rfl (Nat.le_of_ble_eq_true rfl) ⟨(Nat.le_of_ble_eq_true rfl), (Nat.le_of_ble_eq_true rfl)⟩ (Nat.le_of_ble_eq_true rfl) (Nat.le_of_ble_eq_true rfl) ?_
        rintro _ _ ⟨rfl, M7, hM7, hM7R, rfl⟩
        have hv3 : cV (cu d 22 (.int (nI (rot n g (rb n i) false).length))) e n (H.set 16 (cI 1 M7)) := hv2.set (by decide) (by decide)
        obtain ⟨hO3, hN3, -⟩ := id hv3
        have h22b : (H.set 16 (cI 1 M7))[22]? = some (cI 0 s.1) := by rw [gset (by decide)]; exact h22
        refine xj_istn3 dX0_goUp_38 rfl ?_
        refine xj_aload_n dX0_goUp_39 rfl rfl ?_
        refine xj_get dX0_goUp_40 K0 23 (by decide) q492 hO3 rfl ?_
        refine xj_iload_n dX0_goUp_43 rfl ?_
        refine xj_aload_n dX0_goUp_44 rfl rfl ?_
        refine xj_get dX0_goUp_45 K0 23 (by decide) q492 hO3 rfl ?_
        refine xj_iload_n dX0_goUp_48 rfl ?_
        refine xj_iald dX0_goUp_49 h22b rfl (by omega) (gD_at (by omega)) ?_
        refine xj_aload_n dX0_goUp_50 rfl rfl ?_
        refine xj_get dX0_goUp_51 K0 23 (by decide) q492 hO3 rfl ?_
        refine xj_iload_n dX0_goUp_54 rfl ?_
        refine xj_iald dX0_goUp_55 h22b rfl (by omega) (gD_at (by omega)) ?_
        refine xj_ic1 dX0_goUp_56 ?_
        refine xj_iadd dX0_goUp_57 ?_
        refine xj_mmax dX0_goUp_58 q741 qMmaxS qMI qMmaxC (Nat.le_of_ble_eq_true rfl) ⟨Nat.le_of_ble_eq_true rfl, Nat.le_of_ble_eq_true rfl⟩ ?_
        refine xj_iast dX0_goUp_61 h22b rfl (by omega) (by omega) ?_
        have hv4 : cV (cu d 22 (.int (nI (rot n g (rb n i) false).length))) e n ((H.set 16 (cI 1 M7)).set 22 (cI 0 (s.1.set (rk n v) (if s.1.getD (rk n v) 0 < s.1.getD i 0 + 1 then s.1.getD i 0 + 1 else s.1.getD (rk n v) 0)))) := hv3.set (by decide) (by decide)
        obtain ⟨hO4, hN4, -⟩ := id hv4
        have h23b : ((H.set 16 (cI 1 M7)).set 22 (cI 0 (s.1.set (rk n v) (if s.1.getD (rk n v) 0 < s.1.getD i 0 + 1 then s.1.getD i 0 + 1 else s.1.getD (rk n v) 0))))[23]? = some (cI 0 s.2) := by rw [gset (by decide), gset (by decide)]; exact h23
        refine xj_aload_n dX0_goUp_62 rfl rfl ?_
        refine xj_get dX0_goUp_63 K0 24 (by decide) q493 hO4 rfl ?_
        refine xj_iload_n dX0_goUp_66 rfl ?_
        refine xj_aload_n dX0_goUp_67 rfl rfl ?_
        refine xj_get dX0_goUp_68 K0 24 (by decide) q493 hO4 rfl ?_
        refine xj_iload_n dX0_goUp_71 rfl ?_
        refine xj_iald dX0_goUp_72 h23b rfl (by omega) (gD_at (by omega)) ?_
        refine xj_if_ge (tgt := 87) dX0_goUp_73 rfl (fun c73 => ?_) (fun c73 => ?_)
        · refine xj_aload_n dX0_goUp_87 rfl rfl ?_
          refine xj_get dX0_goUp_88 K0 24 (by decide) q493 hO4 rfl ?_
          refine xj_iload_n dX0_goUp_91 rfl ?_
          refine xj_iald dX0_goUp_92 h23b rfl (by omega) (gD_at (by omega)) ?_
          refine xj_aload_n dX0_goUp_93 rfl rfl ?_
          refine xj_get dX0_goUp_94 K0 24 (by decide) q493 hO4 rfl ?_
          refine xj_iload_n dX0_goUp_97 rfl ?_
          refine xj_iald dX0_goUp_98 h23b rfl (by omega) (gD_at (by omega)) ?_
          refine xj_ic1 dX0_goUp_99 ?_
          refine xj_iadd dX0_goUp_100 ?_
          refine xj_mmin dX0_goUp_101 q738 qMminS qMI qMminC (Nat.le_of_ble_eq_true rfl) ⟨Nat.le_of_ble_eq_true rfl, Nat.le_of_ble_eq_true rfl⟩ ?_
          refine xj_top (y := if s.2.getD (rk n v) 0 < 0 ∨ s.2.getD i 0 + 1 < s.2.getD (rk n v) 0 then s.2.getD i 0 + 1 else s.2.getD (rk n v) 0) (by first | exact c_sh1 c73 | exact c_sh2 c73) ?_
          refine xj_iast dX0_goUp_104 h23b rfl (by omega) (by omega) ?_
          refine xj_iinc2 (cst := 1) dX0_goUp_105 rfl rfl ?_
          rw [nI_1]
          refine xj_goto (tgt := 20) dX0_goUp_108 rfl ?_
          exact xj_fg3 (ih_lk (k + 1) (clS n i v s) _ (by omega) (by omega) (by unfold clS; rw [List.length_set, List.length_set]; exact hs1) hs (((hdk.row (by decide) (by decide) (by omega)).oth (by decide) (by decide)).oth (by decide) (by decide)) (((hfr.set (by decide)).set (by decide)).set (by decide)) (by rw [gset (by decide), gset (by decide), gset (by decide)]; exact h21) (by rw [gset (by decide)]; exact gset_self h22b) (gset_self h23b) (by rw [gset (by decide)]; exact hO4))
        · refine xj_aload_n dX0_goUp_76 rfl rfl ?_
          refine xj_get dX0_goUp_77 K0 24 (by decide) q493 hO4 rfl ?_
          refine xj_iload_n dX0_goUp_80 rfl ?_
          refine xj_iald dX0_goUp_81 h23b rfl (by omega) (gD_at (by omega)) ?_
          refine xj_ic1 dX0_goUp_82 ?_
          refine xj_iadd dX0_goUp_83 ?_
          refine xj_goto (tgt := 104) dX0_goUp_84 rfl ?_
          refine xj_top (y := if s.2.getD (rk n v) 0 < 0 ∨ s.2.getD i 0 + 1 < s.2.getD (rk n v) 0 then s.2.getD i 0 + 1 else s.2.getD (rk n v) 0) (by first | exact c_sh1 c73 | exact c_sh2 c73) ?_
          refine xj_iast dX0_goUp_104 h23b rfl (by omega) (by omega) ?_
          refine xj_iinc2 (cst := 1) dX0_goUp_105 rfl rfl ?_
          rw [nI_1]
          refine xj_goto (tgt := 20) dX0_goUp_108 rfl ?_
          exact xj_fg3 (ih_lk (k + 1) (clS n i v s) _ (by omega) (by omega) (by unfold clS; rw [List.length_set, List.length_set]; exact hs1) hs (((hdk.row (by decide) (by decide) (by omega)).oth (by decide) (by decide)).oth (by decide) (by decide)) (((hfr.set (by decide)).set (by decide)).set (by decide)) (by rw [gset (by decide), gset (by decide), gset (by decide)]; exact h21) (by rw [gset (by decide)]; exact gset_self h22b) (gset_self h23b) (by rw [gset (by decide)]; exact hO4))
  exact lk 7 0 (A0, B0) H (by omega) (Nat.zero_le _) ⟨hlA, hlB⟩ rfl hdk3 hfr3 h21 h22c h23c h0
theorem A_findWays {g : Nat} {A0 B0 : List Int32} {z0 : Int32}  (hv : cV d e n G) (hn3 : e 3 = .long (lN g)) (hg : g < 2 ^ 64) (hdk : dsk G) (hn5 : n < 6) (hd22 : d 22 = .int z0) (h22 : G[22]? = some (cI 0 A0)) (h23 : G[23]? = some (cI 0 B0)) (hlA : A0.length = 120) (hlB : B0.length = 120) : xMet E yX0_findWays cX0_findWays 5 none 5 0 0 [.ref 0] G (xre (fun v G' => v = none ∧ dsk G' ∧ gfr [0, 11, 13, 14, 15, 16, 21, 22, 23] G G' ∧ G'[22]? = some (cI 0 (fwA n g).1) ∧ G'[23]? = some (cI 0 (fwA n g).2) ∧ ∃ k, G'[0]? = some (cO 0 (cFs (cu d 22 (.int k)))))) := by
  obtain ⟨hO, hN, hn0, h1n, hn6⟩ := id hv
  have hwy := f_wy5 n hn5
  have hnn : n * (n - 1) ≤ 20 := f_nn n hn5
  refine xMet.of (lv := [some (.ref 0), none, none, none, none]) rfl rfl (Nat.le_of_ble_eq_true rfl) ?_
  refine xj_aload_n dX0_findWays_0 rfl rfl ?_
  refine xj_dV dX0_findWays_1 q1377 kV_X0_clearFar (A_clearFar hO h22 h23 hlA hlB) hO rfl rfl rfl rfl (Nat.le_of_ble_eq_true rfl) ⟨(Nat.le_of_ble_eq_true rfl), (Nat.le_of_ble_eq_true rfl)⟩ (Nat.le_of_ble_eq_true rfl) (Nat.le_of_ble_eq_true rfl) ?_
  rintro _ _ ⟨rfl, rfl⟩
  have hv2 : cV d e n ((G.set 22 (cI 0 (List.replicate 120 (-1)))).set 23 (cI 0 (List.replicate 120 (-1)))) := (hv.set (by decide) (by decide)).set (by decide) (by decide)
  obtain ⟨hO2, hN2, -⟩ := id hv2
  have h22b : ((G.set 22 (cI 0 (List.replicate 120 (-1)))).set 23 (cI 0 (List.replicate 120 (-1))))[22]? = some (cI 0 (List.replicate 120 (-1))) := by rw [gset (by decide)]; exact gset_self h22
  refine xj_aload_n dX0_findWays_4 rfl rfl ?_
  refine xj_get dX0_findWays_5 K0 23 (by decide) q492 hO2 rfl ?_
  refine xj_ic0 dX0_findWays_8 ?_
  refine xj_ic0 dX0_findWays_9 ?_
  refine xj_iast dX0_findWays_10 h22b (show (0 : Int32) = nI 0 from rfl) (by decide) (by decide) ?_
  have hv3 : cV d e n (((G.set 22 (cI 0 (List.replicate 120 (-1)))).set 23 (cI 0 (List.replicate 120 (-1)))).set 22 (cI 0 ((List.replicate 120 (-1)).set 0 0))) := hv2.set (by decide) (by decide)
  obtain ⟨hO3, hN3, -⟩ := id hv3
  have h22c : ((G.set 22 (cI 0 (List.replicate 120 (-1)))).set 23 (cI 0 (List.replicate 120 (-1))))[22]? = some (cI 0 (List.replicate 120 (-1))) := h22b
  have h23c : (((G.set 22 (cI 0 (List.replicate 120 (-1)))).set 23 (cI 0 (List.replicate 120 (-1)))).set 22 (cI 0 ((List.replicate 120 (-1)).set 0 0)))[23]? = some (cI 0 (List.replicate 120 (-1))) := by rw [gset (by decide)]; exact gset_self (by rw [gset (by decide)]; exact h23)
  refine xj_aload_n dX0_findWays_11 rfl rfl ?_
  refine xj_get dX0_findWays_12 K0 24 (by decide) q493 hO3 rfl ?_
  refine xj_ic0 dX0_findWays_15 ?_
  refine xj_ic0 dX0_findWays_16 ?_
  refine xj_iast dX0_findWays_17 h23c (show (0 : Int32) = nI 0 from rfl) (by decide) (by decide) ?_
  have hv4 : cV d e n ((((G.set 22 (cI 0 (List.replicate 120 (-1)))).set 23 (cI 0 (List.replicate 120 (-1)))).set 22 (cI 0 ((List.replicate 120 (-1)).set 0 0))).set 23 (cI 0 ((List.replicate 120 (-1)).set 0 0))) := hv3.set (by decide) (by decide)
  obtain ⟨hO4, hN4, -⟩ := id hv4
  refine xj_aload_n dX0_findWays_18 rfl rfl ?_
  refine xj_cV dX0_findWays_19 q677 kV_X0_manyRows (A_manyRows hv4) hO4 rfl rfl rfl rfl (Nat.le_of_ble_eq_true rfl) ⟨(Nat.le_of_ble_eq_true rfl), (Nat.le_of_ble_eq_true rfl)⟩ (Nat.le_of_ble_eq_true rfl) (Nat.le_of_ble_eq_true rfl) ?_
  refine xj_istn1 dX0_findWays_22 rfl ?_
  refine xj_aload_n dX0_findWays_23 rfl rfl ?_
  refine xj_get dX0_findWays_24 K0 4 (by decide) q473 hO4 rfl ?_
  refine xj_getN dX0_findWays_27 K3 0 (by decide) q321 hN4 (congrArg some hn0) ?_
  refine xj_aload_n dX0_findWays_30 rfl rfl ?_
  refine xj_get dX0_findWays_31 K0 4 (by decide) q473 hO4 rfl ?_
  refine xj_getN dX0_findWays_34 K3 0 (by decide) q321 hN4 (congrArg some hn0) ?_
  refine xj_ic1 dX0_findWays_37 ?_
  refine xj_isub dX0_findWays_38 ?_
  rw [nI_sub1 h1n]
  refine xj_imul dX0_findWays_39 ?_
  refine xj_top (pk_mul n (n - 1)) ?_
  refine xj_ic2 dX0_findWays_40 ?_
  refine xj_idiv dX0_findWays_41 (by decide) ?_
  refine xj_top (pk_div (d := 2) (show n * (n - 1) < 2 ^ 31 by omega) (by decide) (by decide)) ?_
  refine xj_istn2 dX0_findWays_42 rfl ?_
  refine xj_ic0 dX0_findWays_43 ?_
  refine xj_istn3 dX0_findWays_44 rfl ?_
  have lw : ∀ (K : Nat) (w : Nat) (s : List Int32 × List Int32) (z : Int32) (H : xH), (n * (n - 1) / 2) - w < K → (w ≤ (n * (n - 1) / 2)) → (lpN (fwO n g) w ((n * (n - 1) / 2) - w) s = fwA n g) → (s.1.length = 120 ∧ s.2.length = 120) → (dsk H) → (gfr [0, 11, 13, 14, 15, 16, 21, 22, 23] G H) → (H[22]? = some (cI 0 s.1)) → (H[23]? = some (cI 0 s.2)) → (H[0]? = some (cO 0 (cFs (cu d 22 (.int z))))) → xJ E (yX0_findWays, cX0_findWays, 5, none, []) (xR 5 0 0) (xre (fun v G' => v = none ∧ dsk G' ∧ gfr [0, 11, 13, 14, 15, 16, 21, 22, 23] G G' ∧ G'[22]? = some (cI 0 (fwA n g).1) ∧ G'[23]? = some (cI 0 (fwA n g).2) ∧ ∃ k, G'[0]? = some (cO 0 (cFs (cu d 22 (.int k)))))) 0 0 45 [some (.ref 0), some (.int (nI (wy n))), some (.int (nI (n * (n - 1) / 2))), some (.int (nI w)), none] [] H := by
    intro K
    induction K with
    | zero => intro w s z H h; exact absurd h (Nat.not_lt_zero _)
    | succ K ih_lw =>
      intro w s z H hK hw hs hs1 hdk hfr h22 h23 h0
      refine xj_iload_n dX0_findWays_45 rfl ?_
      refine xj_iload_n dX0_findWays_46 rfl ?_
      refine xj_icmp_ge (tgt := 112) dX0_findWays_47 rfl (fun c47 => ?_) (fun c47 => ?_)
      · exact xj_return dX0_findWays_112 rfl (by have hwn : (n * (n - 1) / 2) ≤ w := Nat.le_of_not_lt fun h => absurd c47 (nI_ge h (by omega)); rw [lp_end _ hwn] at hs; subst hs; exact ⟨rfl, hdk, hfr, h22, h23, z, h0⟩)
      · have hwn : w < (n * (n - 1) / 2) := Nat.lt_of_not_le fun h => c47 (nI_le h (by omega))
        refine xj_ic0 dX0_findWays_50 ?_
        refine xj_ist4 dX0_findWays_51 rfl ?_
        have li : ∀ (K : Nat) (i : Nat) (s : List Int32 × List Int32) (z : Int32) (H : xH), wy n - i < K → (i ≤ wy n) → (lpN (fwO n g) (w + 1) ((n * (n - 1) / 2) - (w + 1)) (lpN (fwI n g w) i (wy n - i) s) = fwA n g) → (s.1.length = 120 ∧ s.2.length = 120) → (dsk H) → (gfr [0, 11, 13, 14, 15, 16, 21, 22, 23] G H) → (H[22]? = some (cI 0 s.1)) → (H[23]? = some (cI 0 s.2)) → (H[0]? = some (cO 0 (cFs (cu d 22 (.int z))))) → xJ E (yX0_findWays, cX0_findWays, 5, none, []) (xR 5 0 0) (xre (fun v G' => v = none ∧ dsk G' ∧ gfr [0, 11, 13, 14, 15, 16, 21, 22, 23] G G' ∧ G'[22]? = some (cI 0 (fwA n g).1) ∧ G'[23]? = some (cI 0 (fwA n g).2) ∧ ∃ k, G'[0]? = some (cO 0 (cFs (cu d 22 (.int k)))))) 0 0 53 [some (.ref 0), some (.int (nI (wy n))), some (.int (nI (n * (n - 1) / 2))), some (.int (nI w)), some (.int (nI i))] [] H := by
          intro K
          induction K with
          | zero => intro i s z H h; exact absurd h (Nat.not_lt_zero _)
          | succ K ih_li =>
            intro i s z H hK hi hs hs1 hdk hfr h22 h23 h0
            have hv2 : cV (cu d 22 (.int z)) e n H := hv.mv h0 (hfr.2 4 (by decide))
            obtain ⟨hO2, hN2, -⟩ := id hv2
            refine xj_iload dX0_findWays_53 rfl ?_
            refine xj_iload_n dX0_findWays_55 rfl ?_
            refine xj_icmp_ge (tgt := 106) dX0_findWays_56 rfl (fun c56 => ?_) (fun c56 => ?_)
            · have hil : wy n ≤ i := Nat.le_of_not_lt fun h => absurd c56 (nI_ge h (by omega))
              rw [lp_end (fwI n g w) hil] at hs
              refine xj_iinc3 (cst := 1) dX0_findWays_106 rfl rfl ?_
              rw [nI_1]
              refine xj_goto (tgt := 45) dX0_findWays_109 rfl ?_
              exact xj_fg4 (ih_lw (w + 1) s z H (by omega) (by omega) hs hs1 hdk hfr h22 h23 h0)
            · have hil : i < wy n := Nat.lt_of_not_le fun h => c56 (nI_le h (by omega))
              obtain ⟨M1, hM1, h11⟩ := hdk.1 11 (by decide) (by decide)
              have hrb := rb_mem (by omega) h1n hil
              refine xj_aload_n dX0_findWays_59 rfl rfl ?_
              refine xj_iload dX0_findWays_60 rfl ?_
              refine xj_aload_n dX0_findWays_62 rfl rfl ?_
              refine xj_get dX0_findWays_63 K0 8 (by decide) q477 hO2 rfl ?_
              refine xj_dV dX0_findWays_66 q681 kV_X0_byRank (A_byRank hv2 h11 (by decide) (by decide) hil (by omega) (by omega)) hO2 rfl rfl rfl rfl (Nat.le_of_ble_eq_true rfl) ⟨(Nat.le_of_ble_eq_true rfl), (Nat.le_of_ble_eq_true rfl)⟩ (Nat.le_of_ble_eq_true rfl) (Nat.le_of_ble_eq_true rfl) ?_
              rintro _ _ ⟨rfl, M2, hM2, hM2R, rfl⟩
              have hv3 : cV (cu d 22 (.int z)) e n (H.set 11 (cI 1 M2)) := hv2.set (by decide) (by decide)
              obtain ⟨hO3, hN3, -⟩ := id hv3
              have h22b : (H.set 11 (cI 1 M2))[22]? = some (cI 0 s.1) := by rw [gset (by decide)]; exact h22
              have h23b : (H.set 11 (cI 1 M2))[23]? = some (cI 0 s.2) := by rw [gset (by decide)]; exact h23
              have hdk2 := hdk.row (r := 11) (M := M2) (by decide) (by decide) (by omega)
              have hfr2 : gfr [0, 11, 13, 14, 15, 16, 21, 22, 23] G (H.set 11 (cI 1 M2)) := hfr.set (by decide)
              rw [lp_step _ hil] at hs
              refine xj_aload_n dX0_findWays_69 rfl rfl ?_
              refine xj_get dX0_findWays_70 K0 23 (by decide) q492 hO3 rfl ?_
              refine xj_iload dX0_findWays_73 rfl ?_
              refine xj_iald dX0_findWays_75 h22b rfl (by omega) (gD_at (by omega)) ?_
              refine xj_if_lt (tgt := 100) dX0_findWays_76 rfl (fun c76 => ?_) (fun c76 => ?_)
              · refine xj_iinc4 (cst := 1) dX0_findWays_100 rfl rfl ?_
                rw [nI_1]
                refine xj_goto (tgt := 53) dX0_findWays_103 rfl ?_
                first
                | exact ih_li (i + 1) _ _ K2 (by omega) (by omega) hs (by have := clV_len n i (rot n g (rb n i) false) s; omega) hdk4 (hfr2.trans (hfr4.mono (by decide))) h224 h234 h04
                | exact ih_li (i + 1) s z _ (by omega) (by omega) (by rw [show fwI n g w i s = s from if_neg (fun q => c91 (by rw [q.2]))] at hs; exact hs) hs1 hdk2 hfr2 h22b h23b hO3
                | exact ih_li (i + 1) s z _ (by omega) (by omega) (by rw [show fwI n g w i s = s from if_neg (fun q => absurd c76 (i32_le q.1))] at hs; exact hs) hs1 hdk2 hfr2 h22b h23b hO3
              · refine xj_aload_n dX0_findWays_79 rfl rfl ?_
                refine xj_aload_n dX0_findWays_80 rfl rfl ?_
                refine xj_get dX0_findWays_81 K0 8 (by decide) q477 hO3 rfl ?_
                refine xj_cV dX0_findWays_84 q604 kV_X0_swapped (A_swapped hv3 (gset_self h11) hM2R hrb) hO3 rfl rfl rfl rfl (Nat.le_of_ble_eq_true rfl) ⟨(Nat.le_of_ble_eq_true rfl), (Nat.le_of_ble_eq_true rfl)⟩ (Nat.le_of_ble_eq_true rfl) (Nat.le_of_ble_eq_true rfl) ?_
                refine xj_cS dX0_findWays_87 q648 kS_X0_ones (A_ones (Nat.lt_trans (iv6_lt (by omega) hrb) (by decide))) rfl rfl (Nat.le_of_ble_eq_true rfl) ⟨(Nat.le_of_ble_eq_true rfl), (Nat.le_of_ble_eq_true rfl)⟩ (Nat.le_of_ble_eq_true rfl) (Nat.le_of_ble_eq_true rfl) ?_
                refine xj_iload_n dX0_findWays_90 rfl ?_
                refine xj_icmp_ne (tgt := 100) dX0_findWays_91 rfl (fun c91 => ?_) (fun c91 => ?_)
                · refine xj_iinc4 (cst := 1) dX0_findWays_100 rfl rfl ?_
                  rw [nI_1]
                  refine xj_goto (tgt := 53) dX0_findWays_103 rfl ?_
                  first
                  | exact ih_li (i + 1) _ _ K2 (by omega) (by omega) hs (by have := clV_len n i (rot n g (rb n i) false) s; omega) hdk4 (hfr2.trans (hfr4.mono (by decide))) h224 h234 h04
                  | exact ih_li (i + 1) s z _ (by omega) (by omega) (by rw [show fwI n g w i s = s from if_neg (fun q => c91 (by rw [q.2]))] at hs; exact hs) hs1 hdk2 hfr2 h22b h23b hO3
                  | exact ih_li (i + 1) s z _ (by omega) (by omega) (by rw [show fwI n g w i s = s from if_neg (fun q => absurd c76 (i32_le q.1))] at hs; exact hs) hs1 hdk2 hfr2 h22b h23b hO3
                · have hcd : 0 ≤ s.1.getD i 0 ∧ pc64 (iv6 n (rb n i)) = w := ⟨i32_nl c76, (nI_eq (Nat.lt_of_le_of_lt (pc64_le _) (by decide)) (by omega)).mp c91⟩
                  rw [show fwI n g w i s = clV n i (rot n g (rb n i) false) s from if_pos hcd] at hs
                  refine xj_aload_n dX0_findWays_94 rfl rfl ?_
                  refine xj_iload dX0_findWays_95 rfl ?_
                  refine xj_dV dX0_findWays_97 q1393 kV_X0_goUp (A_goUp hv3 hn3 hg hdk2 hn5 hil h22b h23b hs1.1 hs1.2) hO3 rfl rfl rfl rfl (Nat.le_of_ble_eq_true rfl) ⟨(Nat.le_of_ble_eq_true rfl), (Nat.le_of_ble_eq_true rfl)⟩ (Nat.le_of_ble_eq_true rfl) (Nat.le_of_ble_eq_true rfl) ?_
                  rintro _ K2 ⟨rfl, hdk4, hfr4, h224, h234, h04⟩
                  rw [cu_cu] at h04
                  refine xj_iinc4 (cst := 1) dX0_findWays_100 rfl rfl ?_
                  rw [nI_1]
                  refine xj_goto (tgt := 53) dX0_findWays_103 rfl ?_
                  first
                  | exact ih_li (i + 1) _ _ K2 (by omega) (by omega) hs (by have := clV_len n i (rot n g (rb n i) false) s; omega) hdk4 (hfr2.trans (hfr4.mono (by decide))) h224 h234 h04
                  | exact ih_li (i + 1) s z _ (by omega) (by omega) (by rw [show fwI n g w i s = s from if_neg (fun q => c91 (by rw [q.2]))] at hs; exact hs) hs1 hdk2 hfr2 h22b h23b hO3
                  | exact ih_li (i + 1) s z _ (by omega) (by omega) (by rw [show fwI n g w i s = s from if_neg (fun q => absurd c76 (i32_le q.1))] at hs; exact hs) hs1 hdk2 hfr2 h22b h23b hO3
        exact li (wy n + 1) 0 s z H (by omega) (by omega) (by rw [← hs, lp_step (fwO n g) hwn]; rfl) hs1 hdk hfr h22 h23 h0
  exact lw ((n * (n - 1) / 2) + 1) 0 _ z0 _ (by omega) (by omega) rfl ⟨rfl, rfl⟩ ((((hdk.oth (by decide) (by decide)).oth (by decide) (by decide)).oth (by decide) (by decide)).oth (by decide) (by decide)) ((((gfr.refl.set (by decide)).set (by decide)).set (by decide)).set (by decide)) (by rw [gset (by decide)]; exact gset_self h22c) (gset_self h23c) (by rw [gset (by decide), gset (by decide), gset (by decide), gset (by decide), cu_id hd22]; exact hO)
end A7
