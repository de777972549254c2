/-! ===== the class: classes counted ===== -/
set_option maxRecDepth 100000
theorem K4 : xcls 4 RX4 TX4 2 tyX4 := ⟨rfl, in_X4, tyX4_ok, nmX4⟩
theorem kV_X0_manyClasses : xsV yX0_manyClasses cX0_manyClasses 1 (some FieldType.int) 0 := ⟨q1859, qs77, q151, q1860, by decide, by decide, by decide +kernel⟩
theorem kV_X0_manyRotations : xsV yX0_manyRotations cX0_manyRotations 1 (some FieldType.int) 0 := ⟨q1877, qs78, q151, q1878, by decide, by decide, by decide +kernel⟩
theorem kI_X25_init : xsI yX25_init cX25_init 2 1 := ⟨q1864, q193, q1865, rfl, by decide, by decide, by decide +kernel⟩
theorem kI_X26_init : xsI yX26_init cX26_init 2 1 := ⟨q1882, q194, q1883, rfl, by decide, by decide, by decide +kernel⟩
theorem kU_X25_X25_X20_ofAll : xsU "CoarserOrders$1" "CoarserOrders$Tally" ⟨"CoarserOrders$1", "ofAll", "()I"⟩ yX20_ofAll cX20_ofAll 4 (some FieldType.int) 0 := ⟨q1873, Or.inl q1263, q1874, q1265, q183, q1266, by decide, by decide +kernel⟩
theorem kU_X26_X26_X20_ofAll : xsU "CoarserOrders$2" "CoarserOrders$Tally" ⟨"CoarserOrders$2", "ofAll", "()I"⟩ yX20_ofAll cX20_ofAll 4 (some FieldType.int) 0 := ⟨q1891, Or.inl q1263, q1892, q1265, q183, q1266, by decide, by decide +kernel⟩
theorem cV.app {d e : Nat → Value} {n : Nat} {G : xH} {x : xC} (h : cV d e n G) (hl : 4 < G.length) : cV d e n (G ++ [x]) := ⟨by rw [List.getElem?_append_left (by omega)]; exact h.1, by rw [List.getElem?_append_left hl]; exact h.2.1, h.2.2⟩
theorem cV.fr {d e : Nat → Value} {n : Nat} {G H : xH} (h : cV d e n G) (hf : ∀ j, j < G.length → H[j]? = G[j]?) (hl : 4 < G.length) : cV d e n H := ⟨(hf 0 (by omega)).trans h.1, (hf 4 hl).trans h.2.1, h.2.2⟩
theorem ca_neg {n g : Nat} {x : Int32} (h : x < 0) : ∀ k i, caF n g k i x = -1 := by
  intro k i
  cases k with
  | zero => rfl
  | succ k => show (if x < 0 then -1 else _) = _; rw [if_pos h]
theorem ca_s (n g k i : Nat) (x : Int32) : caF n g (k + 1) i x = (if x < 0 then -1 else if lst n g (rb n i) then (if x = 0 then nI (rb n i) else caF n g k (i + 1) (x + -1)) else caF n g k (i + 1) x) := rfl
theorem ca_st {n g i y : Nat} (hy : y < 2 ^ 31) (hi : i < wy n) : caF n g (wy n - i) i (nI y) = if lst n g (rb n i) then (if y = 0 then nI (rb n i) else caF n g (wy n - (i + 1)) (i + 1) (nI (y - 1))) else caF n g (wy n - (i + 1)) (i + 1) (nI y) := by
  obtain ⟨k, hk⟩ : ∃ k, k = wy n - (i + 1) := ⟨_, rfl⟩
  have e : wy n - i = k + 1 := by omega
  rw [e, ← hk, ca_s, if_neg (nI_pos hy)]
  by_cases hl : lst n g (rb n i) = true
  · rw [if_pos hl, if_pos hl]
    by_cases h : y = 0
    · have h0 : nI y = 0 := by rw [h]; exact nI_0
      rw [if_pos h0, if_pos h]
    · rw [if_neg (nI_ne0 (by omega) hy), if_neg h, nI_m1 (by omega)]
  · rw [if_neg hl, if_neg hl]
section A27
variable {E : xE} {G : xH} {d e : Nat → Value} {n : Nat}
theorem A_manyClasses {g : Nat}  (hv : cV d e n G) (hn3 : e 3 = .long (lN g)) (hg : g < 2 ^ 57) (hl83 : 83 ≤ G.length) : xMet E yX0_manyClasses cX0_manyClasses 1 (some FieldType.int) 6 3 12 [.ref 0] G (xre (fun v_ G' => v_ = some (.int (nI (mnC n g false))) ∧ gfa [] G G')) := by
  obtain ⟨hO, hN, hn0, h1n, hn6⟩ := id hv
  have hl4 : 4 < G.length := by omega
  refine xMet.of (lv := [some (.ref 0)]) rfl rfl (Nat.le_of_ble_eq_true rfl) ?_
  refine xj_newD (fs := [.null, .null]) dX0_manyClasses_0 K25 q1861 q1862 q193 rfl (Nat.le_of_ble_eq_true rfl) (Nat.le_of_ble_eq_true rfl) ?_
  refine xj_dup dX0_manyClasses_3 rfl ?_
  refine xj_aload_n dX0_manyClasses_4 rfl rfl ?_
  refine xj_cI dX0_manyClasses_5 q1863 kI_X25_init (A_init25 app_at) rfl rfl (Nat.le_of_ble_eq_true rfl) ⟨(Nat.le_of_ble_eq_true rfl), (Nat.le_of_ble_eq_true rfl)⟩ (Nat.le_of_ble_eq_true rfl) (Nat.le_of_ble_eq_true rfl) ?_
  rw [app_set]
  have hv2 : cV d e n (G ++ [cO 25 [.ref 0, .ref 0]]) := hv.app (by omega)
  refine xj_dU dX0_manyClasses_8 q1872 kU_X25_X25_X20_ofAll (A_ofAll25 (f := fun i => if lst n g (rb n i) then 1 else 0) hv2 app_at rfl (by rw [List.length_append]; omega) (fun H i L hi hfr hL hR => A_worth25 ((hfr G.length (by rw [List.length_append, List.length_singleton]; omega)).trans app_at) (hv2.fr hfr (by rw [List.length_append]; omega)) hL hR (rb_mem (by omega) h1n hi) hn3 hg)) app_at rfl rfl rfl (Nat.le_of_ble_eq_true rfl) ⟨(Nat.le_of_ble_eq_true rfl), (Nat.le_of_ble_eq_true rfl)⟩ (Nat.le_of_ble_eq_true rfl) (Nat.le_of_ble_eq_true rfl) ?_
  rintro _ H ⟨rfl, hfa⟩
  exact xj_ireturn dX0_manyClasses_11 rfl rfl ⟨by unfold mnC; rw [show mcF n g false = fun i s => s + (if lst n g (rb n i) then 1 else 0) from rfl], ⟨by have := hfa.1; rw [List.length_append] at this; omega, fun i hi _ => (hfa.2 i (by rw [List.length_append]; omega) (by simp)).trans (List.getElem?_append_left hi)⟩⟩
theorem A_manyRotations {g : Nat}  (hv : cV d e n G) (hn3 : e 3 = .long (lN g)) (hg : g < 2 ^ 57) (hl83 : 83 ≤ G.length) : xMet E yX0_manyRotations cX0_manyRotations 1 (some FieldType.int) 6 3 12 [.ref 0] G (xre (fun v_ G' => v_ = some (.int (nI (mnC n g true))) ∧ gfa [] G G')) := by
  obtain ⟨hO, hN, hn0, h1n, hn6⟩ := id hv
  have hl4 : 4 < G.length := by omega
  refine xMet.of (lv := [some (.ref 0)]) rfl rfl (Nat.le_of_ble_eq_true rfl) ?_
  refine xj_newD (fs := [.null, .null]) dX0_manyRotations_0 K26 q1879 q1880 q194 rfl (Nat.le_of_ble_eq_true rfl) (Nat.le_of_ble_eq_true rfl) ?_
  refine xj_dup dX0_manyRotations_3 rfl ?_
  refine xj_aload_n dX0_manyRotations_4 rfl rfl ?_
  refine xj_cI dX0_manyRotations_5 q1881 kI_X26_init (A_init26 app_at) rfl rfl (Nat.le_of_ble_eq_true rfl) ⟨(Nat.le_of_ble_eq_true rfl), (Nat.le_of_ble_eq_true rfl)⟩ (Nat.le_of_ble_eq_true rfl) (Nat.le_of_ble_eq_true rfl) ?_
  rw [app_set]
  have hv2 : cV d e n (G ++ [cO 26 [.ref 0, .ref 0]]) := hv.app (by omega)
  refine xj_dU dX0_manyRotations_8 q1890 kU_X26_X26_X20_ofAll (A_ofAll26 (f := fun i => if lst n g (rb n i) then pc64 (drp n (rb n i)) else 0) hv2 app_at rfl (by rw [List.length_append]; omega) (fun H i L hi hfr hL hR => A_worth26 ((hfr G.length (by rw [List.length_append, List.length_singleton]; omega)).trans app_at) (hv2.fr hfr (by rw [List.length_append]; omega)) hL hR (rb_mem (by omega) h1n hi) hn3 hg)) app_at rfl rfl rfl (Nat.le_of_ble_eq_true rfl) ⟨(Nat.le_of_ble_eq_true rfl), (Nat.le_of_ble_eq_true rfl)⟩ (Nat.le_of_ble_eq_true rfl) (Nat.le_of_ble_eq_true rfl) ?_
  rintro _ H ⟨rfl, hfa⟩
  exact xj_ireturn dX0_manyRotations_11 rfl rfl ⟨by unfold mnC; rw [show mcF n g true = fun i s => s + (if lst n g (rb n i) then pc64 (drp n (rb n i)) else 0) from rfl], ⟨by have := hfa.1; rw [List.length_append] at this; omega, fun i hi _ => (hfa.2 i (by rw [List.length_append]; omega) (by simp)).trans (List.getElem?_append_left hi)⟩⟩
theorem A_many {x : Int32} {g mk st tp tr : Nat}  (hv : cV d e n G) (hn3 : e 3 = .long (lN g)) (hg : g < 2 ^ 57) (hA : cA d n G) (hl83 : 83 ≤ G.length) (hn1 : e 1 = .int (nI mk)) (hd32 : d 32 = .int (nI st)) (hd17 : d 17 = .int (nI tp)) (h32 : G[32]? = some (cO 4 [.ref 33, .int (nI tr)])) : xMet E yX0_many cX0_many 2 (some FieldType.int) 7 3 12 [.ref 0, .int x] G (xre (fun v_ G' => v_ = some (.int (o_many n g mk st tp tr x)) ∧ gfa [] G G')) := by
  obtain ⟨hO, hN, hn0, h1n, hn6⟩ := id hv
  obtain ⟨ar, hd3, hdy, LA, hAr, hLA, hAk⟩ := id hA
  have hna := na_lt n (by omega)
  refine xMet.of (lv := [some (.ref 0), some (.int x)]) rfl rfl (Nat.le_of_ble_eq_true rfl) ?_
  refine xj_iload_n dX0_many_0 rfl ?_
  refine xj_tabs (tg := [52, 60, 66, 71, 76, 81, 89, 94, 99]) (tgt := 107) dX0_many_1 rfl rfl rfl ⟨fun c1 => ?_, fun c1 => ?_, fun c1 => ?_, fun c1 => ?_, fun c1 => ?_, fun c1 => ?_, fun c1 => ?_, fun c1 => ?_, fun c1 => ?_, trivial⟩ (fun c1 => ?_)
  · refine xj_aload_n dX0_many_52 rfl rfl ?_
    refine xj_get dX0_many_53 K0 4 (by decide) q473 hO rfl ?_
    refine xj_getN dX0_many_56 K3 0 (by decide) q321 hN (congrArg some hn0) ?_
    exact xj_ireturn dX0_many_59 rfl rfl ⟨by subst c1; unfold o_many; rfl, gfa.refl⟩
  · refine xj_aload_n dX0_many_60 rfl rfl ?_
    refine xj_get dX0_many_61 K0 3 (by decide) q471 hO (congrArg some hd3) ?_
    refine xj_alenR dX0_many_64 hAr rfl ?_
    exact xj_ireturn dX0_many_65 rfl rfl ⟨by subst c1; rw [hLA]; unfold o_many; rfl, gfa.refl⟩
  · refine xj_aload_n dX0_many_66 rfl rfl ?_
    refine xj_cV dX0_many_67 q811 kV_X0_manyGone (A_manyGone hv hn3 (Nat.lt_trans hg (by decide))) hO rfl rfl rfl rfl (Nat.le_of_ble_eq_true rfl) ⟨(Nat.le_of_ble_eq_true rfl), (Nat.le_of_ble_eq_true rfl)⟩ (Nat.le_of_ble_eq_true rfl) (Nat.le_of_ble_eq_true rfl) ?_
    exact xj_ireturn dX0_many_70 rfl rfl ⟨by subst c1; unfold o_many; rfl, gfa.refl⟩
  · refine xj_aload_n dX0_many_71 rfl rfl ?_
    refine xj_dV dX0_many_72 q1857 kV_X0_manyClasses (A_manyClasses hv hn3 hg hl83) hO rfl rfl rfl rfl (Nat.le_of_ble_eq_true rfl) ⟨(Nat.le_of_ble_eq_true rfl), (Nat.le_of_ble_eq_true rfl)⟩ (Nat.le_of_ble_eq_true rfl) (Nat.le_of_ble_eq_true rfl) ?_
    rintro _ H ⟨rfl, hf⟩
    exact xj_ireturn dX0_many_75 rfl rfl ⟨by subst c1; unfold o_many; rfl, hf⟩
  · refine xj_aload_n dX0_many_76 rfl rfl ?_
    refine xj_dV dX0_many_77 q1875 kV_X0_manyRotations (A_manyRotations hv hn3 hg hl83) hO rfl rfl rfl rfl (Nat.le_of_ble_eq_true rfl) ⟨(Nat.le_of_ble_eq_true rfl), (Nat.le_of_ble_eq_true rfl)⟩ (Nat.le_of_ble_eq_true rfl) (Nat.le_of_ble_eq_true rfl) ?_
    rintro _ H ⟨rfl, hf⟩
    exact xj_ireturn dX0_many_80 rfl rfl ⟨by subst c1; unfold o_many; rfl, hf⟩
  · refine xj_aload_n dX0_many_81 rfl rfl ?_
    refine xj_get dX0_many_82 K0 4 (by decide) q473 hO rfl ?_
    refine xj_getN dX0_many_85 K3 1 (by decide) q323 hN (congrArg some hn1) ?_
    exact xj_ireturn dX0_many_88 rfl rfl ⟨by subst c1; unfold o_many; rfl, gfa.refl⟩
  · refine xj_aload_n dX0_many_89 rfl rfl ?_
    refine xj_get dX0_many_90 K0 32 (by decide) q504 hO (congrArg some hd32) ?_
    exact xj_ireturn dX0_many_93 rfl rfl ⟨by subst c1; unfold o_many; rfl, gfa.refl⟩
  · refine xj_aload_n dX0_many_94 rfl rfl ?_
    refine xj_get dX0_many_95 K0 17 (by decide) q486 hO (congrArg some hd17) ?_
    exact xj_ireturn dX0_many_98 rfl rfl ⟨by subst c1; unfold o_many; rfl, gfa.refl⟩
  · refine xj_aload_n dX0_many_99 rfl rfl ?_
    refine xj_get dX0_many_100 K0 35 (by decide) q507 hO rfl ?_
    refine xj_getN dX0_many_103 K4 1 (by decide) q368 h32 rfl ?_
    exact xj_ireturn dX0_many_106 rfl rfl ⟨by subst c1; unfold o_many; rfl, gfa.refl⟩
  · refine xj_icm1 dX0_many_107 ?_
    exact xj_ireturn dX0_many_108 rfl rfl ⟨by unfold o_many; repeat rw [if_neg (fun q => by rw [q] at c1; revert c1; decide)], gfa.refl⟩
theorem A_classAt {x : Int32} {g : Nat}  (hv : cV d e n G) (hn3 : e 3 = .long (lN g)) (hg : g < 2 ^ 57) (hl83 : 83 ≤ G.length) : xMet E yX0_classAt cX0_classAt 5 (some FieldType.int) 5 2 10 [.ref 0, .int x] G (xre (fun v_ G' => v_ = some (.int (caF n g (wy n) 0 x)) ∧ gfa [] G G')) := by
  obtain ⟨hO, hN, hn0, h1n, hn6⟩ := id hv
  have hwy := wy_in n (by omega)
  refine xMet.of (lv := [some (.ref 0), some (.int x), none, none, none]) rfl rfl (Nat.le_of_ble_eq_true rfl) ?_
  refine xj_iload_n dX0_classAt_0 rfl ?_
  refine xj_if_ge (tgt := 6) dX0_classAt_1 rfl (fun c1 => ?_) (fun c1 => ?_)
  · obtain ⟨X, hX31, rfl⟩ := nI_of (i32_le c1)
    refine xj_ic0 dX0_classAt_6 ?_
    refine xj_istn2 dX0_classAt_7 rfl ?_
    refine xj_new (fs := [.null, .int 0, .int 0, .null]) dX0_classAt_8 K22 q1345 q1268 q185 rfl (Nat.le_of_ble_eq_true rfl) (Nat.le_of_ble_eq_true rfl) ?_
    have hv1 : cV d e n (G ++ [cO 22 [.null, .int 0, .int 0, .null]]) := hv.app (by omega)
    refine xj_dup dX0_classAt_11 rfl ?_
    refine xj_aload_n dX0_classAt_12 rfl rfl ?_
    refine xj_dIN dX0_classAt_13 q1346 kI_X22_init (A_rowsInit hv1 app_at (by omega) (by omega)) rfl rfl (Nat.le_of_ble_eq_true rfl) ⟨(Nat.le_of_ble_eq_true rfl), (Nat.le_of_ble_eq_true rfl)⟩ (Nat.le_of_ble_eq_true rfl) (Nat.le_of_ble_eq_true rfl) ?_
    rintro _ H0 ⟨rfl, k1, k2, k3, k4⟩
    rw [List.length_append, List.length_singleton] at k1 k2
    have hv2 : cV d e n H0 := ⟨(k4 0 (by rw [List.length_append]; omega) (by omega)).trans hv1.1, (k4 4 (by rw [List.length_append]; omega) (by omega)).trans hv1.2.1, hn0, h1n, hn6⟩
    refine xj_dV dX0_classAt_16 q1347 kV_X22_iterator (A_iterator hv2 k1 k2 (by omega) (by omega) (by rw [List.length_replicate]; omega)) k1 rfl rfl rfl rfl (Nat.le_of_ble_eq_true rfl) ⟨(Nat.le_of_ble_eq_true rfl), (Nat.le_of_ble_eq_true rfl)⟩ (Nat.le_of_ble_eq_true rfl) (Nat.le_of_ble_eq_true rfl) ?_
    rintro _ _ ⟨rfl, L2, hL2, hL2R, rfl⟩
    rw [List.length_replicate] at hL2
    refine xj_astn3 dX0_classAt_19 rfl rfl ?_
    have lp : ∀ (K : Nat) (i : Nat) (k : Nat) (H : xH), wy n - i < K → (i ≤ wy n) → (k ≤ X ∧ k ≤ i) → (caF n g (wy n - i) i (nI (X - k)) = caF n g (wy n) 0 (nI X)) → (itr n G.length (G.length + 1) i H) → (∀ j, j < G.length → H[j]? = G[j]?) → (H.length = G.length + 2) → xJ E (yX0_classAt, cX0_classAt, 5, (some FieldType.int), []) (xR 5 2 10) (xre (fun v_ G' => v_ = some (.int (caF n g (wy n) 0 (nI X))) ∧ gfa [] G G')) 0 0 20 [some (.ref 0), some (.int (nI X)), some (.int (nI k)), some (.ref G.length), none] [] H := by
      intro K
      induction K with
      | zero => intro i k H h; exact absurd h (Nat.not_lt_zero _)
      | succ K ih_lp =>
        intro i k H hK hi hk hs hit hfr hlH
        have hvH : cV d e n H := ⟨(hfr 0 (by omega)).trans hO, (hfr 4 (by omega)).trans hN, hn0, h1n, hn6⟩
        have hOH := hvH.1
        have h22 := hit.1
        refine xj_aload_n dX0_classAt_20 rfl rfl ?_
        refine xj_cF dX0_classAt_21 q1349 kF_X22_I_X22_hasNext (A_hasNext h22 (by omega)) h22 rfl rfl rfl (Nat.le_of_ble_eq_true rfl) ⟨(Nat.le_of_ble_eq_true rfl), (Nat.le_of_ble_eq_true rfl)⟩ (Nat.le_of_ble_eq_true rfl) (Nat.le_of_ble_eq_true rfl) ?_
        refine xj_if_eq (tgt := 70) dX0_classAt_26 rfl (fun c26 => ?_) (fun c26 => ?_)
        · refine xj_icm1 dX0_classAt_70 ?_
          exact xj_ireturn dX0_classAt_71 rfl rfl (by have hiw : i = wy n := (by have h := of_decide_eq_false (b1_z c26); omega); rw [hiw, Nat.sub_self] at hs; exact ⟨by rw [← hs]; rfl, by omega, fun j hj _ => hfr j hj⟩)
        · have hi2 : i < wy n := by have := of_decide_eq_true (b1_nz c26); omega
          refine xj_aload_n dX0_classAt_29 rfl rfl ?_
          refine xj_dF dX0_classAt_30 q1351 kF_X22_I_X22_next (A_nextO hvH hit hi2 (by omega) (by omega) (by omega)) h22 rfl rfl rfl (Nat.le_of_ble_eq_true rfl) ⟨(Nat.le_of_ble_eq_true rfl), (Nat.le_of_ble_eq_true rfl)⟩ (Nat.le_of_ble_eq_true rfl) (Nat.le_of_ble_eq_true rfl) ?_
          rintro _ H2 ⟨rfl, hit2, hf2⟩
          obtain ⟨-, L, hL, hL6, hR⟩ := id hit2
          rw [show i + 1 - 1 = i by omega] at hR
          have hfr2 : ∀ j, j < G.length → H2[j]? = G[j]? := fun j hj => (hf2.2 j (by simp only [List.mem_cons, List.not_mem_nil, or_false]; omega)).trans (hfr j hj)
          have hv2 : cV d e n H2 := ⟨(hfr2 0 (by omega)).trans hO, (hfr2 4 (by omega)).trans hN, hn0, h1n, hn6⟩
          have hO2 := hv2.1
          have hRm := rb_mem (by omega) h1n hi2
          refine xj_castE dX0_classAt_35 q348 hL xnm_I1 ?_
          refine xj_ast4 dX0_classAt_38 rfl rfl ?_
          refine xj_aload_n dX0_classAt_40 rfl rfl ?_
          refine xj_aload dX0_classAt_41 rfl rfl ?_
          refine xj_cV dX0_classAt_43 q1352 kV_X0_isLeast (A_isLeast hv2 hn3 (Nat.lt_trans hg (by decide)) hL hR hRm) hO2 rfl rfl rfl rfl (Nat.le_of_ble_eq_true rfl) ⟨(Nat.le_of_ble_eq_true rfl), (Nat.le_of_ble_eq_true rfl)⟩ (Nat.le_of_ble_eq_true rfl) (Nat.le_of_ble_eq_true rfl) ?_
          refine xj_if_ne (tgt := 52) dX0_classAt_46 rfl (fun c46 => ?_) (fun c46 => ?_)
          · refine xj_iload_n dX0_classAt_52 rfl ?_
            refine xj_iload_n dX0_classAt_53 rfl ?_
            refine xj_icmp_ne (tgt := 64) dX0_classAt_54 rfl (fun c54 => ?_) (fun c54 => ?_)
            · have ekX : ¬ k = X := fun q => c54 (by rw [q])
              rw [ca_st (by omega) hi2, b1_nz c46, if_pos rfl, if_neg (by omega), show X - k - 1 = X - (k + 1) by omega] at hs
              refine xj_iinc2 (cst := 1) dX0_classAt_64 rfl rfl ?_
              rw [nI_1]
              refine xj_goto (tgt := 20) dX0_classAt_67 rfl ?_
              first | exact xj_fg4 (ih_lp (i + 1) k H2 (by omega) (by omega) (by omega) hs hit2 hfr2 (by rw [hf2.1]; exact hlH)) | exact xj_fg4 (ih_lp (i + 1) (k + 1) H2 (by omega) (by omega) (by omega) hs hit2 hfr2 (by rw [hf2.1]; exact hlH))
            · have ekX : k = X := (nI_eq (by omega) (by omega)).mp c54
              rw [ca_st (by omega) hi2, b1_nz c46, if_pos rfl, if_pos (by omega)] at hs
              refine xj_aload_n dX0_classAt_57 rfl rfl ?_
              refine xj_aload dX0_classAt_58 rfl rfl ?_
              refine xj_cV dX0_classAt_60 q632 kV_X0_told (A_told hv2 hL hR (f_tl n (by omega) _ hRm)) hO2 rfl rfl rfl rfl (Nat.le_of_ble_eq_true rfl) ⟨(Nat.le_of_ble_eq_true rfl), (Nat.le_of_ble_eq_true rfl)⟩ (Nat.le_of_ble_eq_true rfl) (Nat.le_of_ble_eq_true rfl) ?_
              exact xj_ireturn dX0_classAt_63 rfl rfl ⟨by rw [← hs], by rw [hf2.1]; omega, fun j hj _ => hfr2 j hj⟩
          · rw [ca_st (by omega) hi2, b1_z c46, if_neg (by decide)] at hs
            refine xj_goto (tgt := 20) dX0_classAt_49 rfl ?_
            first | exact xj_fg4 (ih_lp (i + 1) k H2 (by omega) (by omega) (by omega) hs hit2 hfr2 (by rw [hf2.1]; exact hlH)) | exact xj_fg4 (ih_lp (i + 1) (k + 1) H2 (by omega) (by omega) (by omega) hs hit2 hfr2 (by rw [hf2.1]; exact hlH))
    exact lp (wy n + 1) 0 0 _ (by omega) (by omega) (by omega) rfl ⟨by rw [gset (by omega)]; exact k1, L2, gset_self k2, hL2, hL2R⟩ (fun j hj => by rw [gset (by omega), k4 j (by rw [List.length_append, List.length_singleton]; omega) (by omega), List.getElem?_append_left hj]) (by rw [List.length_set, k3, List.length_append, List.length_singleton])
  · refine xj_icm1 dX0_classAt_4 ?_
    exact xj_ireturn dX0_classAt_5 rfl rfl ⟨by rw [ca_neg (i32_nle c1)], gfa.refl⟩
end A27
