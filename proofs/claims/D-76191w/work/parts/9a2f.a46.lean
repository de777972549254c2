/-! ===== the class: strangers, threes ===== -/
set_option maxRecDepth 100000

/-- makers that are held against a sheet -/
def cSt (G : xH) : Prop := ∃ SL : List Value, G[27]? = some (cR 7 SL) ∧ SL.length = 96 ∧ ∀ k, k < 96 → SL[k]? = some .null ∨ ∃ a : Nat, SL[k]? = some (.ref a) ∧ 82 < a ∧ G[a]? = some (cO (8 + k / 16) [.int 0, .int (nI (k % 16))])
theorem c_div16 : ∀ k, k < 96 → nI k / 16 = nI (k / 16) := by decide +kernel
theorem c_rem16 : ∀ k, k < 96 → nI k - nI k / 16 * 16 = nI (k % 16) := by decide +kernel
/-- three of a sheet say what is so -/
def th3 (n S : Nat) (xs : List Int64) (i : Nat) : Bool := decide (i + 2 < xs.length) && (decide (0 ≤ (xs.getD (i + 2) 0).toInt ∧ (xs.getD (i + 2) 0).toInt ≤ 1) && (rowB n (xs.getD i 0).toInt32 && (rowB n (xs.getD (i + 1) 0).toInt32 && (decide (gos n true S (tn (xs.getD i 0).toInt32) = gos n true S (tn (xs.getD (i + 1) 0).toInt32)) == decide ((xs.getD (i + 2) 0).toInt32 = 1)))))
theorem sh_int2 {xs : List Int64} {j : Nat} (h : shN 2 xs) (hj : j < xs.length) : (xs.getD j 0).toInt = (xs.getD j 0).toInt32.toInt := by
  have e := h.2.2 _ (sh_mem hj)
  rw [show nrw (nI 2) (xs.getD j 0) = (xs.getD j 0).toInt32.toInt64 from rfl] at e
  rw [← e, i64_32, Int32.toInt_toInt64]
theorem in_01 {xs : List Int64} {j : Nat} (h : shN 2 xs) (hj : j < xs.length) : inC (xs.getD j 0).toInt32 0 1 = decide (0 ≤ (xs.getD j 0).toInt ∧ (xs.getD j 0).toInt ≤ 1) := by
  unfold inC
  rw [← Bool.decide_and]
  congr 1
  apply propext
  rw [Int32.le_iff_toInt_le, Int32.le_iff_toInt_le, sh_int2 h hj]
  exact Iff.rfl
theorem t3_eq {A B : Nat} {x : Int32} (hA : A < 2 ^ 31) (hB : B < 2 ^ 31) : (if (if nI A = nI B then (1 : Int32) else 0) = (if x = 1 then (1 : Int32) else 0) then (1 : Int32) else 0) = b1 (decide (A = B) == decide (x = 1)) := by
  by_cases h1 : A = B
  · rw [if_pos (show nI A = nI B by rw [h1]), decide_eq_true h1]
    by_cases h2 : x = 1
    · rw [if_pos h2, decide_eq_true h2]; rfl
    · rw [if_neg h2, decide_eq_false h2]; rfl
  · rw [if_neg (fun h => h1 ((nI_eq hA hB).mp h)), decide_eq_false h1]
    by_cases h2 : x = 1
    · rw [if_pos h2, decide_eq_true h2]; rfl
    · rw [if_neg h2, decide_eq_false h2]; rfl
section A46
variable {E : xE} {G : xH} {d e : Nat → Value} {n : Nat}
theorem A_stranger {k : Nat}  (hv : cV d e n G) (hSt : cSt G) (hk : k < 96) (h82 : 82 < G.length) : xMet E yX0_stranger cX0_stranger 2 (some (FieldType.object "CoarserOrders$Plain")) 4 1 2 [.ref 0, .int (nI k)] G (xre (fun v_ G' => ∃ a : Nat, v_ = some (.ref a) ∧ 82 < a ∧ G'[a]? = some (cO (8 + k / 16) [.int 0, .int (nI (k % 16))]) ∧ cSt G' ∧ gfa [27] G G')) := by
  obtain ⟨hO, hN, hn0, h1n, hn6⟩ := id hv
  obtain ⟨SL, h27, hSl, hSk⟩ := id hSt
  rcases hSk k hk with p1 | ⟨a, p1, p2, p3⟩
  · refine xMet.of (lv := [some (.ref 0), some (.int (nI k))]) rfl rfl (Nat.le_of_ble_eq_true rfl) ?_
    refine xj_aload_n dX0_stranger_0 rfl rfl ?_
    refine xj_get dX0_stranger_1 K0 29 (by decide) q501 hO rfl ?_
    refine xj_iload_n dX0_stranger_4 rfl ?_
    refine xj_aald dX0_stranger_5 h27 rfl rfl rfl (by omega) p1 ?_
    refine xj_ifnonnull_n dX0_stranger_6 ?_
    refine xj_aload_n dX0_stranger_9 rfl rfl ?_
    refine xj_get dX0_stranger_10 K0 29 (by decide) q501 hO rfl ?_
    refine xj_iload_n dX0_stranger_13 rfl ?_
    refine xj_iload_n dX0_stranger_14 rfl ?_
    refine xj_bipush (v := 16) dX0_stranger_15 rfl ?_
    refine xj_idiv dX0_stranger_17 (by decide) ?_
    refine xj_top (c_div16 k hk) ?_
    refine xj_ic0 dX0_stranger_18 ?_
    refine xj_iload_n dX0_stranger_19 rfl ?_
    refine xj_bipush (v := 16) dX0_stranger_20 rfl ?_
    refine xj_irem dX0_stranger_22 (by decide) ?_
    refine xj_top (c_rem16 k hk) ?_
    refine xj_dS dX0_stranger_23 q837 kS_X0_made (A_made (kd := k / 16) (by omega)) rfl rfl (Nat.le_of_ble_eq_true rfl) ⟨(Nat.le_of_ble_eq_true rfl), (Nat.le_of_ble_eq_true rfl)⟩ (Nat.le_of_ble_eq_true rfl) (Nat.le_of_ble_eq_true rfl) ?_
    rintro _ _ ⟨rfl, rfl⟩
    have z27 : (G ++ [cO (8 + k / 16) [.int 0, .int (nI (k % 16))]])[27]? = some (cR 7 SL) := by rw [List.getElem?_append_left (by omega)]; exact h27
    refine xj_aastP (kd := k / 16) dX0_stranger_26 z27 app_at (by omega) rfl (by omega) (by omega) ?_
    have y0 : ((G ++ [cO (8 + k / 16) [.int 0, .int (nI (k % 16))]]).set 27 (cR 7 (SL.set k (.ref G.length))))[0]? = some (cO 0 (cFs d)) := by rw [gset (by decide), List.getElem?_append_left (by omega)]; exact hO
    have y27 : ((G ++ [cO (8 + k / 16) [.int 0, .int (nI (k % 16))]]).set 27 (cR 7 (SL.set k (.ref G.length))))[27]? = some (cR 7 (SL.set k (.ref G.length))) := gset_self z27
    refine xj_aload_n dX0_stranger_27 rfl rfl ?_
    refine xj_get dX0_stranger_28 K0 29 (by decide) q501 y0 rfl ?_
    refine xj_iload_n dX0_stranger_31 rfl ?_
    refine xj_aald dX0_stranger_32 y27 rfl rfl rfl (by omega) (List.getElem?_set_self (by omega)) ?_
    refine xj_areturn dX0_stranger_33 rfl (Or.inl ⟨_, rfl⟩) rfl ?_
    refine ⟨G.length, rfl, h82, by rw [gset (by omega)]; exact app_at, ⟨SL.set k (.ref G.length), y27, by rw [List.length_set]; exact hSl, fun j hj => ?_⟩, (gfa.refl.app).set (by decide)⟩
    by_cases ej : j = k
    · subst ej; exact Or.inr ⟨G.length, List.getElem?_set_self (by omega), h82, by rw [gset (by omega)]; exact app_at⟩
    · rcases hSk j hj with q | ⟨b, b1, b2, b3⟩
      · exact Or.inl (by rw [List.getElem?_set_ne (fun z => ej z.symm)]; exact q)
      · exact Or.inr ⟨b, by rw [List.getElem?_set_ne (fun z => ej z.symm)]; exact b1, b2, by rw [gset (by omega), List.getElem?_append_left (List.getElem?_eq_some_iff.mp b3).1]; exact b3⟩
  · refine xMet.of (lv := [some (.ref 0), some (.int (nI k))]) rfl rfl (Nat.le_of_ble_eq_true rfl) ?_
    refine xj_aload_n dX0_stranger_0 rfl rfl ?_
    refine xj_get dX0_stranger_1 K0 29 (by decide) q501 hO rfl ?_
    refine xj_iload_n dX0_stranger_4 rfl ?_
    refine xj_aald dX0_stranger_5 h27 rfl rfl rfl (by omega) p1 ?_
    refine xj_ifnonnull_r (tgt := 27) dX0_stranger_6 rfl ?_
    refine xj_aload_n dX0_stranger_27 rfl rfl ?_
    refine xj_get dX0_stranger_28 K0 29 (by decide) q501 hO rfl ?_
    refine xj_iload_n dX0_stranger_31 rfl ?_
    refine xj_aald dX0_stranger_32 h27 rfl rfl rfl (by omega) p1 ?_
    exact xj_areturn dX0_stranger_33 rfl (Or.inl ⟨_, rfl⟩) rfl ⟨a, rfl, p2, p3, hSt, gfa.refl⟩
theorem A_isThree {b i g : Nat} {xs : List Int64} {L1 L2 : List Int32}  (hv : cV d e n G) (hn3 : e 3 = .long (lN g)) (hg : g < 2 ^ 57) (h11 : G[11]? = some (cI 1 L1)) (h12 : G[12]? = some (cI 1 L2)) (hl1 : L1.length = 6) (hl2 : L2.length = 6) (hb82 : 82 < b) (hC : G[b]? = some (cI 0 (xs.map Int64.toInt32))) (hN2_ : shN 2 xs) (hi : i < 60) : xMet E yX0_isThree cX0_isThree 3 (some FieldType.boolean) 3 0 0 [.ref 0, .ref b, .int (nI i)] G (xre (fun v_ G' => v_ = some (.int (b1 (th3 n g xs i))) ∧ ∃ M1 M2 : List Int32, M1.length = 6 ∧ M2.length = 6 ∧ G' = (G.set 11 (cI 1 M1)).set 12 (cI 1 M2))) := by
  obtain ⟨hO, hN, hn0, h1n, hn6⟩ := id hv
  have e2 : nI i + 2 = nI (i + 2) := nI_add i 2
  have e1 : nI i + 1 = nI (i + 1) := nI_add i 1
  have hx40 := hN2_.2.1
  refine xMet.of (lv := [some (.ref 0), some (.ref b), some (.int (nI i))]) rfl rfl (Nat.le_of_ble_eq_true rfl) ?_
  refine xj_iload_n dX0_isThree_0 rfl ?_
  refine xj_ic2 dX0_isThree_1 ?_
  refine xj_iadd dX0_isThree_2 ?_
  refine xj_aload_n dX0_isThree_3 rfl rfl ?_
  refine xj_alenI dX0_isThree_4 hC rfl ?_
  rw [List.length_map, e2]
  refine xj_icmp_ge (tgt := 36) dX0_isThree_5 rfl (fun c5 => ?_) (fun c5 => ?_)
  · refine xj_ic0 dX0_isThree_36 ?_
    exact xj_ireturn dX0_isThree_37 rfl rfl (by first | exact ⟨by unfold th3; rw [decide_eq_false (fun h => absurd c5 (nI_ge h (by omega)))]; rfl, ⟨L1, L2, hl1, hl2, by rw [gset_id h11, gset_id h12]⟩⟩ | exact ⟨by unfold th3; rw [b1_z c18, decide_eq_true hil]; rfl, ⟨L1, L2, hl1, hl2, by rw [gset_id h11, gset_id h12]⟩⟩ | exact ⟨by unfold th3; rw [decide_eq_true hil, b1_nz c18]; have hz := b1_z c33; rw [Bool.true_and, Bool.true_and, ← Bool.and_assoc, hz]; rfl, M, M2, by omega, by omega, rfl⟩)
  · have hil : i + 2 < xs.length := Nat.lt_of_not_le fun h => c5 (nI_le h (by omega))
    refine xj_aload_n dX0_isThree_8 rfl rfl ?_
    refine xj_iload_n dX0_isThree_9 rfl ?_
    refine xj_ic2 dX0_isThree_10 ?_
    refine xj_iadd dX0_isThree_11 ?_
    refine xj_iald dX0_isThree_12 hC e2 (by omega) (sh_at hil) ?_
    refine xj_ic0 dX0_isThree_13 ?_
    refine xj_ic1 dX0_isThree_14 ?_
    refine xj_cS dX0_isThree_15 q585 kS_X0_isIn A_isIn rfl rfl (Nat.le_of_ble_eq_true rfl) ⟨(Nat.le_of_ble_eq_true rfl), (Nat.le_of_ble_eq_true rfl)⟩ (Nat.le_of_ble_eq_true rfl) (Nat.le_of_ble_eq_true rfl) ?_
    rw [in_01 hN2_ hil]
    refine xj_if_eq (tgt := 36) dX0_isThree_18 rfl (fun c18 => ?_) (fun c18 => ?_)
    · refine xj_ic0 dX0_isThree_36 ?_
      exact xj_ireturn dX0_isThree_37 rfl rfl (by first | exact ⟨by unfold th3; rw [decide_eq_false (fun h => absurd c5 (nI_ge h (by omega)))]; rfl, ⟨L1, L2, hl1, hl2, by rw [gset_id h11, gset_id h12]⟩⟩ | exact ⟨by unfold th3; rw [b1_z c18, decide_eq_true hil]; rfl, ⟨L1, L2, hl1, hl2, by rw [gset_id h11, gset_id h12]⟩⟩ | exact ⟨by unfold th3; rw [decide_eq_true hil, b1_nz c18]; have hz := b1_z c33; rw [Bool.true_and, Bool.true_and, ← Bool.and_assoc, hz]; rfl, M, M2, by omega, by omega, rfl⟩)
    · refine xj_aload_n dX0_isThree_21 rfl rfl ?_
      refine xj_aload_n dX0_isThree_22 rfl rfl ?_
      refine xj_iload_n dX0_isThree_23 rfl ?_
      refine xj_iald dX0_isThree_24 hC rfl (by omega) (sh_at (by omega)) ?_
      refine xj_aload_n dX0_isThree_25 rfl rfl ?_
      refine xj_iload_n dX0_isThree_26 rfl ?_
      refine xj_ic1 dX0_isThree_27 ?_
      refine xj_iadd dX0_isThree_28 ?_
      refine xj_iald dX0_isThree_29 hC e1 (by omega) (sh_at (by omega)) ?_
      refine xj_dV dX0_isThree_30 q592 kV_X0_areRows (A_areRows hv h11 h12 (by omega) (by omega) (by omega) (by omega)) hO rfl rfl rfl rfl (Nat.le_of_ble_eq_true rfl) ⟨(Nat.le_of_ble_eq_true rfl), (Nat.le_of_ble_eq_true rfl)⟩ (Nat.le_of_ble_eq_true rfl) (Nat.le_of_ble_eq_true rfl) ?_
      rintro _ _ ⟨rfl, M, M2, hM, hM2, hRx, hRy, rfl⟩
      have hv2 : cV d e n ((G.set 11 (cI 1 M)).set 12 (cI 1 M2)) := (hv.set (by decide) (by decide)).set (by decide) (by decide)
      obtain ⟨hO2, hN2, -⟩ := id hv2
      have g11 : ((G.set 11 (cI 1 M)).set 12 (cI 1 M2))[11]? = some (cI 1 M) := by rw [gset (by decide)]; exact gset_self h11
      have g12 : ((G.set 11 (cI 1 M)).set 12 (cI 1 M2))[12]? = some (cI 1 M2) := gset_self (by rw [gset (by decide)]; exact h12)
      refine xj_if_ne (tgt := 38) dX0_isThree_33 rfl (fun c33 => ?_) (fun c33 => ?_)
      · have hbb := b1_nz c33
        have hb2 := hbb
        rw [Bool.and_eq_true] at hb2
        obtain ⟨R, hR, eR⟩ := rowB_t (by omega) h1n hb2.1
        obtain ⟨S, hS, eS⟩ := rowB_t (by omega) h1n hb2.2
        have hRM := hRx R hR eR
        have hSM := hRy hb2.1 S hS eS
        have tR := tn_nI (by omega) hR
        have tS := tn_nI (by omega) hS
        refine xj_aload_n dX0_isThree_38 rfl rfl ?_
        refine xj_aload_n dX0_isThree_39 rfl rfl ?_
        refine xj_get dX0_isThree_40 K0 8 (by decide) q477 hO2 rfl ?_
        refine xj_ic1 dX0_isThree_43 ?_
        refine xj_dV dX0_isThree_44 q1231 kV_X0_goes (A_goes (t := true) hv2 hn3 (Nat.lt_trans hg (by decide)) g11 (by decide) (by decide) hRM hR (by omega)) hO2 rfl rfl rfl rfl (Nat.le_of_ble_eq_true rfl) ⟨(Nat.le_of_ble_eq_true rfl), (Nat.le_of_ble_eq_true rfl)⟩ (Nat.le_of_ble_eq_true rfl) (Nat.le_of_ble_eq_true rfl) ?_
        rintro _ _ ⟨rfl, N1, hN1_, hN1R, rfl⟩
        have hv3 : cV d e n (((G.set 11 (cI 1 M)).set 12 (cI 1 M2)).set 11 (cI 1 N1)) := hv2.set (by decide) (by decide)
        obtain ⟨hO3, hN3, -⟩ := id hv3
        refine xj_aload_n dX0_isThree_47 rfl rfl ?_
        refine xj_aload_n dX0_isThree_48 rfl rfl ?_
        refine xj_get dX0_isThree_49 K0 9 (by decide) q478 hO3 rfl ?_
        refine xj_ic1 dX0_isThree_52 ?_
        refine xj_dV dX0_isThree_53 q1231 kV_X0_goes (A_goes (t := true) hv3 hn3 (Nat.lt_trans hg (by decide)) (by rw [gset (by decide)]; exact g12) (by decide) (by decide) hSM hS (by omega)) hO3 rfl rfl rfl rfl (Nat.le_of_ble_eq_true rfl) ⟨(Nat.le_of_ble_eq_true rfl), (Nat.le_of_ble_eq_true rfl)⟩ (Nat.le_of_ble_eq_true rfl) (Nat.le_of_ble_eq_true rfl) ?_
        rintro _ _ ⟨rfl, N2, hN2q, hN2R, rfl⟩
        have hv4 : cV d e n ((((G.set 11 (cI 1 M)).set 12 (cI 1 M2)).set 11 (cI 1 N1)).set 12 (cI 1 N2)) := hv3.set (by decide) (by decide)
        obtain ⟨hO4, hN4, -⟩ := id hv4
        have q12 : ((((G.set 11 (cI 1 M)).set 12 (cI 1 M2)).set 11 (cI 1 N1)).set 12 (cI 1 N2))[12]? = some (cI 1 N2) := gset_self (by rw [gset (by decide)]; exact g12)
        have q11 : ((((G.set 11 (cI 1 M)).set 12 (cI 1 M2)).set 11 (cI 1 N1)).set 12 (cI 1 N2))[11]? = some (cI 1 N1) := by rw [gset (by decide)]; exact gset_self g11
        have qC : ((((G.set 11 (cI 1 M)).set 12 (cI 1 M2)).set 11 (cI 1 N1)).set 12 (cI 1 N2))[b]? = some (cI 0 (xs.map Int64.toInt32)) := by rw [gset (by omega), gset (by omega), gset (by omega), gset (by omega)]; exact hC
        have hAm := gos_mem' (g := g) (t := true) (show n < 7 by omega) hR
        have hBm := gos_mem' (g := g) (t := true) (show n < 7 by omega) hS
        refine xj_aload_n dX0_isThree_56 rfl rfl ?_
        refine xj_aload_n dX0_isThree_57 rfl rfl ?_
        refine xj_get dX0_isThree_58 K0 8 (by decide) q477 hO4 rfl ?_
        refine xj_cV dX0_isThree_61 q632 kV_X0_told (A_told hv4 q11 hN1R (f_tl n (by omega) _ hAm)) hO4 rfl rfl rfl rfl (Nat.le_of_ble_eq_true rfl) ⟨(Nat.le_of_ble_eq_true rfl), (Nat.le_of_ble_eq_true rfl)⟩ (Nat.le_of_ble_eq_true rfl) (Nat.le_of_ble_eq_true rfl) ?_
        refine xj_aload_n dX0_isThree_64 rfl rfl ?_
        refine xj_aload_n dX0_isThree_65 rfl rfl ?_
        refine xj_get dX0_isThree_66 K0 9 (by decide) q478 hO4 rfl ?_
        refine xj_cV dX0_isThree_69 q632 kV_X0_told (A_told hv4 q12 hN2R (f_tl n (by omega) _ hBm)) hO4 rfl rfl rfl rfl (Nat.le_of_ble_eq_true rfl) ⟨(Nat.le_of_ble_eq_true rfl), (Nat.le_of_ble_eq_true rfl)⟩ (Nat.le_of_ble_eq_true rfl) (Nat.le_of_ble_eq_true rfl) ?_
        refine xj_sI_icmp_ne (tgt := 79) (M := 80) dX0_isThree_72 rfl (fun c72 k => by
            refine xj_ic0 dX0_isThree_79 ?_
            exact k) (fun c72 k => by
            refine xj_ic1 dX0_isThree_75 ?_
            refine xj_goto (tgt := 80) dX0_isThree_76 rfl ?_
            exact k) ?_
        refine xj_aload_n dX0_isThree_80 rfl rfl ?_
        refine xj_iload_n dX0_isThree_81 rfl ?_
        refine xj_ic2 dX0_isThree_82 ?_
        refine xj_iadd dX0_isThree_83 ?_
        refine xj_iald dX0_isThree_84 qC e2 (by omega) (sh_at hil) ?_
        refine xj_ic1 dX0_isThree_85 ?_
        refine xj_sI_icmp_ne (tgt := 93) (M := 94) dX0_isThree_86 rfl (fun c86 k => by
            refine xj_ic0 dX0_isThree_93 ?_
            exact k) (fun c86 k => by
            refine xj_ic1 dX0_isThree_89 ?_
            refine xj_goto (tgt := 94) dX0_isThree_90 rfl ?_
            exact k) ?_
        refine xj_sI_icmp_ne (tgt := 101) (M := 102) dX0_isThree_94 rfl (fun c94 k => by
            refine xj_ic0 dX0_isThree_101 ?_
            exact k) (fun c94 k => by
            refine xj_ic1 dX0_isThree_97 ?_
            refine xj_goto (tgt := 102) dX0_isThree_98 rfl ?_
            exact k) ?_
        refine xj_top (t3_eq (R31 (by omega) hAm) (R31 (by omega) hBm)) ?_
        exact xj_ireturn dX0_isThree_102 rfl (b1_nar _) ⟨by unfold th3; rw [decide_eq_true hil, b1_nz c18, hb2.1, hb2.2, eR, eS, tR, tS]; rfl, N1, N2, by omega, by omega, by rw [show ((((G.set 11 (cI 1 M)).set 12 (cI 1 M2)).set 11 (cI 1 N1)).set 12 (cI 1 N2)) = (G.set 11 (cI 1 N1)).set 12 (cI 1 N2) from by rw [gset_comm (i := 12) (j := 11) (by decide), gset_set, gset_set]]⟩
      · refine xj_ic0 dX0_isThree_36 ?_
        exact xj_ireturn dX0_isThree_37 rfl rfl (by first | exact ⟨by unfold th3; rw [decide_eq_false (fun h => absurd c5 (nI_ge h (by omega)))]; rfl, ⟨L1, L2, hl1, hl2, by rw [gset_id h11, gset_id h12]⟩⟩ | exact ⟨by unfold th3; rw [b1_z c18, decide_eq_true hil]; rfl, ⟨L1, L2, hl1, hl2, by rw [gset_id h11, gset_id h12]⟩⟩ | exact ⟨by unfold th3; rw [decide_eq_true hil, b1_nz c18]; have hz := b1_z c33; rw [Bool.true_and, Bool.true_and, ← Bool.and_assoc, hz]; rfl, M, M2, by omega, by omega, rfl⟩)
end A46
