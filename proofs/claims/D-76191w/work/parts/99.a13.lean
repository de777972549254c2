/-! ===== the class: stairs (3) ===== -/
set_option maxRecDepth 100000
theorem kV_X0_isRight : xsV yX0_isRight cX0_isRight 5 (some FieldType.boolean) 3 := ⟨q1524, qs72, q151, q1525, by decide, by decide, by decide +kernel⟩
section A13
variable {E : xE} {G : xH} {d e : Nat → Value} {n : Nat}
theorem A_judge {x : Int32} {g : Nat} {l : List (Int32 × Int32)} {A B : List Int32}  (hv : cV d e n G) (hn3 : e 3 = .long (lN g)) (hg : g < 2 ^ 64) (hs : sIn d) (hc : scr G) (hd32 : d 32 = .int (nI l.length)) (hcs : cSL A B l) (h28 : G[28]? = some (cI 0 A)) (h29 : G[29]? = some (cI 0 B)) : xMet E yX0_judge cX0_judge 3 (some FieldType.int) 3 0 0 [.ref 0, .int x] G (xre (fun v_ G' => v_ = some (.int (o_judge n g l x)) ∧ cPo d G G')) := by
  obtain ⟨hO, hN, hn0, h1n, hn6⟩ := id hv
  have hP := cPo.refl hv hs hc
  obtain ⟨L1, hl1, h11⟩ := hc.at (r := 11) (by decide) (by decide)
  obtain ⟨L2, hl2, h12⟩ := hc.at (r := 12) (by decide) (by decide)
  obtain ⟨L3, hl3, h13⟩ := hc.at (r := 13) (by decide) (by decide)
  obtain ⟨hA, hB, hl15, hAB⟩ := id hcs
  refine xMet.of (lv := [some (.ref 0), some (.int x), none]) rfl rfl (Nat.le_of_ble_eq_true rfl) ?_
  refine xj_aload_n dX0_judge_0 rfl rfl ?_
  refine xj_iload_n dX0_judge_1 rfl ?_
  refine xj_aload_n dX0_judge_2 rfl rfl ?_
  refine xj_get dX0_judge_3 K0 8 (by decide) q477 hO rfl ?_
  refine xj_dV dX0_judge_6 q596 kV_X0_read (A_read hv h11 (by decide) (by decide) (by omega) (by omega)) hO rfl rfl rfl rfl (Nat.le_of_ble_eq_true rfl) ⟨(Nat.le_of_ble_eq_true rfl), (Nat.le_of_ble_eq_true rfl)⟩ (Nat.le_of_ble_eq_true rfl) (Nat.le_of_ble_eq_true rfl) ?_
  rintro _ _ ⟨rfl, M, hM, hRx, rfl⟩
  have hv2 : cV d e n (G.set 11 (cI 1 M)) := hv.set (by decide) (by decide)
  obtain ⟨hO2, hN2, -⟩ := id hv2
  have hP2 : cPo d G (G.set 11 (cI 1 M)) := hP.row (by decide) (by decide) (by omega)
  refine xj_if_ne (tgt := 14) dX0_judge_9 rfl (fun c9 => ?_) (fun c9 => ?_)
  · have hbb := b1_nz c9
    obtain ⟨R1, hR1, rfl⟩ := rowB_t (by omega) h1n hbb
    have hRM := hRx R1 hR1 rfl
    have tR := tn_nI (by omega) hR1
    refine xj_ic0 dX0_judge_14 ?_
    refine xj_istn2 dX0_judge_15 rfl ?_
    have lp : ∀ (K : Nat) (k : Nat) (i : Nat) (R : Nat) (M : List Int32), k < K → (i + k = l.length) → (R ∈ rws n) → (M.length = L1.length) → (rwL n R M) → (jdg n g l k i R = o_judge n g l (nI R1)) → xJ E (yX0_judge, cX0_judge, 3, (some FieldType.int), []) (xR 3 0 0) (xre (fun v_ G' => v_ = some (.int (o_judge n g l (nI R1))) ∧ cPo d G G')) 0 0 16 [some (.ref 0), some (.int (nI R1)), some (.int (nI i))] [] (G.set 11 (cI 1 M)) := by
      intro K
      induction K with
      | zero => intro k i R M h; exact absurd h (Nat.not_lt_zero _)
      | succ K ih_lp =>
        intro k i R M hK hk hR hM hRM hq
        have hv2 : cV d e n (G.set 11 (cI 1 M)) := hv.set (by decide) (by decide)
        obtain ⟨hO2, hN2, -⟩ := id hv2
        have k28 : (G.set 11 (cI 1 M))[28]? = some (cI 0 A) := by rw [gset (by decide)]; exact h28
        have k29 : (G.set 11 (cI 1 M))[29]? = some (cI 0 B) := by rw [gset (by decide)]; exact h29
        refine xj_iload_n dX0_judge_16 rfl ?_
        refine xj_aload_n dX0_judge_17 rfl rfl ?_
        refine xj_get dX0_judge_18 K0 32 (by decide) q504 hO2 (congrArg some hd32) ?_
        refine xj_icmp_ge (tgt := 57) dX0_judge_21 rfl (fun c21 => ?_) (fun c21 => ?_)
        · refine xj_ic0 dX0_judge_57 ?_
          exact xj_ireturn dX0_judge_58 rfl rfl (by have hk0 : k = 0 := (by have : l.length ≤ i := Nat.le_of_not_lt fun h => absurd c21 (nI_ge h (by omega)); omega); subst hk0; exact ⟨by rw [← hq]; rfl, hP.row (by decide) (by decide) (by omega)⟩)
        · have hil : i < l.length := Nat.lt_of_not_le fun h => c21 (nI_le h (by omega))
          obtain ⟨k, rfl⟩ : ∃ k0, k = k0 + 1 := ⟨k - 1, by omega⟩
          have hq : (if rgB n g R (stAt l i) (n - 1) 0 then jdg n g l k (i + 1) (tn (stAt l i).1) else nI (i + 1)) = o_judge n g l (nI R1) := hq
          have hst := hAB i _ (stAt_some hil)
          refine xj_aload_n dX0_judge_24 rfl rfl ?_
          refine xj_aload_n dX0_judge_25 rfl rfl ?_
          refine xj_get dX0_judge_26 K0 8 (by decide) q477 hO2 rfl ?_
          refine xj_aload_n dX0_judge_29 rfl rfl ?_
          refine xj_get dX0_judge_30 K0 30 (by decide) q502 hO2 rfl ?_
          refine xj_iload_n dX0_judge_33 rfl ?_
          refine xj_iald dX0_judge_34 k28 rfl (by omega) hst.1 ?_
          refine xj_aload_n dX0_judge_35 rfl rfl ?_
          refine xj_get dX0_judge_36 K0 31 (by decide) q503 hO2 rfl ?_
          refine xj_iload_n dX0_judge_39 rfl ?_
          refine xj_iald dX0_judge_40 k29 rfl (by omega) hst.2 ?_
          refine xj_dV dX0_judge_41 q1522 kV_X0_isRight (A_isRight (s := stAt l i) hv2 hn3 hg (gset_self h11) (by decide) (by decide) hRM hR (by omega)) hO2 rfl rfl rfl rfl (Nat.le_of_ble_eq_true rfl) ⟨(Nat.le_of_ble_eq_true rfl), (Nat.le_of_ble_eq_true rfl)⟩ (Nat.le_of_ble_eq_true rfl) (Nat.le_of_ble_eq_true rfl) ?_
          rintro _ _ ⟨rfl, M2, hM2, hMR2, rfl⟩
          rw [gset_set]
          refine xj_if_ne (tgt := 51) dX0_judge_44 rfl (fun c44 => ?_) (fun c44 => ?_)
          · have hb := b1_nz c44
            rw [if_pos hb] at hq
            have hb2 := hMR2 hb
            refine xj_iinc2 (cst := 1) dX0_judge_51 rfl rfl ?_
            rw [nI_1]
            refine xj_goto (tgt := 16) dX0_judge_54 rfl ?_
            exact ih_lp k (i + 1) _ M2 (by omega) (by omega) hb2.2 (by omega) hb2.1 hq
          · refine xj_iload_n dX0_judge_47 rfl ?_
            refine xj_ic1 dX0_judge_48 ?_
            refine xj_iadd dX0_judge_49 ?_
            exact xj_ireturn dX0_judge_50 rfl rfl ⟨by rw [b1_z c44] at hq; rw [← hq, nI_1]; rfl, hP.row (by decide) (by decide) (by omega)⟩
    exact lp (l.length + 1) l.length 0 R1 M (by omega) (by omega) hR1 hM hRM (by unfold o_judge; rw [if_pos hbb, tR])
  · refine xj_icm1 dX0_judge_12 ?_
    exact xj_ireturn dX0_judge_13 rfl rfl ⟨by unfold o_judge; rw [b1_z c9]; rfl, hP2⟩
end A13
