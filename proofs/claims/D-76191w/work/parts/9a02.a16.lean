/-! ===== the class: stairs (4) ===== -/
set_option maxRecDepth 100000

theorem cSL_nil {A B : List Int32} {l : List (Int32 × Int32)} (h : cSL A B l) : cSL A B [] := ⟨h.1, h.2.1, Nat.zero_le _, fun i p hp => by cases hp⟩
theorem cSL_push {A B : List Int32} {l : List (Int32 × Int32)} {a b : Int32} (h : cSL A B l) (hl : l.length < 15) : cSL (A.set l.length a) (B.set l.length b) (l ++ [(a, b)]) := by
  obtain ⟨h1, h2, h3, h4⟩ := h
  refine ⟨by rw [List.length_set, h1], by rw [List.length_set, h2], by rw [List.length_append, List.length_singleton]; omega, fun i p hp => ?_⟩
  by_cases e : l.length = i
  · subst e
    rw [List.getElem?_append_right (Nat.le_refl _), Nat.sub_self] at hp
    cases hp
    exact ⟨List.getElem?_set_self (by omega), List.getElem?_set_self (by omega)⟩
  · have hi : i < l.length := by
      have := (List.getElem?_eq_some_iff.mp hp).1
      rw [List.length_append, List.length_singleton] at this
      omega
    rw [List.getElem?_append_left hi] at hp
    rw [List.getElem?_set_ne e, List.getElem?_set_ne e]; exact h4 i p hp
theorem prv_no {n g q : Nat} {l : List (Int32 × Int32)} (h : pin n q true g (n - 1) 0 = none) : ∀ k, prv n g k q l = l := by
  intro k
  cases k with
  | zero => rfl
  | succ k => unfold prv; rw [h]
section A16
variable {E : xE} {G : xH} {d e : Nat → Value} {n : Nat}
theorem A_prove {x : Int32} {g : Nat} {l0 : List (Int32 × Int32)} {A0 B0 : List Int32}  (hv : cV d e n G) (hn3 : e 3 = .long (lN g)) (hg : g < 2 ^ 64) (hs : sIn d) (hc : scr G) (hd32 : d 32 = .int (nI l0.length)) (hcs0 : cSL A0 B0 l0) (h28 : G[28]? = some (cI 0 A0)) (h29 : G[29]? = some (cI 0 B0)) : xMet E yX0_prove cX0_prove 4 (some FieldType.int) 3 0 0 [.ref 0, .int x] G (xre (fun v_ G' => v_ = some (.int (o_prove n g x)) ∧ ∃ M A' B' : List Int32, M.length = 6 ∧ cSL A' B' (s_prove n g x l0) ∧ gfr [0, 11, 28, 29] G G' ∧ G'[11]? = some (cI 1 M) ∧ G'[28]? = some (cI 0 A') ∧ G'[29]? = some (cI 0 B') ∧ G'[0]? = some (cO 0 (cFs (cu d 32 (.int (nI (s_prove n g x l0).length))))))) := by
  obtain ⟨hO, hN, hn0, h1n, hn6⟩ := id hv
  have hP := cPo.refl hv hs hc
  obtain ⟨L1, hl1, h11⟩ := hc.at (r := 11) (by decide) (by decide)
  obtain ⟨L2, hl2, h12⟩ := hc.at (r := 12) (by decide) (by decide)
  obtain ⟨L3, hl3, h13⟩ := hc.at (r := 13) (by decide) (by decide)
  have hna := na_lt n (by omega)
  refine xMet.of (lv := [some (.ref 0), some (.int x), none, none]) rfl rfl (Nat.le_of_ble_eq_true rfl) ?_
  refine xj_aload_n dX0_prove_0 rfl rfl ?_
  refine xj_iload_n dX0_prove_1 rfl ?_
  refine xj_aload_n dX0_prove_2 rfl rfl ?_
  refine xj_get dX0_prove_3 K0 8 (by decide) q477 hO rfl ?_
  refine xj_dV dX0_prove_6 q596 kV_X0_read (A_read hv h11 (by decide) (by decide) (by omega) (by omega)) hO rfl rfl rfl rfl (Nat.le_of_ble_eq_true rfl) ⟨(Nat.le_of_ble_eq_true rfl), (Nat.le_of_ble_eq_true rfl)⟩ (Nat.le_of_ble_eq_true rfl) (Nat.le_of_ble_eq_true rfl) ?_
  rintro _ _ ⟨rfl, M, hM, hRx, rfl⟩
  have hv2 : cV d e n (G.set 11 (cI 1 M)) := hv.set (by decide) (by decide)
  obtain ⟨hO2, hN2, -⟩ := id hv2
  have hP2 : cPo d G (G.set 11 (cI 1 M)) := hP.row (by decide) (by decide) (by omega)
  refine xj_if_ne (tgt := 14) dX0_prove_9 rfl (fun c9 => ?_) (fun c9 => ?_)
  · have hbb := b1_nz c9
    obtain ⟨R1, hR1, rfl⟩ := rowB_t (by omega) h1n hbb
    have hRM := hRx R1 hR1 rfl
    have tR := tn_nI (by omega) hR1
    refine xj_aload_n dX0_prove_14 rfl rfl ?_
    refine xj_ic0 dX0_prove_15 ?_
    refine xj_put dX0_prove_16 K0 32 (by decide) q504 rfl rfl hO2 (Nat.le_of_ble_eq_true rfl) ?_
    refine xj_ic0 dX0_prove_19 ?_
    refine xj_istn2 dX0_prove_20 rfl ?_
    have lp : ∀ (K : Nat) (f : Nat) (S : Nat) (p : Nat) (l : List (Int32 × Int32)) (M : List Int32) (A : List Int32) (B : List Int32) (H : xH), f * 10 + (n - p) < K → (p ≤ n - 1) → (S ∈ rws n) → (gmu n true S < f) → (l.length + gmu n true S ≤ 15) → (M.length = 6) → (rwL n S M) → (cSL A B l) → (prv n g f S l = prv n g 16 R1 []) → (pin n S true g (n - 1) 0 = pin n S true g (n - 1 - p) p) → (gfr [0, 11, 28, 29] G H) → (H[11]? = some (cI 1 M)) → (H[28]? = some (cI 0 A)) → (H[29]? = some (cI 0 B)) → (H[0]? = some (cO 0 (cFs (cu d 32 (.int (nI l.length)))))) → xJ E (yX0_prove, cX0_prove, 4, (some FieldType.int), []) (xR 3 0 0) (xre (fun v_ G' => v_ = some (.int (o_prove n g (nI R1))) ∧ ∃ M A' B' : List Int32, M.length = 6 ∧ cSL A' B' (s_prove n g (nI R1) l0) ∧ gfr [0, 11, 28, 29] G G' ∧ G'[11]? = some (cI 1 M) ∧ G'[28]? = some (cI 0 A') ∧ G'[29]? = some (cI 0 B') ∧ G'[0]? = some (cO 0 (cFs (cu d 32 (.int (nI (s_prove n g (nI R1) l0).length))))))) 0 0 21 [some (.ref 0), some (.int (nI R1)), some (.int (nI p)), none] [] H := by
      intro K
      induction K with
      | zero => intro f S p l M A B H h; exact absurd h (Nat.not_lt_zero _)
      | succ K ih_lp =>
        intro f S p l M A B H hK hp hSm hf hlf hM hS hcs hs hpi hfr k11 k28 k29 k0
        have hv2 : cV (cu d 32 (.int (nI l.length))) e n H := hv.mv k0 (hfr.2 4 (by decide))
        obtain ⟨hO2, hN2, -⟩ := id hv2
        obtain ⟨hA, hB, hl15, hAB⟩ := id hcs
        refine xj_iload_n dX0_prove_21 rfl ?_
        refine xj_ic1 dX0_prove_22 ?_
        refine xj_iadd dX0_prove_23 ?_
        refine xj_aload_n dX0_prove_24 rfl rfl ?_
        refine xj_get dX0_prove_25 K0 4 (by decide) q473 hO2 rfl ?_
        refine xj_getN dX0_prove_28 K3 0 (by decide) q321 hN2 (congrArg some hn0) ?_
        rw [nI_1]
        refine xj_icmp_ge (tgt := 119) dX0_prove_31 rfl (fun c31 => ?_) (fun c31 => ?_)
        · refine xj_aload_n dX0_prove_119 rfl rfl ?_
          refine xj_get dX0_prove_120 K0 32 (by decide) q504 hO2 rfl ?_
          exact xj_ireturn dX0_prove_123 rfl rfl (by have hpn : n - 1 ≤ p := (by have : n ≤ p + 1 := Nat.le_of_not_lt fun h => absurd c31 (nI_ge h (by omega)); omega); rw [pin_out hpn] at hpi; have e1 := prv_no (l := l) hpi f; rw [e1] at hs; unfold o_prove s_prove; rw [if_pos hbb, if_pos hbb, tR, ← hs]; exact ⟨rfl, M, A, B, hM, hcs, hfr, k11, k28, k29, k0⟩)
        · have hpn : p < n - 1 := Nat.lt_of_not_le fun h => c31 (nI_le (by omega) (by omega))
          have haa := (f_aa n (by omega) S hSm p hpn).1
          refine xj_aload_n dX0_prove_34 rfl rfl ?_
          refine xj_aload_n dX0_prove_35 rfl rfl ?_
          refine xj_get dX0_prove_36 K0 8 (by decide) q477 hO2 rfl ?_
          refine xj_iload_n dX0_prove_39 rfl ?_
          refine xj_cV dX0_prove_40 q748 kV_X0_arcAt (A_arcAt hv2 k11 hS hSm hpn) hO2 rfl rfl rfl rfl (Nat.le_of_ble_eq_true rfl) ⟨(Nat.le_of_ble_eq_true rfl), (Nat.le_of_ble_eq_true rfl)⟩ (Nat.le_of_ble_eq_true rfl) (Nat.le_of_ble_eq_true rfl) ?_
          refine xj_istn3 dX0_prove_43 rfl ?_
          refine xj_aload_n dX0_prove_44 rfl rfl ?_
          refine xj_get dX0_prove_45 K0 8 (by decide) q477 hO2 rfl ?_
          refine xj_iload_n dX0_prove_48 rfl ?_
          refine xj_cS dX0_prove_49 q655 kS_X0_isDrop (A_isDrop k11 hS (by omega) (by omega)) rfl rfl (Nat.le_of_ble_eq_true rfl) ⟨(Nat.le_of_ble_eq_true rfl), (Nat.le_of_ble_eq_true rfl)⟩ (Nat.le_of_ble_eq_true rfl) (Nat.le_of_ble_eq_true rfl) ?_
          refine xj_if_eq (tgt := 113) dX0_prove_52 rfl (fun c52 => ?_) (fun c52 => ?_)
          · rw [pin_st hpn (by first | exact (fun q => by rw [q.1] at c52; exact absurd c52 (by decide)) | exact (fun q => by rw [q.2] at c60; exact absurd c60 (by decide)))] at hpi
            refine xj_iinc2 (cst := 1) dX0_prove_113 rfl rfl ?_
            rw [nI_1]
            refine xj_goto (tgt := 21) dX0_prove_116 rfl ?_
            exact xj_fg3 (ih_lp f S (p + 1) l M A B H (by omega) (by omega) hSm hf hlf hM hS hcs hs hpi hfr k11 k28 k29 k0)
          · refine xj_aload_n dX0_prove_55 rfl rfl ?_
            refine xj_iload_n dX0_prove_56 rfl ?_
            refine xj_cV dX0_prove_57 q760 kV_X0_isGone (A_isGone hv2 hn3 hg (by omega)) hO2 rfl rfl rfl rfl (Nat.le_of_ble_eq_true rfl) ⟨(Nat.le_of_ble_eq_true rfl), (Nat.le_of_ble_eq_true rfl)⟩ (Nat.le_of_ble_eq_true rfl) (Nat.le_of_ble_eq_true rfl) ?_
            refine xj_if_eq (tgt := 113) dX0_prove_60 rfl (fun c60 => ?_) (fun c60 => ?_)
            · rw [pin_st hpn (by first | exact (fun q => by rw [q.1] at c52; exact absurd c52 (by decide)) | exact (fun q => by rw [q.2] at c60; exact absurd c60 (by decide)))] at hpi
              refine xj_iinc2 (cst := 1) dX0_prove_113 rfl rfl ?_
              rw [nI_1]
              refine xj_goto (tgt := 21) dX0_prove_116 rfl ?_
              exact xj_fg3 (ih_lp f S (p + 1) l M A B H (by omega) (by omega) hSm hf hlf hM hS hcs hs hpi hfr k11 k28 k29 k0)
            · obtain ⟨f, rfl⟩ : ∃ f0, f = f0 + 1 := ⟨f - 1, by omega⟩
              have hit := pin_hit (S := g) hpn ⟨b1_nz c52, b1_nz c60⟩
              rw [← hpi] at hit
              have hlt := gmu_step (t := true) (by omega) hSm hpn (b1_nz c52)
              rw [show prv n g (f + 1) S l = prv n g f (sw n S p) (l ++ [(nI (sw n S p), nI (aa n S p))]) from by show (match pin n S true g (n - 1) 0 with | none => l | some p => prv n g f (sw n S p) (l ++ [(nI (sw n S p), nI (aa n S p))])) = _; rw [hit]] at hs
              have hsm := f_sw (by omega) hSm (p := p) hpn
              refine xj_aload_n dX0_prove_63 rfl rfl ?_
              refine xj_get dX0_prove_64 K0 8 (by decide) q477 hO2 rfl ?_
              refine xj_iload_n dX0_prove_67 rfl ?_
              refine xj_cS dX0_prove_68 q827 kS_X0_swap (A_swap k11 hS hSm (by omega) (by omega) (by omega)) rfl rfl (Nat.le_of_ble_eq_true rfl) ⟨(Nat.le_of_ble_eq_true rfl), (Nat.le_of_ble_eq_true rfl)⟩ (Nat.le_of_ble_eq_true rfl) (Nat.le_of_ble_eq_true rfl) ?_
              have hv3 : cV (cu d 32 (.int (nI l.length))) e n (H.set 11 (cI 1 (chL M p (p + 1)))) := hv2.set (by decide) (by decide)
              obtain ⟨hO3, hN3, -⟩ := id hv3
              have hS1 := rwL_sw (by omega) hSm hS (show p + 1 < n by omega)
              have j28 : (H.set 11 (cI 1 (chL M p (p + 1))))[28]? = some (cI 0 A) := by rw [gset (by decide)]; exact k28
              refine xj_aload_n dX0_prove_71 rfl rfl ?_
              refine xj_get dX0_prove_72 K0 30 (by decide) q502 hO3 rfl ?_
              refine xj_aload_n dX0_prove_75 rfl rfl ?_
              refine xj_get dX0_prove_76 K0 32 (by decide) q504 hO3 rfl ?_
              refine xj_aload_n dX0_prove_79 rfl rfl ?_
              refine xj_aload_n dX0_prove_80 rfl rfl ?_
              refine xj_get dX0_prove_81 K0 8 (by decide) q477 hO3 rfl ?_
              refine xj_cV dX0_prove_84 q632 kV_X0_told (A_told hv3 (gset_self k11) hS1 (f_tl n (by omega) _ hsm)) hO3 rfl rfl rfl rfl (Nat.le_of_ble_eq_true rfl) ⟨(Nat.le_of_ble_eq_true rfl), (Nat.le_of_ble_eq_true rfl)⟩ (Nat.le_of_ble_eq_true rfl) (Nat.le_of_ble_eq_true rfl) ?_
              refine xj_iast dX0_prove_87 j28 rfl (by omega) (by omega) ?_
              have hv4 : cV (cu d 32 (.int (nI l.length))) e n ((H.set 11 (cI 1 (chL M p (p + 1)))).set 28 (cI 0 (A.set l.length (nI (sw n S p))))) := hv3.set (by decide) (by decide)
              obtain ⟨hO4, hN4, -⟩ := id hv4
              have j29 : ((H.set 11 (cI 1 (chL M p (p + 1)))).set 28 (cI 0 (A.set l.length (nI (sw n S p)))))[29]? = some (cI 0 B) := by rw [gset (by decide), gset (by decide)]; exact k29
              refine xj_aload_n dX0_prove_88 rfl rfl ?_
              refine xj_get dX0_prove_89 K0 31 (by decide) q503 hO4 rfl ?_
              refine xj_aload_n dX0_prove_92 rfl rfl ?_
              refine xj_get dX0_prove_93 K0 32 (by decide) q504 hO4 rfl ?_
              refine xj_iload_n dX0_prove_96 rfl ?_
              refine xj_iast dX0_prove_97 j29 rfl (by omega) (by omega) ?_
              have hv5 : cV (cu d 32 (.int (nI l.length))) e n (((H.set 11 (cI 1 (chL M p (p + 1)))).set 28 (cI 0 (A.set l.length (nI (sw n S p))))).set 29 (cI 0 (B.set l.length (nI (aa n S p))))) := hv4.set (by decide) (by decide)
              obtain ⟨hO5, hN5, -⟩ := id hv5
              refine xj_aload_n dX0_prove_98 rfl rfl ?_
              refine xj_dup dX0_prove_99 rfl ?_
              refine xj_get dX0_prove_100 K0 32 (by decide) q504 hO5 rfl ?_
              refine xj_ic1 dX0_prove_103 ?_
              refine xj_iadd dX0_prove_104 ?_
              rw [nI_1]
              refine xj_put dX0_prove_105 K0 32 (by decide) q504 rfl rfl hO5 (Nat.le_of_ble_eq_true rfl) ?_
              refine xj_ic0 dX0_prove_108 ?_
              refine xj_istn2 dX0_prove_109 rfl ?_
              refine xj_goto (tgt := 116) dX0_prove_110 rfl ?_
              refine xj_goto (tgt := 21) dX0_prove_116 rfl ?_
              exact xj_fg3 (ih_lp f (sw n S p) 0 (l ++ [(nI (sw n S p), nI (aa n S p))]) _ _ _ _ (by omega) (by omega) hsm (by omega) (by rw [List.length_append, List.length_singleton]; omega) (by rw [chL_len]; exact hM) hS1 (cSL_push hcs (by omega)) hs rfl ((((hfr.set (by decide)).set (by decide)).set (by decide)).set (by decide)) (by rw [gset (by decide), gset (by decide), gset (by decide)]; exact gset_self k11) (by rw [gset (by decide), gset (by decide)]; exact gset_self j28) (by rw [gset (by decide)]; exact gset_self j29) (by rw [List.length_append, List.length_singleton]; exact gset_self hO5))
    exact lp 200 16 R1 0 [] M A0 B0 _ (by omega) (by omega) hR1 (gmu_lt (by omega) hR1) (by have := gmu_lt (t := true) (by omega) hR1; simp only [List.length_nil]; omega) (by omega) hRM (cSL_nil hcs0) rfl rfl ((gfr.refl.set (by decide)).set (by decide)) (by rw [gset (by decide)]; exact gset_self h11) (by rw [gset (by decide), gset (by decide)]; exact h28) (by rw [gset (by decide), gset (by decide)]; exact h29) (gset_self hO2)
  · refine xj_icm1 dX0_prove_12 ?_
    exact xj_ireturn dX0_prove_13 rfl rfl (by unfold o_prove s_prove; rw [b1_z c9]; exact ⟨rfl, M, A0, B0, by omega, hcs0, gfr.refl.set (by decide), gset_self h11, by rw [gset (by decide)]; exact h28, by rw [gset (by decide)]; exact h29, by rw [show (if false = true then prv n g 16 (tn x) [] else l0) = l0 from rfl, cu_id hd32]; exact hO2⟩)
end A16
