/-! ===== the class: text ===== -/
set_option maxRecDepth 100000
theorem kV_X0_holdsFor : xsV yX0_holdsFor cX0_holdsFor 3 (some FieldType.boolean) 2 := ⟨q1197, qs50, q151, q1198, by decide, by decide, by decide +kernel⟩
theorem kV_X0_wholeText : xsV yX0_wholeText cX0_wholeText 2 (some (FieldType.object "CoarserOrders$Cond")) 0 := ⟨q1016, qs38, q151, q1017, by decide, by decide, by decide +kernel⟩
def txPo (n g : Nat) (d e r : Nat → Value) (tp : List Nat) (w : Int32) (G G' : xH) : Prop := (∃ d', G'[0]? = some (cO 0 (cFs d')) ∧ d' 17 = .int (nI (s_textT tp w).length) ∧ (∃ p q, d' 18 = .int (nI p) ∧ d' 19 = .int (nI q)) ∧ ∀ i, i ≠ 17 → i ≠ 18 → i ≠ 19 → d' i = d i) ∧ G'[4]? = some (cO 3 (oFs (cu e 3 (.long (lN (s_textG n g tp w)))))) ∧ (∃ L : List Int32, L.length = 5 ∧ G'[20]? = some (cI 0 L)) ∧ (∃ fv, G'[2]? = some (cO 2 (rFs r (.int fv)))) ∧ gfa [0, 2, 4, 20] G G'
theorem l_five {L : List Int32} (h : L.length = 5) : ∃ x0 x1 x2 x3 x4, L = [x0, x1, x2, x3, x4] := by
  match L, h with
  | [x0, x1, x2, x3, x4], _ => exact ⟨x0, x1, x2, x3, x4, rfl⟩
theorem txS_na {n : Nat} {c : List Int32} : txS n c < 2 ^ na n := lp_or_lt2 (N := na n) _ (fun p hp => if_lt_pow hp) (na n) 0 0 (by omega) (Nat.two_pow_pos _)
theorem pAll_ok {tp : List Nat} (h : tp.length ≤ 200) : ∃ _u : Unit, (∃ p, pAll tp = some (.inl p)) ∨ ∃ q, prs tp 1000 3 0 [] 0 = some (.inr q) ∧ ¬ nxF tp q.2 < tp.length ∧ q.1.length ≤ 200 ∧ pAll tp = some (.inr q) := by
  obtain ⟨r, hr⟩ := prs_ok h
  refine ⟨(), ?_⟩
  cases r with
  | inl p => exact Or.inl ⟨p, by unfold pAll; rw [hr]; rfl⟩
  | inr q =>
    have b0 := prs_b 1000 3 0 [] 0 q (Nat.zero_le _) hr (Or.inr (Or.inr (Or.inr rfl)))
    have e : pAll tp = (if nxF tp q.2 < tp.length then some (.inl (nxF tp q.2)) else some (.inr (q.1, q.2))) := by unfold pAll; rw [hr]; rfl
    by_cases hl : nxF tp q.2 < tp.length
    · rw [if_pos hl] at e; exact Or.inl ⟨_, e⟩
    · rw [if_neg hl] at e
      refine Or.inr ⟨q, hr, hl, ?_, e⟩
      have := b0.2.2
      rw [List.length_nil] at this
      omega
section A58
variable {E : xE} {G : xH} {d e : Nat → Value} {n : Nat}
theorem A_text {w : Int32} {g k19 : Nat} {LT : List Int32} {tp : List Nat} {r : Nat → Value} {fv : Int32} {k18 : Nat}  (hv : cV d e n G) (hn3 : e 3 = .long (lN g)) (hg : g < 2 ^ 57) (hA : cA d n G) (hK : d 19 = .int (nI k19)) (h20 : ∃ L : List Int32, L.length = 5 ∧ G[20]? = some (cI 0 L)) (h18 : d 18 = .int (nI k18)) (hd17 : d 17 = .int (nI tp.length)) (h19 : G[19]? = some (cI 1 LT)) (hLT : tpB LT tp) (hNm : G[18]? = some (cR 9 [.float 0, .float 1, .float 2, .float 3, .float 4])) (hF : G[2]? = some (cO 2 (rFs r (.int fv)))) : xMetW E yX0_text cX0_text 7 (some FieldType.int) [(9, 69, 77, 121), (9, 69, 93, 0), (77, 86, 93, 0), (93, 95, 93, 0)] 1012 201 603 [.ref 0, .int w] G (xre (fun v_ G' => v_ = some (.int (o_text n g tp w)) ∧ txPo n g d e r tp w G G')) := by
  obtain ⟨hO, hN, hn0, h1n, hn6⟩ := id hv
  have hna := na_lt n (by omega)
  have hl200 := hLT.1
  have htp := hLT.2.1
  refine xMetW.of (lv := [some (.ref 0), some (.int w), none, none, none, none, none]) rfl rfl (Nat.le_of_ble_eq_true rfl) ?_
  refine xj_iload_n dX0_text_0 rfl ?_
  refine xj_cS dX0_text_1 q991 kS_X0_isHow A_isHow rfl rfl (Nat.le_of_ble_eq_true rfl) (xR_ok (by decide) (by decide)) (Nat.le_of_ble_eq_true rfl) (Nat.le_of_ble_eq_true rfl) ?_
  refine xj_if_ne (tgt := 9) dX0_text_4 rfl (fun c4 => ?_) (fun c4 => ?_)
  · have hw3 := b1_nz c4
    obtain ⟨rr, hr⟩ := pAll_ok htp
    rcases hr with ⟨p, hpA⟩ | ⟨q, hp, hend, hql, hpA⟩
    · refine xj_aload_n dX0_text_9 rfl rfl ?_
      refine xj_tV dX0_text_10 q1014 kV_X0_wholeText (A_wholeN hO h18 hd17 h19 hLT hNm hF hpA) hO rfl rfl rfl rfl (Nat.le_of_ble_eq_true rfl) (xR_ok (by decide) (by decide)) (Nat.le_of_ble_eq_true rfl) (Nat.le_of_ble_eq_true rfl) ?_
      rintro H ⟨t2, f2, p9, q9, z9⟩
      refine xjT_catch [] (9, 69, 77, 121) [(9, 69, 93, 0), (77, 86, 93, 0), (93, 95, 93, 0)] rfl (fun z hz => by cases hz) rfl (by decide) q293 (Or.inl rfl) rfl ?_
      refine xj_astn2 dX0_text_77 rfl rfl ?_
      refine xj_bipush (v := -100) dX0_text_78 rfl ?_
      refine xj_aload_n dX0_text_80 rfl rfl ?_
      refine xj_getS dX0_text_81 K2 6 (by decide) q275 q276 t2 rfl ?_
      refine xj_isub dX0_text_84 ?_
      refine xj_istn3 dX0_text_85 rfl ?_
      refine xj_aload_n dX0_text_86 rfl rfl ?_
      refine xj_ic0 dX0_text_87 ?_
      refine xj_put dX0_text_88 K0 17 (by decide) q486 rfl rfl z9 (Nat.le_of_ble_eq_true rfl) ?_
      refine xj_iload_n dX0_text_91 rfl ?_
      exact xj_ireturn dX0_text_92 rfl rfl ⟨by unfold o_text; rw [hw3, hpA]; rfl, ⟨cu (dT d p9 q9) 17 (.int 0), gset_self z9, by unfold s_textT; rw [hw3]; rfl, ⟨p9, q9, rfl, rfl⟩, fun i h1 h2 h3 => by unfold cu dT cu; rw [if_neg h1, if_neg h3, if_neg h2]⟩, by unfold s_textG; rw [hw3, hpA, if_pos rfl, ← hn3, cu_id rfl, gset (by decide)]; exact (f2.2 4 (List.getElem?_eq_some_iff.mp hN).1 (by decide)).trans hN, (by obtain ⟨L, l1, l2⟩ := h20; exact ⟨L, l1, by rw [gset (by decide)]; exact (f2.2 20 (List.getElem?_eq_some_iff.mp l2).1 (by decide)).trans l2⟩), ⟨_, by rw [gset (by decide)]; exact t2⟩, (f2.mono (by decide)).set (by decide)⟩
    · refine xj_aload_n dX0_text_9 rfl rfl ?_
      refine xj_dV dX0_text_10 q1014 kV_X0_wholeText (A_wholeY hO h18 hd17 h19 hLT hNm hF hp hend) hO rfl rfl rfl rfl (Nat.le_of_ble_eq_true rfl) (xR_ok (by decide) (by decide)) (Nat.le_of_ble_eq_true rfl) (Nat.le_of_ble_eq_true rfl) ?_
      rintro _ H0 ⟨a, rfl, hc0, f0, z0⟩
      refine xj_astn2 dX0_text_13 rfl rfl ?_
      refine xj_lc0 dX0_text_14 ?_
      refine xj_lstn3 dX0_text_15 rfl ?_
      refine xj_ic0 dX0_text_16 ?_
      refine xj_ist5 dX0_text_17 rfl ?_
      have lp : ∀ (K : Nat) (k : Nat) (s : Nat) (H : xH), na n - k < K → (k ≤ na n) → (s < 2 ^ 57) → (lpN (fun x s => s ||| (if hldB n x q.1 then 2 ^ x else 0)) k (na n - k) s = txS n q.1) → (H[0]? = some (cO 0 (cFs (dT d (nxF tp q.2) (nxT tp q.2))))) → (H[4]? = some (cO 3 (oFs e))) → (cA (dT d (nxF tp q.2) (nxT tp q.2)) n H) → (cnd H q.1.length a q.1) → (∃ L : List Int32, L.length = 5 ∧ H[20]? = some (cI 0 L)) → (H[2]? = some (cO 2 (rFs r (.int fv)))) → (gfa [0, 20] G H) → xJ E (yX0_text, cX0_text, 7, (some FieldType.int), [(9, 69, 77, 121), (9, 69, 93, 0), (77, 86, 93, 0), (93, 95, 93, 0)]) (xR 1012 201 603) (xre (fun v_ G' => v_ = some (.int (o_text n g tp w)) ∧ txPo n g d e r tp w G G')) 0 0 19 [some (.ref 0), some (.int w), some (.ref a), some (.long (lN s)), none, some (.int (nI k)), none] [] H := by
        intro K
        induction K with
        | zero => intro k s H h; exact absurd h (Nat.not_lt_zero _)
        | succ K ih_lp =>
          intro k s H hK hk hs57 hs hz h4 hAH hcn hL hFH hfr
          obtain ⟨ar, hd3, hdy, LA, hAr, hLA, hAk⟩ := id hAH
          refine xj_iload dX0_text_19 rfl ?_
          refine xj_aload_n dX0_text_21 rfl rfl ?_
          refine xj_get dX0_text_22 K0 3 (by decide) q471 hz (congrArg some hd3) ?_
          refine xj_alenR dX0_text_25 hAr rfl ?_
          rw [hLA]
          refine xj_icmp_ge (tgt := 61) dX0_text_26 rfl (fun c26 => ?_) (fun c26 => ?_)
          · have hkn : na n ≤ k := Nat.le_of_not_lt fun h => absurd c26 (nI_ge h (by omega))
            rw [lp_end _ hkn] at hs
            subst hs
            refine xj_aload_n dX0_text_61 rfl rfl ?_
            refine xj_lload_n dX0_text_62 rfl ?_
            refine xj_iload_n dX0_text_63 rfl ?_
            refine xj_cV dX0_text_64 q994 kV_X0_comes (A_comes (show cV (dT d (nxF tp q.2) (nxT tp q.2)) e n H from ⟨hz, h4, hn0, h1n, hn6⟩) hn3 hg hAH txS_na) hz rfl rfl rfl rfl (Nat.le_of_ble_eq_true rfl) (xR_ok (by decide) (by decide)) (Nat.le_of_ble_eq_true rfl) (Nat.le_of_ble_eq_true rfl) ?_
            refine xj_ist5 dX0_text_67 rfl ?_
            refine xj_aload_n dX0_text_69 rfl rfl ?_
            refine xj_ic0 dX0_text_70 ?_
            refine xj_put dX0_text_71 K0 17 (by decide) q486 rfl rfl (by rw [gset (by decide)]; exact hz) (Nat.le_of_ble_eq_true rfl) ?_
            refine xj_iload dX0_text_74 rfl ?_
            exact xj_ireturn dX0_text_76 rfl rfl ⟨by unfold o_text; rw [hw3, hpA]; rfl, ⟨cu (dT d (nxF tp q.2) (nxT tp q.2)) 17 (.int 0), gset_self (by rw [gset (by decide)]; exact hz), by unfold s_textT; rw [hw3]; rfl, ⟨nxF tp q.2, nxT tp q.2, rfl, rfl⟩, fun i h1 h2 h3 => by unfold cu dT cu; rw [if_neg h1, if_neg h3, if_neg h2]⟩, by unfold s_textG; rw [hw3, hpA, gset (by decide)]; exact gset_self h4, (by obtain ⟨L, l1, l2⟩ := hL; exact ⟨L, l1, by rw [gset (by decide), gset (by decide)]; exact l2⟩), ⟨_, by rw [gset (by decide), gset (by decide)]; exact hFH⟩, (((hfr.mono (by decide)).set (by decide)).set (by decide))⟩
          · have hkn : k < na n := Nat.lt_of_not_le fun h => c26 (nI_le h (by omega))
            obtain ⟨b, u, hdb, hLb, h6⟩ := hAk k hkn
            obtain ⟨L, hL5, hL20⟩ := hL
            obtain ⟨x0, x1, x2, x3, x4, rfl⟩ := l_five hL5
            rw [lp_step _ hkn] at hs
            refine xj_lload_n dX0_text_29 rfl ?_
            refine xj_aload_n dX0_text_30 rfl rfl ?_
            refine xj_aload_n dX0_text_31 rfl rfl ?_
            refine xj_aload_n dX0_text_32 rfl rfl ?_
            refine xj_get dX0_text_33 K0 3 (by decide) q471 hz (congrArg some hd3) ?_
            refine xj_iload dX0_text_36 rfl ?_
            refine xj_aald dX0_text_38 hAr rfl rfl rfl (by omega) hLb ?_
            refine xj_cV dX0_text_39 q1195 kV_X0_holdsFor (A_holdsFor (show cV (dT d (nxF tp q.2) (nxT tp q.2)) e n H from ⟨hz, h4, hn0, h1n, hn6⟩) h6 (by omega) hkn hL20 hcn (by omega)) hz rfl rfl rfl rfl (Nat.le_of_ble_eq_true rfl) (xR_ok (by decide) (by decide)) (Nat.le_of_ble_eq_true rfl) (Nat.le_of_ble_eq_true rfl) ?_
            refine xj_sL_if_eq (tgt := 52) (M := 53) dX0_text_42 rfl (fun c42 k => by
                refine xj_lc0 dX0_text_52 ?_
                exact k) (fun c42 k => by
                refine xj_lc1 dX0_text_45 ?_
                refine xj_iload dX0_text_46 rfl ?_
                refine xj_lshl dX0_text_48 ?_
                refine xj_goto (tgt := 53) dX0_text_49 rfl ?_
                exact k) ?_
            refine xj_topl (y := lN (if hldB n k q.1 then 2 ^ k else 0)) (by rw [b1_if, l_one_shl (by omega)]; cases hldB n k q.1 <;> rfl) ?_
            refine xj_lor dX0_text_53 ?_
            have hb57 : (if hldB n k q.1 = true then 2 ^ k else 0) < 2 ^ 57 := if_lt_pow (by omega)
            rw [wb_or (Nat.lt_trans hs57 (by decide)) (Nat.lt_trans hb57 (by decide))]
            refine xj_lstn3 dX0_text_54 rfl ?_
            refine xj_iinc5 (cst := 1) dX0_text_55 rfl rfl ?_
            rw [nI_1]
            refine xj_goto (tgt := 19) dX0_text_58 rfl ?_
            exact ih_lp (k + 1) _ _ (by omega) (by omega) (Nat.or_lt_two_pow hs57 hb57) hs (by rw [gset (by decide)]; exact hz) (by rw [gset (by decide)]; exact h4) (hAH.mv rfl (((gfa.refl (W := [20])).set (by decide)).kpt (by decide))) (hcn.put hL20 cdC_I) ⟨_, rfl, gset_self hL20⟩ (by rw [gset (by decide)]; exact hFH) (hfr.set (by decide))
      exact lp (na n + 1) 0 0 H0 (by omega) (by omega) (by decide) rfl z0 ((f0.2 4 (List.getElem?_eq_some_iff.mp hN).1 (by decide)).trans hN) (hA.mv rfl (f0.kpt (by decide))) hc0 (by obtain ⟨L, l1, l2⟩ := h20; exact ⟨L, l1, (f0.2 20 (List.getElem?_eq_some_iff.mp l2).1 (by decide)).trans l2⟩) ((f0.2 2 (List.getElem?_eq_some_iff.mp hF).1 (by decide)).trans hF) (f0.mono (by decide))
  · refine xj_icm1 dX0_text_7 ?_
    exact xj_ireturn dX0_text_8 rfl rfl ⟨by unfold o_text; rw [b1_z c4]; rfl, ⟨d, hO, by unfold s_textT; rw [b1_z c4]; exact hd17, ⟨_, _, h18, hK⟩, fun _ _ _ _ => rfl⟩, by unfold s_textG; rw [b1_z c4, if_neg (by decide), ← hn3, cu_id rfl]; exact hN, h20, ⟨_, hF⟩, gfa.refl⟩
end A58
