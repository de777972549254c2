/-! ===== the class: stairs (2) ===== -/
set_option maxRecDepth 100000

section A12
variable {E : xE} {G : xH} {d e : Nat → Value} {n : Nat}
theorem A_isRight {r R g : Nat} {s : Int32 × Int32} {L : List Int32}  (hv : cV d e n G) (hn3 : e 3 = .long (lN g)) (hg : g < 2 ^ 64) (hL : G[r]? = some (cI 1 L)) (hr0 : r ≠ 0) (hr4 : r ≠ 4) (hR : rwL n R L) (hRm : R ∈ rws n) (hl31 : L.length < 2147483648) : xMet E yX0_isRight cX0_isRight 5 (some FieldType.boolean) 2 0 0 [.ref 0, .ref r, .int s.1, .int s.2] G (xre (fun v_ G' => v_ = some (.int (b1 (rgB n g R s (n - 1) 0))) ∧ ∃ M : List Int32, M.length = L.length ∧ (rgB n g R s (n - 1) 0 = true → rwL n (tn s.1) M ∧ tn s.1 ∈ rws n) ∧ G' = G.set r (cI 1 M))) := by
  obtain ⟨hO, hN, hn0, h1n, hn6⟩ := id hv
  have hB := rgC_ok (g := g) (s := s) (by omega) hRm (n - 1) 0 (by omega)
  have hna := na_lt n (by omega)
  refine xMet.of (lv := [some (.ref 0), some (.ref r), some (.int s.1), some (.int s.2), none]) rfl rfl (Nat.le_of_ble_eq_true rfl) ?_
  refine xj_ic0 dX0_isRight_0 ?_
  refine xj_ist4 dX0_isRight_1 rfl ?_
  have lp : ∀ (K : Nat) (k : Nat) (p : Nat), k < K → (p + k = n - 1) → (rgC n g R s k p = rgC n g R s (n - 1) 0) → xJ E (yX0_isRight, cX0_isRight, 5, (some FieldType.boolean), []) (xR 2 0 0) (xre (fun v_ G' => v_ = some (.int (b1 (rgB n g R s (n - 1) 0))) ∧ ∃ M : List Int32, M.length = L.length ∧ (rgB n g R s (n - 1) 0 = true → rwL n (tn s.1) M ∧ tn s.1 ∈ rws n) ∧ G' = G.set r (cI 1 M))) 0 0 3 [some (.ref 0), some (.ref r), some (.int s.1), some (.int s.2), some (.int (nI p))] [] G := by
    intro K
    induction K with
    | zero => intro k p h; exact absurd h (Nat.not_lt_zero _)
    | succ K ih_lp =>
      intro k p hK hk hq
      refine xj_iload dX0_isRight_3 rfl ?_
      refine xj_ic1 dX0_isRight_5 ?_
      refine xj_iadd dX0_isRight_6 ?_
      refine xj_aload_n dX0_isRight_7 rfl rfl ?_
      refine xj_get dX0_isRight_8 K0 4 (by decide) q473 hO rfl ?_
      refine xj_getN dX0_isRight_11 K3 0 (by decide) q321 hN (congrArg some hn0) ?_
      rw [nI_1]
      refine xj_icmp_ge (tgt := 75) dX0_isRight_14 rfl (fun c14 => ?_) (fun c14 => ?_)
      · refine xj_ic0 dX0_isRight_75 ?_
        exact xj_ireturn dX0_isRight_76 rfl rfl (by have hk0 : k = 0 := (by have : n ≤ p + 1 := Nat.le_of_not_lt fun h => absurd c14 (nI_ge h (by omega)); omega); subst hk0; rw [← hq] at hB; exact ⟨by rw [hB]; rfl, L, rfl, (fun h => by rw [hB] at h; cases h), (gset_id hL).symm⟩)
      · have hpn : p < n - 1 := Nat.lt_of_not_le fun h => c14 (nI_le (by omega) (by omega))
        obtain ⟨k, rfl⟩ : ∃ k0, k = k0 + 1 := ⟨k - 1, by omega⟩
        have hq : (if isD n R p = true ∧ nI (aa n R p) = s.2 ∧ g.testBit (aa n R p) = true then some p else rgC n g R s k (p + 1)) = rgC n g R s (n - 1) 0 := hq
        have haa := (f_aa n (by omega) R hRm p hpn).1
        refine xj_aload_n dX0_isRight_17 rfl rfl ?_
        refine xj_iload dX0_isRight_18 rfl ?_
        refine xj_cS dX0_isRight_20 q655 kS_X0_isDrop (A_isDrop hL hR (by omega) (by omega)) rfl rfl (Nat.le_of_ble_eq_true rfl) ⟨(Nat.le_of_ble_eq_true rfl), (Nat.le_of_ble_eq_true rfl)⟩ (Nat.le_of_ble_eq_true rfl) (Nat.le_of_ble_eq_true rfl) ?_
        refine xj_if_eq (tgt := 69) dX0_isRight_23 rfl (fun c23 => ?_) (fun c23 => ?_)
        · rw [if_neg (by first | exact (fun z => by rw [z.1] at c23; exact absurd c23 (by decide)) | exact (fun z => c34 z.2.1) | exact (fun z => by rw [z.2.2] at c42; exact absurd c42 (by decide)))] at hq
          refine xj_iinc4 (cst := 1) dX0_isRight_69 rfl rfl ?_
          rw [nI_1]
          refine xj_goto (tgt := 3) dX0_isRight_72 rfl ?_
          exact ih_lp k (p + 1) (by omega) (by omega) hq
        · refine xj_aload_n dX0_isRight_26 rfl rfl ?_
          refine xj_aload_n dX0_isRight_27 rfl rfl ?_
          refine xj_iload dX0_isRight_28 rfl ?_
          refine xj_cV dX0_isRight_30 q748 kV_X0_arcAt (A_arcAt hv hL hR hRm hpn) hO rfl rfl rfl rfl (Nat.le_of_ble_eq_true rfl) ⟨(Nat.le_of_ble_eq_true rfl), (Nat.le_of_ble_eq_true rfl)⟩ (Nat.le_of_ble_eq_true rfl) (Nat.le_of_ble_eq_true rfl) ?_
          refine xj_iload_n dX0_isRight_33 rfl ?_
          refine xj_icmp_ne (tgt := 69) dX0_isRight_34 rfl (fun c34 => ?_) (fun c34 => ?_)
          · rw [if_neg (by first | exact (fun z => by rw [z.1] at c23; exact absurd c23 (by decide)) | exact (fun z => c34 z.2.1) | exact (fun z => by rw [z.2.2] at c42; exact absurd c42 (by decide)))] at hq
            refine xj_iinc4 (cst := 1) dX0_isRight_69 rfl rfl ?_
            rw [nI_1]
            refine xj_goto (tgt := 3) dX0_isRight_72 rfl ?_
            exact ih_lp k (p + 1) (by omega) (by omega) hq
          · refine xj_aload_n dX0_isRight_37 rfl rfl ?_
            refine xj_iload_n dX0_isRight_38 rfl ?_
            refine xj_top (show s.2 = nI (aa n R p) from c34.symm) ?_
            refine xj_cV dX0_isRight_39 q760 kV_X0_isGone (A_isGone hv hn3 hg (by omega)) hO rfl rfl rfl rfl (Nat.le_of_ble_eq_true rfl) ⟨(Nat.le_of_ble_eq_true rfl), (Nat.le_of_ble_eq_true rfl)⟩ (Nat.le_of_ble_eq_true rfl) (Nat.le_of_ble_eq_true rfl) ?_
            refine xj_if_ne (tgt := 48) dX0_isRight_42 rfl (fun c42 => ?_) (fun c42 => ?_)
            · rw [if_pos ⟨b1_nz c23, c34, b1_nz c42⟩] at hq
              rw [← hq] at hB
              have hsm := f_sw (by omega) hRm (p := p) hpn
              refine xj_aload_n dX0_isRight_48 rfl rfl ?_
              refine xj_iload dX0_isRight_49 rfl ?_
              refine xj_cS dX0_isRight_51 q827 kS_X0_swap (A_swap hL hR hRm (by omega) hl31 (by omega)) rfl rfl (Nat.le_of_ble_eq_true rfl) ⟨(Nat.le_of_ble_eq_true rfl), (Nat.le_of_ble_eq_true rfl)⟩ (Nat.le_of_ble_eq_true rfl) (Nat.le_of_ble_eq_true rfl) ?_
              have hS := rwL_sw (by omega) hRm hR (show p + 1 < n by omega)
              have hv2 : cV d e n (G.set r (cI 1 (chL L p (p + 1)))) := hv.set hr0 hr4
              obtain ⟨hO2, hN2, -⟩ := id hv2
              refine xj_aload_n dX0_isRight_54 rfl rfl ?_
              refine xj_aload_n dX0_isRight_55 rfl rfl ?_
              refine xj_cV dX0_isRight_56 q632 kV_X0_told (A_told hv2 (gset_self hL) hS (f_tl n (by omega) _ hsm)) hO2 rfl rfl rfl rfl (Nat.le_of_ble_eq_true rfl) ⟨(Nat.le_of_ble_eq_true rfl), (Nat.le_of_ble_eq_true rfl)⟩ (Nat.le_of_ble_eq_true rfl) (Nat.le_of_ble_eq_true rfl) ?_
              refine xj_iload_n dX0_isRight_59 rfl ?_
              refine xj_icmp_ne (tgt := 67) dX0_isRight_60 rfl (fun c60 => ?_) (fun c60 => ?_)
              · refine xj_ic0 dX0_isRight_67 ?_
                exact xj_ireturn dX0_isRight_68 rfl rfl ⟨by rw [hB]; first | (rw [show decide (nI (sw n R p) = s.1) = true from decide_eq_true c60]; done) | (show _ = some (Value.int (b1 (decide (nI (sw n R p) = s.1)))); first | (rw [decide_eq_true c60]; rfl) | (rw [decide_eq_false c60]; rfl)), _, chL_len _ _ _, (fun h => by rw [hB] at h; have e2 := of_decide_eq_true h; rw [← e2, tn_nI (by omega) hsm]; exact ⟨hS, hsm⟩), rfl⟩
              · refine xj_ic1 dX0_isRight_63 ?_
                refine xj_goto (tgt := 68) dX0_isRight_64 rfl ?_
                exact xj_ireturn dX0_isRight_68 rfl rfl ⟨by rw [hB]; first | (rw [show decide (nI (sw n R p) = s.1) = true from decide_eq_true c60]; done) | (show _ = some (Value.int (b1 (decide (nI (sw n R p) = s.1)))); first | (rw [decide_eq_true c60]; rfl) | (rw [decide_eq_false c60]; rfl)), _, chL_len _ _ _, (fun h => by rw [hB] at h; have e2 := of_decide_eq_true h; rw [← e2, tn_nI (by omega) hsm]; exact ⟨hS, hsm⟩), rfl⟩
            · refine xj_goto (tgt := 69) dX0_isRight_45 rfl ?_
              rw [if_neg (by first | exact (fun z => by rw [z.1] at c23; exact absurd c23 (by decide)) | exact (fun z => c34 z.2.1) | exact (fun z => by rw [z.2.2] at c42; exact absurd c42 (by decide)))] at hq
              refine xj_iinc4 (cst := 1) dX0_isRight_69 rfl rfl ?_
              rw [nI_1]
              refine xj_goto (tgt := 3) dX0_isRight_72 rfl ?_
              exact ih_lp k (p + 1) (by omega) (by omega) hq
  exact lp n (n - 1) 0 (by omega) (by omega) rfl
end A12
