/-! ===== the reference: rotations ===== -/
set_option maxRecDepth 100000

theorem b1_inj {s t : Bool} (h : b1 s = b1 t) : s = t := by
  cases s <;> cases t <;> first | rfl | exact absurd h (by decide)
theorem insE_mem {l : List Nat} {v x : Nat} (h : x ∈ insE l v) : x ∈ l ∨ x = v := by
  unfold insE at h
  rcases List.mem_append.mp h with h | h
  · exact Or.inl (List.mem_of_mem_take h)
  · rcases List.mem_cons.mp h with h | h
    · exact Or.inr h
    · exact Or.inl (List.mem_of_mem_drop h)
section M10
variable {E : xE} {G : xH} {c : Nat → Value} {n : Nat}
theorem M_turnsTo {r g : Nat} {t : Bool} {L0 : List Int32} (hv : mV c n G) (ha : mA n G) (hf3 : c 3 = .long (lN g)) (hg : g < 2 ^ 57) (hr : r ∈ rws n) (h68 : G[68]? = some (cI 0 L0)) (hL0 : L0.length = 6) : xMet E yX7_turnsTo cX7_turnsTo 8 (some FieldType.int) 5 0 0 [.ref 54, .int (nI r), .int (b1 (!t))] G (xre (fun v G' => v = some (.int (nI (rot n g r t).length)) ∧ ∃ L : List Int32, L.length = 6 ∧ lnk L (rot n g r t) ∧ G' = G.set 68 (cI 0 L))) := by
  obtain ⟨hO, hf0, h1n, hn6, hPw, hWy⟩ := id hv
  have hfm := gos_mem' (g := g) (t := t) (by omega) hr
  have hf31 := R31 (by omega) hfm
  refine xMet.of (lv := [some (.ref 54), some (.int (nI r)), some (.int (b1 (!t))), none, none, none, none, none]) rfl rfl (Nat.le_of_ble_eq_true rfl) ?_
  refine xj_iload_n dX7_turnsTo_0 rfl ?_
  refine xj_sI_if_ne (tgt := 12) (M := 17) dX7_turnsTo_1 rfl (fun c1 k => by
      refine xj_aload_n dX7_turnsTo_12 rfl rfl ?_
      refine xj_iload_n dX7_turnsTo_13 rfl ?_
      refine xj_cV dX7_turnsTo_14 q2370 kV_X7_greatestOf (M_greatestOf hv ha hf3 hg hr) hO rfl rfl rfl rfl (Nat.le_of_ble_eq_true rfl) ⟨(Nat.le_of_ble_eq_true rfl), (Nat.le_of_ble_eq_true rfl)⟩ (Nat.le_of_ble_eq_true rfl) (Nat.le_of_ble_eq_true rfl) ?_
      exact k) (fun c1 k => by
      refine xj_aload_n dX7_turnsTo_4 rfl rfl ?_
      refine xj_iload_n dX7_turnsTo_5 rfl ?_
      refine xj_cV dX7_turnsTo_6 q2358 kV_X7_leastOf (M_leastOf hv ha hf3 hg hr) hO rfl rfl rfl rfl (Nat.le_of_ble_eq_true rfl) ⟨(Nat.le_of_ble_eq_true rfl), (Nat.le_of_ble_eq_true rfl)⟩ (Nat.le_of_ble_eq_true rfl) (Nat.le_of_ble_eq_true rfl) ?_
      refine xj_goto (tgt := 17) dX7_turnsTo_9 rfl ?_
      exact k) ?_
  refine xj_top (y := nI (gos n t g r)) (by cases t <;> rfl) ?_
  refine xj_istn3 dX7_turnsTo_17 rfl ?_
  refine xj_ic0 dX7_turnsTo_18 ?_
  refine xj_ist4 dX7_turnsTo_19 rfl ?_
  refine xj_ic0 dX7_turnsTo_21 ?_
  refine xj_ist5 dX7_turnsTo_22 rfl ?_
  refine xj_eq rfl rfl (gset_id h68).symm ?_
  have lp : ∀ (K : Nat) (p : Nat) (l : List Nat) (L : List Int32), n - 1 - p < K → (p ≤ n - 1) → (l.length ≤ p) → (L.length = 6) → (lnk L l) → (∀ x ∈ l, x ∈ rws n) → (lpN (rotF n g (gos n t g r) t) p (n - 1 - p) l = rot n g r t) → xJ E (yX7_turnsTo, cX7_turnsTo, 8, (some FieldType.int), []) (xR 5 0 0) (xre (fun v G' => v = some (.int (nI (rot n g r t).length)) ∧ ∃ L : List Int32, L.length = 6 ∧ lnk L (rot n g r t) ∧ G' = G.set 68 (cI 0 L))) 0 0 24 [some (.ref 54), some (.int (nI r)), some (.int (b1 (!t))), some (.int (nI (gos n t g r))), some (.int (nI l.length)), some (.int (nI p)), none, none] [] (G.set 68 (cI 0 L)) := by
    intro K
    induction K with
    | zero => intro p l L h; exact absurd h (Nat.not_lt_zero _)
    | succ K ih_lp =>
      intro p l L hK hp hll hL hlk hm hs
      have hv2 : mV c n (G.set 68 (cI 0 L)) := hv.set (by decide) (by decide) (by decide)
      have ha2 : mA n (G.set 68 (cI 0 L)) := ha.set (by decide) (by decide) (by decide)
      have hO2 := hv2.1
      have hL68 := gset_self (x := cI 0 L) h68
      refine xj_iload dX7_turnsTo_24 rfl ?_
      refine xj_aload_n dX7_turnsTo_26 rfl rfl ?_
      refine xj_get dX7_turnsTo_27 K7 0 (by decide) q1929 hO2 (congrArg some hf0) ?_
      refine xj_ic1 dX7_turnsTo_30 ?_
      refine xj_isub dX7_turnsTo_31 ?_
      refine xj_top (nI_sub1 h1n) ?_
      refine xj_icmp_ge (tgt := 130) dX7_turnsTo_32 rfl (fun c32 => ?_) (fun c32 => ?_)
      · have hpn : n - 1 ≤ p := Nat.le_of_not_lt fun h => absurd c32 (nI_ge h (by omega))
        rw [lp_end _ hpn] at hs
        refine xj_iload dX7_turnsTo_130 rfl ?_
        exact xj_ireturn dX7_turnsTo_132 rfl rfl ⟨by rw [hs], L, hL, by rw [← hs]; exact hlk, rfl⟩
      · have hpn : p < n - 1 := Nat.lt_of_not_le fun h => c32 (nI_le h (by omega))
        have hsm := f_sw (by omega) hfm (p := p) hpn
        have hvm := gos_mem' (g := g) (t := true) (by omega) hsm
        have hvv := R31 (by omega) hvm
        refine xj_aload_n dX7_turnsTo_35 rfl rfl ?_
        refine xj_iload_n dX7_turnsTo_36 rfl ?_
        refine xj_iload dX7_turnsTo_37 rfl ?_
        refine xj_cV dX7_turnsTo_39 q2144 kV_X7_isDrop (M_isDrop hv2 hf31 (by omega)) hO2 rfl rfl rfl rfl (Nat.le_of_ble_eq_true rfl) ⟨(Nat.le_of_ble_eq_true rfl), (Nat.le_of_ble_eq_true rfl)⟩ (Nat.le_of_ble_eq_true rfl) (Nat.le_of_ble_eq_true rfl) ?_
        refine xj_iload_n dX7_turnsTo_42 rfl ?_
        refine xj_sI_if_ne (tgt := 50) (M := 51) dX7_turnsTo_43 rfl (fun c43 k => by
            refine xj_ic0 dX7_turnsTo_50 ?_
            exact k) (fun c43 k => by
            refine xj_ic1 dX7_turnsTo_46 ?_
            refine xj_goto (tgt := 51) dX7_turnsTo_47 rfl ?_
            exact k) ?_
        refine xj_top (y := b1 t) (by cases t <;> rfl) ?_
        refine xj_icmp_ne (tgt := 124) dX7_turnsTo_51 rfl (fun c51 => ?_) (fun c51 => ?_)
        · refine xj_iinc5 (cst := 1) dX7_turnsTo_124 rfl rfl ?_
          rw [nI_1]
          refine xj_goto (tgt := 24) dX7_turnsTo_127 rfl ?_
          exact ih_lp (p + 1) l L (by omega) (by omega) (by omega) hL hlk hm (by rw [← hs, lp_step _ hpn]; unfold rotF; rw [if_neg (show ¬ (isD n (gos n t g r) p == t) = true from fun q => c51 (congrArg b1 (beq_iff_eq.mp q)))])
        · have hc : (isD n (gos n t g r) p == t) = true := by rw [beq_iff_eq]; exact b1_inj c51
          refine xj_aload_n dX7_turnsTo_54 rfl rfl ?_
          refine xj_aload_n dX7_turnsTo_55 rfl rfl ?_
          refine xj_iload_n dX7_turnsTo_56 rfl ?_
          refine xj_iload dX7_turnsTo_57 rfl ?_
          refine xj_cV dX7_turnsTo_59 q2172 kV_X7_swapAt (M_swapAt hv2 hfm hpn) hO2 rfl rfl rfl rfl (Nat.le_of_ble_eq_true rfl) ⟨(Nat.le_of_ble_eq_true rfl), (Nat.le_of_ble_eq_true rfl)⟩ (Nat.le_of_ble_eq_true rfl) (Nat.le_of_ble_eq_true rfl) ?_
          refine xj_cV dX7_turnsTo_62 q2358 kV_X7_leastOf (M_leastOf hv2 ha2 hf3 hg hsm) hO2 rfl rfl rfl rfl (Nat.le_of_ble_eq_true rfl) ⟨(Nat.le_of_ble_eq_true rfl), (Nat.le_of_ble_eq_true rfl)⟩ (Nat.le_of_ble_eq_true rfl) (Nat.le_of_ble_eq_true rfl) ?_
          refine xj_ist6 dX7_turnsTo_65 rfl ?_
          refine xj_iload dX7_turnsTo_67 rfl ?_
          refine xj_ist7 dX7_turnsTo_69 rfl ?_
          have lk : ∀ (K : Nat) (k : Nat) (L : List Int32), k < K → (k ≤ l.length) → (L.length = 6) → (insPos l (gos n true g (sw n (gos n t g r) p)) k = (insPos l (gos n true g (sw n (gos n t g r) p)) l.length)) → (∀ (i x : Nat), i < k → l[i]? = some x → L[i]? = some (nI x)) → (∀ (i x : Nat), k ≤ i → l[i]? = some x → L[i + 1]? = some (nI x)) → xJ E (yX7_turnsTo, cX7_turnsTo, 8, (some FieldType.int), []) (xR 5 0 0) (xre (fun v G' => v = some (.int (nI (rot n g r t).length)) ∧ ∃ L : List Int32, L.length = 6 ∧ lnk L (rot n g r t) ∧ G' = G.set 68 (cI 0 L))) 0 0 71 [some (.ref 54), some (.int (nI r)), some (.int (b1 (!t))), some (.int (nI (gos n t g r))), some (.int (nI l.length)), some (.int (nI p)), some (.int (nI (gos n true g (sw n (gos n t g r) p)))), some (.int (nI k))] [] (G.set 68 (cI 0 L)) := by
            intro K
            induction K with
            | zero => intro k L h; exact absurd h (Nat.not_lt_zero _)
            | succ K ih_lk =>
              intro k L hK hk hL hi h1 h2
              have hv2 : mV c n (G.set 68 (cI 0 L)) := hv.set (by decide) (by decide) (by decide)
              have ha2 : mA n (G.set 68 (cI 0 L)) := ha.set (by decide) (by decide) (by decide)
              have hO2 := hv2.1
              have hL68 := gset_self (x := cI 0 L) h68
              refine xj_iload dX7_turnsTo_71 rfl ?_
              refine xj_if_le (tgt := 112) dX7_turnsTo_73 rfl (fun c73 => ?_) (fun c73 => ?_)
              · have hkW : k = (insPos l (gos n true g (sw n (gos n t g r) p)) l.length) := by
                  first
                    | (rw [if_neg (fun q => absurd ((nI_leI hy31 hvv).mp c87) (by rw [hyr] at q; omega))] at hi; rw [hk0]; exact hi)
                    | (have h0 : k = 0 := Nat.eq_zero_of_not_pos fun h => absurd c73 (nI_nle h (by omega))
                       rw [h0] at hi ⊢; exact hi)
                refine xj_aload_n dX7_turnsTo_112 rfl rfl ?_
                refine xj_get dX7_turnsTo_113 K7 29 (by decide) q1958 hO2 rfl ?_
                refine xj_iload dX7_turnsTo_116 rfl ?_
                refine xj_iload dX7_turnsTo_118 rfl ?_
                refine xj_iast dX7_turnsTo_120 hL68 rfl (by omega) (by omega) ?_
                rw [gset_set]
                refine xj_iinc4 (cst := 1) dX7_turnsTo_121 rfl rfl ?_
                refine xj_iinc5 (cst := 1) dX7_turnsTo_124 rfl rfl ?_
                refine xj_goto (tgt := 24) dX7_turnsTo_127 rfl ?_
                have hlk2 : lnk (L.set k (nI (gos n true g (sw n (gos n t g r) p)))) (insE l (gos n true g (sw n (gos n t g r) p))) := by
                  rw [hkW]; rw [hkW] at h1 h2
                  exact lnk_ins (by omega) h1 h2
                rw [nI_1, nI_1, ← insE_len l (gos n true g (sw n (gos n t g r) p))]
                exact xj_fg6 (xj_fg7 (ih_lp (p + 1) _ _ (by omega) (by omega) (by rw [insE_len]; omega) (by rw [List.length_set]; exact hL) hlk2 (fun x hx => (insE_mem hx).elim (hm x) (fun e => by rw [e]; exact hvm)) (by rw [← hs, lp_step _ hpn]; unfold rotF; rw [if_pos hc])))
              · obtain ⟨k0, hk0⟩ : ∃ k0, k = k0 + 1 := ⟨k - 1, by
                  have : k ≠ 0 := fun h => by subst h; exact c73 (by decide)
                  omega⟩
                obtain ⟨y, hy⟩ : ∃ y, l[k0]? = some y := ⟨l[k0], List.getElem?_eq_getElem (by omega)⟩
                have hyr : l.getD k0 0 = y := by rw [List.getD_eq_getElem?_getD, hy]; rfl
                have hy31 := R31 (by omega) (hm y (List.mem_of_getElem? hy))
                rw [hk0] at hi
                have hi : (if (gos n true g (sw n (gos n t g r) p)) < l.getD k0 0 then insPos l (gos n true g (sw n (gos n t g r) p)) k0 else k0 + 1) = (insPos l (gos n true g (sw n (gos n t g r) p)) l.length) := hi
                refine xj_aload_n dX7_turnsTo_76 rfl rfl ?_
                refine xj_get dX7_turnsTo_77 K7 29 (by decide) q1958 hO2 rfl ?_
                refine xj_iload dX7_turnsTo_80 rfl ?_
                refine xj_ic1 dX7_turnsTo_82 ?_
                refine xj_isub dX7_turnsTo_83 ?_
                refine xj_iald dX7_turnsTo_84 hL68 (by rw [hk0]; exact nI_pred k0) (by omega) (h1 k0 y (by omega) hy) ?_
                refine xj_iload dX7_turnsTo_85 rfl ?_
                refine xj_icmp_le (tgt := 112) dX7_turnsTo_87 rfl (fun c87 => ?_) (fun c87 => ?_)
                · have hkW : k = (insPos l (gos n true g (sw n (gos n t g r) p)) l.length) := by
                    first
                      | (rw [if_neg (fun q => absurd ((nI_leI hy31 hvv).mp c87) (by rw [hyr] at q; omega))] at hi; rw [hk0]; exact hi)
                      | (have h0 : k = 0 := Nat.eq_zero_of_not_pos fun h => absurd c73 (nI_nle h (by omega))
                         rw [h0] at hi ⊢; exact hi)
                  refine xj_aload_n dX7_turnsTo_112 rfl rfl ?_
                  refine xj_get dX7_turnsTo_113 K7 29 (by decide) q1958 hO2 rfl ?_
                  refine xj_iload dX7_turnsTo_116 rfl ?_
                  refine xj_iload dX7_turnsTo_118 rfl ?_
                  refine xj_iast dX7_turnsTo_120 hL68 rfl (by omega) (by omega) ?_
                  rw [gset_set]
                  refine xj_iinc4 (cst := 1) dX7_turnsTo_121 rfl rfl ?_
                  refine xj_iinc5 (cst := 1) dX7_turnsTo_124 rfl rfl ?_
                  refine xj_goto (tgt := 24) dX7_turnsTo_127 rfl ?_
                  have hlk2 : lnk (L.set k (nI (gos n true g (sw n (gos n t g r) p)))) (insE l (gos n true g (sw n (gos n t g r) p))) := by
                    rw [hkW]; rw [hkW] at h1 h2
                    exact lnk_ins (by omega) h1 h2
                  rw [nI_1, nI_1, ← insE_len l (gos n true g (sw n (gos n t g r) p))]
                  exact xj_fg6 (xj_fg7 (ih_lp (p + 1) _ _ (by omega) (by omega) (by rw [insE_len]; omega) (by rw [List.length_set]; exact hL) hlk2 (fun x hx => (insE_mem hx).elim (hm x) (fun e => by rw [e]; exact hvm)) (by rw [← hs, lp_step _ hpn]; unfold rotF; rw [if_pos hc])))
                · refine xj_aload_n dX7_turnsTo_90 rfl rfl ?_
                  refine xj_get dX7_turnsTo_91 K7 29 (by decide) q1958 hO2 rfl ?_
                  refine xj_iload dX7_turnsTo_94 rfl ?_
                  refine xj_aload_n dX7_turnsTo_96 rfl rfl ?_
                  refine xj_get dX7_turnsTo_97 K7 29 (by decide) q1958 hO2 rfl ?_
                  refine xj_iload dX7_turnsTo_100 rfl ?_
                  refine xj_ic1 dX7_turnsTo_102 ?_
                  refine xj_isub dX7_turnsTo_103 ?_
                  refine xj_iald dX7_turnsTo_104 hL68 (by rw [hk0]; exact nI_pred k0) (by omega) (h1 k0 y (by omega) hy) ?_
                  refine xj_iast dX7_turnsTo_105 hL68 rfl (by omega) (by omega) ?_
                  rw [gset_set]
                  refine xj_iinc7 (cst := (-1)) dX7_turnsTo_106 rfl rfl ?_
                  rw [show nI k + -1 = nI k0 by rw [hk0]; exact pk_m1 k0]
                  refine xj_goto (tgt := 71) dX7_turnsTo_109 rfl ?_
                  exact ih_lk k0 _ (by omega) (by omega) (by rw [List.length_set]; exact hL) (by rw [if_pos (by rw [hyr]; exact Nat.lt_of_not_le fun h => c87 ((nI_leI hy31 hvv).mpr h))] at hi; exact hi) (fun i x hi2 hx => by rw [List.getElem?_set_ne (by omega)]; exact h1 i x (by omega) hx) (fun i x hi2 hx => by
                      by_cases e : i = k0
                      · rw [e] at hx; rw [hy] at hx; cases hx; rw [e, ← hk0, List.getElem?_set_self (by omega)]
                      · rw [List.getElem?_set_ne (by omega)]; exact h2 i x (by omega) hx)
          exact lk (l.length + 1) l.length L (by omega) (Nat.le_refl _) hL rfl (fun i x _ hx => hlk i x hx) (fun i x hi2 hx => absurd (List.getElem?_eq_some_iff.mp hx).1 (by omega))
  exact lp n 0 [] L0 (by omega) (by omega) (Nat.le_refl _) hL0 (fun i x hx => by cases hx) (fun x hx => by cases hx) rfl
end M10
