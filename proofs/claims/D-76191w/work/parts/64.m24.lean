/-! ===== the reference: the text (1) ===== -/
set_option maxRecDepth 100000
theorem kV_X7_emits : xsV yX7_emits cX7_emits 2 none 1 := ⟨q2332, qs116, q161, q2333, by decide, by decide, by decide +kernel⟩
theorem kV_X7_factHere : xsV yX7_factHere cX7_factHere 1 (some FieldType.int) 0 := ⟨q2323, qs115, q161, q2324, by decide, by decide, by decide +kernel⟩
theorem kV_X7_is : xsV yX7_is cX7_is 4 (some FieldType.boolean) 1 := ⟨q2307, qs112, q161, q2308, by decide, by decide, by decide +kernel⟩
theorem kS_X7_isDigit : xsS yX7_isDigit cX7_isDigit 1 (some FieldType.boolean) 1 := ⟨q2290, q161, q2291, by decide, by decide, by decide +kernel⟩
theorem kS_X7_isLetter : xsS yX7_isLetter cX7_isLetter 1 (some FieldType.boolean) 1 := ⟨q2287, q161, q2288, by decide, by decide, by decide +kernel⟩
theorem kV_X7_next : xsV yX7_next cX7_next 3 none 0 := ⟨q2284, qs108, q161, q2285, by decide, by decide, by decide +kernel⟩
theorem kV_J5_charAt : xsV yJ5_charAt cJ5_charAt 2 (some FieldType.char) 1 := ⟨q1060, q1061, q164, q1062, by decide, by decide, by decide +kernel⟩
theorem kV_J5_length : xsV yJ5_length cJ5_length 1 (some FieldType.int) 0 := ⟨q1050, q1051, q164, q1052, by decide, by decide, by decide +kernel⟩
theorem fct_lt {tp : List Nat} {e : Nat} (he : e ≤ tp.length) (h : fct tp e < 0) : nxF tp e < tp.length := by
  have key : ∀ k, k < 13 → isW tp e k = true → nxF tp e < tp.length := fun k hk hw => by
    have h1 := isW_len he hw
    have h2 := (f_wl k hk).2
    have := nxT_b he
    omega
  unfold fct at h
  split at h
  · exact key 0 (by decide) (by assumption)
  · split at h
    · exact key 1 (by decide) (by assumption)
    · split at h
      · exact key 2 (by decide) (by assumption)
      · split at h
        · exact key 3 (by decide) (by assumption)
        · split at h
          · exact key 4 (by decide) (by assumption)
          · exact absurd h (by decide)
theorem exF_dig {tp : List Nat} {s : Bool} (hs : s = false) : ∀ (k p q : Nat), p ≤ q → q < exF tp s true k p → isDg (tp.getD q 0) = true := by
  intro k
  induction k with
  | zero => intro p q h1 h2; have h2 : q < p := h2; omega
  | succ k ih =>
    intro p q h1 h2
    unfold exF at h2
    split at h2
    · rename_i hc
      by_cases e : p = q
      · subst e
        unfold exB at hc
        rw [hs] at hc
        simp at hc
        exact hc.2
      · exact ih (p + 1) q (by omega) h2
    · omega
theorem dg_nlt {b : Nat} (h : isDg b = true) : isLt b = false := by
  unfold isDg at h
  unfold isLt
  rw [Bool.and_eq_true, decide_eq_true_eq, decide_eq_true_eq] at h
  rw [decide_eq_false (by omega)]; rfl
/-- a number's bytes are digits -/
theorem dgs_dig {tp : List Nat} {e p : Nat} (he : e ≤ tp.length) (h : numB tp e = true) (h1 : nxF tp e ≤ p) (h2 : p < nxT tp e) : 48 ≤ tp.getD p 0 ∧ tp.getD p 0 ≤ 57 := by
  unfold numB at h
  rw [Bool.and_eq_true, Bool.and_eq_true, decide_eq_true_eq, decide_eq_true_eq] at h
  have key : isDg (tp.getD p 0) = true := by
    by_cases e1 : p = nxF tp e
    · rw [e1]; exact h.2.1
    · unfold nxT at h2
      rw [if_pos h.1, h.2.1, dg_nlt h.2.1] at h2
      exact exF_dig rfl _ (nxF tp e + 1) p (by omega) h2
  unfold isDg at key
  rw [Bool.and_eq_true, decide_eq_true_eq, decide_eq_true_eq] at key
  exact key
section M24
variable {E : xE} {G T : xH} {a : Nat → xC} {c : Nat → Value} {n : Nat}
theorem M_isDigit {v : Nat} (hv : v < 256) : xMet E yX7_isDigit cX7_isDigit 1 (some FieldType.boolean) 0 0 0 [.int (nI v)] G (xrv (some (.int (b1 (isDg v)))) G) := by
  refine xMet.of (lv := [some (.int (nI v))]) rfl rfl (Nat.le_of_ble_eq_true rfl) ?_
  refine xj_iload_n dX7_isDigit_0 rfl ?_
  refine xj_bipush (v := 48) dX7_isDigit_1 rfl ?_
  refine xj_icmp_lt (tgt := 16) dX7_isDigit_3 rfl (fun c3 => ?_) (fun c3 => ?_)
  · refine xj_ic0 dX7_isDigit_16 ?_
    exact xj_ireturn dX7_isDigit_17 rfl rfl (xrv_i (by rw [← c_dg v hv]; first | (rw [if_pos c3]; done) | (rw [if_neg c3, if_pos c9]; done) | (rw [if_neg c3, if_neg c9]; done)))
  · refine xj_iload_n dX7_isDigit_6 rfl ?_
    refine xj_bipush (v := 57) dX7_isDigit_7 rfl ?_
    refine xj_icmp_gt (tgt := 16) dX7_isDigit_9 rfl (fun c9 => ?_) (fun c9 => ?_)
    · refine xj_ic0 dX7_isDigit_16 ?_
      exact xj_ireturn dX7_isDigit_17 rfl rfl (xrv_i (by rw [← c_dg v hv]; first | (rw [if_pos c3]; done) | (rw [if_neg c3, if_pos c9]; done) | (rw [if_neg c3, if_neg c9]; done)))
    · refine xj_ic1 dX7_isDigit_12 ?_
      refine xj_goto (tgt := 17) dX7_isDigit_13 rfl ?_
      exact xj_ireturn dX7_isDigit_17 rfl rfl (xrv_i (by rw [← c_dg v hv]; first | (rw [if_pos c3]; done) | (rw [if_neg c3, if_pos c9]; done) | (rw [if_neg c3, if_neg c9]; done)))
theorem M_isLetter {v : Nat} (hv : v < 256) : xMet E yX7_isLetter cX7_isLetter 1 (some FieldType.boolean) 0 0 0 [.int (nI v)] G (xrv (some (.int (b1 (isLt v)))) G) := by
  refine xMet.of (lv := [some (.int (nI v))]) rfl rfl (Nat.le_of_ble_eq_true rfl) ?_
  refine xj_iload_n dX7_isLetter_0 rfl ?_
  refine xj_bipush (v := 97) dX7_isLetter_1 rfl ?_
  refine xj_icmp_lt (tgt := 16) dX7_isLetter_3 rfl (fun c3 => ?_) (fun c3 => ?_)
  · refine xj_ic0 dX7_isLetter_16 ?_
    exact xj_ireturn dX7_isLetter_17 rfl rfl (xrv_i (by rw [← c_lett v hv]; first | (rw [if_pos c3]; done) | (rw [if_neg c3, if_pos c9]; done) | (rw [if_neg c3, if_neg c9]; done)))
  · refine xj_iload_n dX7_isLetter_6 rfl ?_
    refine xj_bipush (v := 122) dX7_isLetter_7 rfl ?_
    refine xj_icmp_gt (tgt := 16) dX7_isLetter_9 rfl (fun c9 => ?_) (fun c9 => ?_)
    · refine xj_ic0 dX7_isLetter_16 ?_
      exact xj_ireturn dX7_isLetter_17 rfl rfl (xrv_i (by rw [← c_lett v hv]; first | (rw [if_pos c3]; done) | (rw [if_neg c3, if_pos c9]; done) | (rw [if_neg c3, if_neg c9]; done)))
    · refine xj_ic1 dX7_isLetter_12 ?_
      refine xj_goto (tgt := 17) dX7_isLetter_13 rfl ?_
      exact xj_ireturn dX7_isLetter_17 rfl rfl (xrv_i (by rw [← c_lett v hv]; first | (rw [if_pos c3]; done) | (rw [if_neg c3, if_pos c9]; done) | (rw [if_neg c3, if_neg c9]; done)))
theorem M_next {tp : List Nat} {f t o : Nat} {cl : List Int32} {w : Bool}  (hT : kT tp c a) (htt : t ≤ tp.length) (htx0 : tx tp c f t cl o w a) : xMet E yX7_next cX7_next 3 none 1 0 0 [.ref 54] (kG a T) (kR (none) T (fun b => kfr [54] a b ∧ tx tp c (nxF tp t) (nxT tp t) cl o w b)) := by
  obtain ⟨hf23, L65, h65, htL⟩ := id hT
  have hL200 := htL.1
  have htp := htL.2.1
  obtain ⟨c0, Cd0, hO0, hf0, ht0, hk0, ho0, hw0, h66_0, hC0, hl0, hcl0, hcc0⟩ := id htx0
  refine xMet.of (lv := [some (.ref 54), none, none]) rfl rfl (Nat.le_of_ble_eq_true rfl) ?_
  refine xj_aload_n dX7_next_0 rfl rfl ?_
  refine xj_aload_n dX7_next_1 rfl rfl ?_
  refine xj_get dX7_next_2 K7 25 (by decide) q1954 (kG_a (by decide) hO0) (congrArg some ht0) ?_
  refine xj_put dX7_next_5 K7 24 (by decide) q1953 rfl rfl (kG_a (by decide) hO0) (Nat.le_of_ble_eq_true rfl) ?_
  refine xj_eq rfl rfl (kG_set (by decide)) ?_
  refine xj_eq rfl rfl (show _ = kG (fG a c0 t t) T from congrArg (fun z => kG z T) (by unfold fG; rw [cu_id (i := 25) (show cu c0 24 (.int (nI t)) 25 = .int (nI t) from ht0)]; rfl)) ?_
  have lp : ∀ (K : Nat) (k : Nat) (p : Nat), k < K → (p + k = tp.length) → (spF tp k p = nxF tp t) → xJ E (yX7_next, cX7_next, 3, none, []) (xR 1 0 0) (kR (none) T (fun b => kfr [54] a b ∧ tx tp c (nxF tp t) (nxT tp t) cl o w b)) 0 0 8 [some (.ref 54), none, none] [] (kG (fG a c0 p t) T) := by
    intro K
    induction K with
    | zero => intro k p h; exact absurd h (Nat.not_lt_zero _)
    | succ K ih_lp =>
      intro k p hK hk hs
      refine xj_aload_n dX7_next_8 rfl rfl ?_
      refine xj_get dX7_next_9 K7 24 (by decide) q1953 (kG_a (by decide) rfl) rfl ?_
      refine xj_aload_n dX7_next_12 rfl rfl ?_
      refine xj_get dX7_next_13 K7 23 (by decide) q1952 (kG_a (by decide) rfl) (congrArg some (hcc0 23 (by decide) (by decide) (by decide) (by decide) (by decide) |>.trans hf23)) ?_
      refine xj_icmp_ge (tgt := 46) dX7_next_16 rfl (fun c16 => ?_) (fun c16 => ?_)
      · have hp : p = nxF tp t := by
          first
          | (rw [if_neg (fun h => c30 (by rw [h.2]; rfl))] at hs; exact hs)
          | (have hk0 : k = 0 := (by have := Nat.le_of_not_lt fun h => absurd c16 (nI_ge h (by omega)); omega); subst hk0; exact hs)
        refine xj_aload_n dX7_next_46 rfl rfl ?_
        refine xj_aload_n dX7_next_47 rfl rfl ?_
        refine xj_get dX7_next_48 K7 24 (by decide) q1953 (kG_a (by decide) rfl) (show _ = some (Value.int (nI p)) from rfl) ?_
        refine xj_put dX7_next_51 K7 25 (by decide) q1954 rfl rfl (kG_a (by decide) rfl) (Nat.le_of_ble_eq_true rfl) ?_
        refine xj_eq rfl rfl (kG_set (by decide)) ?_
        rw [fG_25]
        refine xj_aload_n dX7_next_54 rfl rfl ?_
        refine xj_get dX7_next_55 K7 24 (by decide) q1953 (kG_a (by decide) rfl) rfl ?_
        refine xj_aload_n dX7_next_58 rfl rfl ?_
        refine xj_get dX7_next_59 K7 23 (by decide) q1952 (kG_a (by decide) rfl) (congrArg some (hcc0 23 (by decide) (by decide) (by decide) (by decide) (by decide) |>.trans hf23)) ?_
        refine xj_icmp_ne (tgt := 66) dX7_next_62 rfl (fun c62 => ?_) (fun c62 => ?_)
        · have hq : p < tp.length := by
            have : p ≠ tp.length := fun h => c62 (by rw [h])
            omega
          refine xj_aload_n dX7_next_66 rfl rfl ?_
          refine xj_dup dX7_next_67 rfl ?_
          refine xj_get dX7_next_68 K7 25 (by decide) q1954 (kG_a (by decide) rfl) rfl ?_
          refine xj_ic1 dX7_next_71 ?_
          refine xj_iadd dX7_next_72 ?_
          rw [nI_1]
          refine xj_put dX7_next_73 K7 25 (by decide) q1954 rfl rfl (kG_a (by decide) rfl) (Nat.le_of_ble_eq_true rfl) ?_
          refine xj_eq rfl rfl (kG_set (by decide)) ?_
          rw [fG_25]
          refine xj_aload_n dX7_next_76 rfl rfl ?_
          refine xj_get dX7_next_77 K7 20 (by decide) q1949 (kG_a (by decide) rfl) rfl ?_
          refine xj_aload_n dX7_next_80 rfl rfl ?_
          refine xj_get dX7_next_81 K7 24 (by decide) q1953 (kG_a (by decide) rfl) rfl ?_
          refine xj_iald dX7_next_84 (kG_a (by decide) h65) rfl (by omega) (tp_at htL hq).1 ?_
          refine xj_cS dX7_next_85 q2286 kS_X7_isLetter (M_isLetter (tp_at htL hq).2) rfl rfl (Nat.le_of_ble_eq_true rfl) ⟨(Nat.le_of_ble_eq_true rfl), (Nat.le_of_ble_eq_true rfl)⟩ (Nat.le_of_ble_eq_true rfl) (Nat.le_of_ble_eq_true rfl) ?_
          refine xj_istn1 dX7_next_88 rfl ?_
          refine xj_aload_n dX7_next_89 rfl rfl ?_
          refine xj_get dX7_next_90 K7 20 (by decide) q1949 (kG_a (by decide) rfl) rfl ?_
          refine xj_aload_n dX7_next_93 rfl rfl ?_
          refine xj_get dX7_next_94 K7 24 (by decide) q1953 (kG_a (by decide) rfl) rfl ?_
          refine xj_iald dX7_next_97 (kG_a (by decide) h65) rfl (by omega) (tp_at htL hq).1 ?_
          refine xj_cS dX7_next_98 q2289 kS_X7_isDigit (M_isDigit (tp_at htL hq).2) rfl rfl (Nat.le_of_ble_eq_true rfl) ⟨(Nat.le_of_ble_eq_true rfl), (Nat.le_of_ble_eq_true rfl)⟩ (Nat.le_of_ble_eq_true rfl) (Nat.le_of_ble_eq_true rfl) ?_
          refine xj_istn2 dX7_next_101 rfl ?_
          have lq : ∀ (K : Nat) (k : Nat) (q : Nat), k < K → (q + k = tp.length) → (exF tp (isLt (tp.getD p 0)) (isDg (tp.getD p 0)) k q = nxT tp t) → xJ E (yX7_next, cX7_next, 3, none, []) (xR 1 0 0) (kR (none) T (fun b => kfr [54] a b ∧ tx tp c (nxF tp t) (nxT tp t) cl o w b)) 0 0 102 [some (.ref 54), some (.int (b1 (isLt (tp.getD p 0)))), some (.int (b1 (isDg (tp.getD p 0))))] [] (kG (fG a c0 p q) T) := by
            intro K
            induction K with
            | zero => intro k q h; exact absurd h (Nat.not_lt_zero _)
            | succ K ih_lq =>
              intro k q hK hk hs
              refine xj_aload_n dX7_next_102 rfl rfl ?_
              refine xj_get dX7_next_103 K7 25 (by decide) q1954 (kG_a (by decide) rfl) rfl ?_
              refine xj_aload_n dX7_next_106 rfl rfl ?_
              refine xj_get dX7_next_107 K7 23 (by decide) q1952 (kG_a (by decide) rfl) (congrArg some (hcc0 23 (by decide) (by decide) (by decide) (by decide) (by decide) |>.trans hf23)) ?_
              refine xj_icmp_ge (tgt := 164) dX7_next_110 rfl (fun c110 => ?_) (fun c110 => ?_)
              · exact xj_return dX7_next_164 rfl (by have hx : exB tp (isLt (tp.getD p 0)) (isDg (tp.getD p 0)) q = false := (by unfold exB; first | (rw [decide_eq_false (fun h => absurd c110 (nI_ge h (by omega)))]; rfl) | (rw [b1_z c114, b1_z c133, decide_eq_true hq]; rfl) | (rw [b1_z c114, b1_z c148, decide_eq_true hq]; simp) | (rw [b1_z c129, b1_z c133, decide_eq_true hq]; simp) | (rw [b1_z c129, b1_z c148, decide_eq_true hq]; simp)); rw [exB_f hx] at hs; rw [hs, hp]; exact kR_v ⟨(kfr.refl _ _).au (by decide), ⟨_, Cd0, rfl, rfl, rfl, hk0, ho0, hw0, h66_0, hC0, hl0, hcl0, fun j h1 h2 h3 h4 h5 => by unfold cu; rw [if_neg h2, if_neg h1]; exact hcc0 j h1 h2 h3 h4 h5⟩⟩)
              · have hq : q < tp.length := Nat.lt_of_not_le fun h => c110 (nI_le h (by omega))
                obtain ⟨k, rfl⟩ : ∃ k0, k = k0 + 1 := ⟨k - 1, by omega⟩
                refine xj_iload_n dX7_next_113 rfl ?_
                refine xj_if_eq (tgt := 132) dX7_next_114 rfl (fun c114 => ?_) (fun c114 => ?_)
                · refine xj_iload_n dX7_next_132 rfl ?_
                  refine xj_if_eq (tgt := 164) dX7_next_133 rfl (fun c133 => ?_) (fun c133 => ?_)
                  · exact xj_return dX7_next_164 rfl (by have hx : exB tp (isLt (tp.getD p 0)) (isDg (tp.getD p 0)) q = false := (by unfold exB; first | (rw [decide_eq_false (fun h => absurd c110 (nI_ge h (by omega)))]; rfl) | (rw [b1_z c114, b1_z c133, decide_eq_true hq]; rfl) | (rw [b1_z c114, b1_z c148, decide_eq_true hq]; simp) | (rw [b1_z c129, b1_z c133, decide_eq_true hq]; simp) | (rw [b1_z c129, b1_z c148, decide_eq_true hq]; simp)); rw [exB_f hx] at hs; rw [hs, hp]; exact kR_v ⟨(kfr.refl _ _).au (by decide), ⟨_, Cd0, rfl, rfl, rfl, hk0, ho0, hw0, h66_0, hC0, hl0, hcl0, fun j h1 h2 h3 h4 h5 => by unfold cu; rw [if_neg h2, if_neg h1]; exact hcc0 j h1 h2 h3 h4 h5⟩⟩)
                  · refine xj_aload_n dX7_next_136 rfl rfl ?_
                    refine xj_get dX7_next_137 K7 20 (by decide) q1949 (kG_a (by decide) rfl) rfl ?_
                    refine xj_aload_n dX7_next_140 rfl rfl ?_
                    refine xj_get dX7_next_141 K7 25 (by decide) q1954 (kG_a (by decide) rfl) rfl ?_
                    refine xj_iald dX7_next_144 (kG_a (by decide) h65) rfl (by omega) (tp_at htL hq).1 ?_
                    refine xj_cS dX7_next_145 q2289 kS_X7_isDigit (M_isDigit (tp_at htL hq).2) rfl rfl (Nat.le_of_ble_eq_true rfl) ⟨(Nat.le_of_ble_eq_true rfl), (Nat.le_of_ble_eq_true rfl)⟩ (Nat.le_of_ble_eq_true rfl) (Nat.le_of_ble_eq_true rfl) ?_
                    refine xj_if_eq (tgt := 164) dX7_next_148 rfl (fun c148 => ?_) (fun c148 => ?_)
                    · exact xj_return dX7_next_164 rfl (by have hx : exB tp (isLt (tp.getD p 0)) (isDg (tp.getD p 0)) q = false := (by unfold exB; first | (rw [decide_eq_false (fun h => absurd c110 (nI_ge h (by omega)))]; rfl) | (rw [b1_z c114, b1_z c133, decide_eq_true hq]; rfl) | (rw [b1_z c114, b1_z c148, decide_eq_true hq]; simp) | (rw [b1_z c129, b1_z c133, decide_eq_true hq]; simp) | (rw [b1_z c129, b1_z c148, decide_eq_true hq]; simp)); rw [exB_f hx] at hs; rw [hs, hp]; exact kR_v ⟨(kfr.refl _ _).au (by decide), ⟨_, Cd0, rfl, rfl, rfl, hk0, ho0, hw0, h66_0, hC0, hl0, hcl0, fun j h1 h2 h3 h4 h5 => by unfold cu; rw [if_neg h2, if_neg h1]; exact hcc0 j h1 h2 h3 h4 h5⟩⟩)
                    · refine xj_aload_n dX7_next_151 rfl rfl ?_
                      refine xj_dup dX7_next_152 rfl ?_
                      refine xj_get dX7_next_153 K7 25 (by decide) q1954 (kG_a (by decide) rfl) rfl ?_
                      refine xj_ic1 dX7_next_156 ?_
                      refine xj_iadd dX7_next_157 ?_
                      rw [nI_1]
                      refine xj_put dX7_next_158 K7 25 (by decide) q1954 rfl rfl (kG_a (by decide) rfl) (Nat.le_of_ble_eq_true rfl) ?_
                      refine xj_eq rfl rfl (kG_set (by decide)) ?_
                      rw [fG_25]
                      have hx : exB tp (isLt (tp.getD p 0)) (isDg (tp.getD p 0)) q = true := by
                        unfold exB
                        rw [decide_eq_true hq]
                        first
                        | (rw [b1_nz c114, b1_nz c129]; rfl)
                        | (rw [b1_nz c133, b1_nz c148]; simp)
                      have hs : (if exB tp (isLt (tp.getD p 0)) (isDg (tp.getD p 0)) q then exF tp (isLt (tp.getD p 0)) (isDg (tp.getD p 0)) k (q + 1) else q) = nxT tp t := hs
                      rw [if_pos hx] at hs
                      refine xj_goto (tgt := 102) dX7_next_161 rfl ?_
                      exact ih_lq k (q + 1) (by omega) (by omega) hs
                · refine xj_aload_n dX7_next_117 rfl rfl ?_
                  refine xj_get dX7_next_118 K7 20 (by decide) q1949 (kG_a (by decide) rfl) rfl ?_
                  refine xj_aload_n dX7_next_121 rfl rfl ?_
                  refine xj_get dX7_next_122 K7 25 (by decide) q1954 (kG_a (by decide) rfl) rfl ?_
                  refine xj_iald dX7_next_125 (kG_a (by decide) h65) rfl (by omega) (tp_at htL hq).1 ?_
                  refine xj_cS dX7_next_126 q2286 kS_X7_isLetter (M_isLetter (tp_at htL hq).2) rfl rfl (Nat.le_of_ble_eq_true rfl) ⟨(Nat.le_of_ble_eq_true rfl), (Nat.le_of_ble_eq_true rfl)⟩ (Nat.le_of_ble_eq_true rfl) (Nat.le_of_ble_eq_true rfl) ?_
                  refine xj_if_ne (tgt := 151) dX7_next_129 rfl (fun c129 => ?_) (fun c129 => ?_)
                  · refine xj_aload_n dX7_next_151 rfl rfl ?_
                    refine xj_dup dX7_next_152 rfl ?_
                    refine xj_get dX7_next_153 K7 25 (by decide) q1954 (kG_a (by decide) rfl) rfl ?_
                    refine xj_ic1 dX7_next_156 ?_
                    refine xj_iadd dX7_next_157 ?_
                    rw [nI_1]
                    refine xj_put dX7_next_158 K7 25 (by decide) q1954 rfl rfl (kG_a (by decide) rfl) (Nat.le_of_ble_eq_true rfl) ?_
                    refine xj_eq rfl rfl (kG_set (by decide)) ?_
                    rw [fG_25]
                    have hx : exB tp (isLt (tp.getD p 0)) (isDg (tp.getD p 0)) q = true := by
                      unfold exB
                      rw [decide_eq_true hq]
                      first
                      | (rw [b1_nz c114, b1_nz c129]; rfl)
                      | (rw [b1_nz c133, b1_nz c148]; simp)
                    have hs : (if exB tp (isLt (tp.getD p 0)) (isDg (tp.getD p 0)) q then exF tp (isLt (tp.getD p 0)) (isDg (tp.getD p 0)) k (q + 1) else q) = nxT tp t := hs
                    rw [if_pos hx] at hs
                    refine xj_goto (tgt := 102) dX7_next_161 rfl ?_
                    exact ih_lq k (q + 1) (by omega) (by omega) hs
                  · refine xj_iload_n dX7_next_132 rfl ?_
                    refine xj_if_eq (tgt := 164) dX7_next_133 rfl (fun c133 => ?_) (fun c133 => ?_)
                    · exact xj_return dX7_next_164 rfl (by have hx : exB tp (isLt (tp.getD p 0)) (isDg (tp.getD p 0)) q = false := (by unfold exB; first | (rw [decide_eq_false (fun h => absurd c110 (nI_ge h (by omega)))]; rfl) | (rw [b1_z c114, b1_z c133, decide_eq_true hq]; rfl) | (rw [b1_z c114, b1_z c148, decide_eq_true hq]; simp) | (rw [b1_z c129, b1_z c133, decide_eq_true hq]; simp) | (rw [b1_z c129, b1_z c148, decide_eq_true hq]; simp)); rw [exB_f hx] at hs; rw [hs, hp]; exact kR_v ⟨(kfr.refl _ _).au (by decide), ⟨_, Cd0, rfl, rfl, rfl, hk0, ho0, hw0, h66_0, hC0, hl0, hcl0, fun j h1 h2 h3 h4 h5 => by unfold cu; rw [if_neg h2, if_neg h1]; exact hcc0 j h1 h2 h3 h4 h5⟩⟩)
                    · refine xj_aload_n dX7_next_136 rfl rfl ?_
                      refine xj_get dX7_next_137 K7 20 (by decide) q1949 (kG_a (by decide) rfl) rfl ?_
                      refine xj_aload_n dX7_next_140 rfl rfl ?_
                      refine xj_get dX7_next_141 K7 25 (by decide) q1954 (kG_a (by decide) rfl) rfl ?_
                      refine xj_iald dX7_next_144 (kG_a (by decide) h65) rfl (by omega) (tp_at htL hq).1 ?_
                      refine xj_cS dX7_next_145 q2289 kS_X7_isDigit (M_isDigit (tp_at htL hq).2) rfl rfl (Nat.le_of_ble_eq_true rfl) ⟨(Nat.le_of_ble_eq_true rfl), (Nat.le_of_ble_eq_true rfl)⟩ (Nat.le_of_ble_eq_true rfl) (Nat.le_of_ble_eq_true rfl) ?_
                      refine xj_if_eq (tgt := 164) dX7_next_148 rfl (fun c148 => ?_) (fun c148 => ?_)
                      · exact xj_return dX7_next_164 rfl (by have hx : exB tp (isLt (tp.getD p 0)) (isDg (tp.getD p 0)) q = false := (by unfold exB; first | (rw [decide_eq_false (fun h => absurd c110 (nI_ge h (by omega)))]; rfl) | (rw [b1_z c114, b1_z c133, decide_eq_true hq]; rfl) | (rw [b1_z c114, b1_z c148, decide_eq_true hq]; simp) | (rw [b1_z c129, b1_z c133, decide_eq_true hq]; simp) | (rw [b1_z c129, b1_z c148, decide_eq_true hq]; simp)); rw [exB_f hx] at hs; rw [hs, hp]; exact kR_v ⟨(kfr.refl _ _).au (by decide), ⟨_, Cd0, rfl, rfl, rfl, hk0, ho0, hw0, h66_0, hC0, hl0, hcl0, fun j h1 h2 h3 h4 h5 => by unfold cu; rw [if_neg h2, if_neg h1]; exact hcc0 j h1 h2 h3 h4 h5⟩⟩)
                      · refine xj_aload_n dX7_next_151 rfl rfl ?_
                        refine xj_dup dX7_next_152 rfl ?_
                        refine xj_get dX7_next_153 K7 25 (by decide) q1954 (kG_a (by decide) rfl) rfl ?_
                        refine xj_ic1 dX7_next_156 ?_
                        refine xj_iadd dX7_next_157 ?_
                        rw [nI_1]
                        refine xj_put dX7_next_158 K7 25 (by decide) q1954 rfl rfl (kG_a (by decide) rfl) (Nat.le_of_ble_eq_true rfl) ?_
                        refine xj_eq rfl rfl (kG_set (by decide)) ?_
                        rw [fG_25]
                        have hx : exB tp (isLt (tp.getD p 0)) (isDg (tp.getD p 0)) q = true := by
                          unfold exB
                          rw [decide_eq_true hq]
                          first
                          | (rw [b1_nz c114, b1_nz c129]; rfl)
                          | (rw [b1_nz c133, b1_nz c148]; simp)
                        have hs : (if exB tp (isLt (tp.getD p 0)) (isDg (tp.getD p 0)) q then exF tp (isLt (tp.getD p 0)) (isDg (tp.getD p 0)) k (q + 1) else q) = nxT tp t := hs
                        rw [if_pos hx] at hs
                        refine xj_goto (tgt := 102) dX7_next_161 rfl ?_
                        exact ih_lq k (q + 1) (by omega) (by omega) hs
          exact lq (tp.length + 1) (tp.length - (p + 1)) (p + 1) (by omega) (by omega) (by rw [hp]; unfold nxT; rw [if_pos (by omega)])
        · exact xj_return dX7_next_65 rfl (by have e : p = tp.length := (nI_eq (by omega) (by omega)).mp c62; rw [← hp, show nxT tp t = p by unfold nxT; rw [← hp, if_neg (by omega)]]; exact kR_v ⟨(kfr.refl _ _).au (by decide), ⟨_, Cd0, rfl, rfl, rfl, hk0, ho0, hw0, h66_0, hC0, hl0, hcl0, fun j h1 h2 h3 h4 h5 => by unfold cu; rw [if_neg h2, if_neg h1]; exact hcc0 j h1 h2 h3 h4 h5⟩⟩)
      · have hq : p < tp.length := Nat.lt_of_not_le fun h => c16 (nI_le h (by omega))
        obtain ⟨k, rfl⟩ : ∃ k0, k = k0 + 1 := ⟨k - 1, by omega⟩
        have hta := tp_at htL hq
        have hs : (if p < tp.length ∧ tp.getD p 0 = 32 then spF tp k (p + 1) else p) = nxF tp t := hs
        refine xj_aload_n dX7_next_19 rfl rfl ?_
        refine xj_get dX7_next_20 K7 20 (by decide) q1949 (kG_a (by decide) rfl) rfl ?_
        refine xj_aload_n dX7_next_23 rfl rfl ?_
        refine xj_get dX7_next_24 K7 24 (by decide) q1953 (kG_a (by decide) rfl) rfl ?_
        refine xj_iald dX7_next_27 (kG_a (by decide) h65) rfl (by omega) (tp_at htL hq).1 ?_
        refine xj_bipush (v := 32) dX7_next_28 rfl ?_
        refine xj_icmp_ne (tgt := 46) dX7_next_30 rfl (fun c30 => ?_) (fun c30 => ?_)
        · have hp : p = nxF tp t := by
            first
            | (rw [if_neg (fun h => c30 (by rw [h.2]; rfl))] at hs; exact hs)
            | (have hk0 : k = 0 := (by have := Nat.le_of_not_lt fun h => absurd c16 (nI_ge h (by omega)); omega); subst hk0; exact hs)
          refine xj_aload_n dX7_next_46 rfl rfl ?_
          refine xj_aload_n dX7_next_47 rfl rfl ?_
          refine xj_get dX7_next_48 K7 24 (by decide) q1953 (kG_a (by decide) rfl) (show _ = some (Value.int (nI p)) from rfl) ?_
          refine xj_put dX7_next_51 K7 25 (by decide) q1954 rfl rfl (kG_a (by decide) rfl) (Nat.le_of_ble_eq_true rfl) ?_
          refine xj_eq rfl rfl (kG_set (by decide)) ?_
          rw [fG_25]
          refine xj_aload_n dX7_next_54 rfl rfl ?_
          refine xj_get dX7_next_55 K7 24 (by decide) q1953 (kG_a (by decide) rfl) rfl ?_
          refine xj_aload_n dX7_next_58 rfl rfl ?_
          refine xj_get dX7_next_59 K7 23 (by decide) q1952 (kG_a (by decide) rfl) (congrArg some (hcc0 23 (by decide) (by decide) (by decide) (by decide) (by decide) |>.trans hf23)) ?_
          refine xj_icmp_ne (tgt := 66) dX7_next_62 rfl (fun c62 => ?_) (fun c62 => ?_)
          · have hq : p < tp.length := by
              have : p ≠ tp.length := fun h => c62 (by rw [h])
              omega
            refine xj_aload_n dX7_next_66 rfl rfl ?_
            refine xj_dup dX7_next_67 rfl ?_
            refine xj_get dX7_next_68 K7 25 (by decide) q1954 (kG_a (by decide) rfl) rfl ?_
            refine xj_ic1 dX7_next_71 ?_
            refine xj_iadd dX7_next_72 ?_
            rw [nI_1]
            refine xj_put dX7_next_73 K7 25 (by decide) q1954 rfl rfl (kG_a (by decide) rfl) (Nat.le_of_ble_eq_true rfl) ?_
            refine xj_eq rfl rfl (kG_set (by decide)) ?_
            rw [fG_25]
            refine xj_aload_n dX7_next_76 rfl rfl ?_
            refine xj_get dX7_next_77 K7 20 (by decide) q1949 (kG_a (by decide) rfl) rfl ?_
            refine xj_aload_n dX7_next_80 rfl rfl ?_
            refine xj_get dX7_next_81 K7 24 (by decide) q1953 (kG_a (by decide) rfl) rfl ?_
            refine xj_iald dX7_next_84 (kG_a (by decide) h65) rfl (by omega) (tp_at htL hq).1 ?_
            refine xj_cS dX7_next_85 q2286 kS_X7_isLetter (M_isLetter (tp_at htL hq).2) rfl rfl (Nat.le_of_ble_eq_true rfl) ⟨(Nat.le_of_ble_eq_true rfl), (Nat.le_of_ble_eq_true rfl)⟩ (Nat.le_of_ble_eq_true rfl) (Nat.le_of_ble_eq_true rfl) ?_
            refine xj_istn1 dX7_next_88 rfl ?_
            refine xj_aload_n dX7_next_89 rfl rfl ?_
            refine xj_get dX7_next_90 K7 20 (by decide) q1949 (kG_a (by decide) rfl) rfl ?_
            refine xj_aload_n dX7_next_93 rfl rfl ?_
            refine xj_get dX7_next_94 K7 24 (by decide) q1953 (kG_a (by decide) rfl) rfl ?_
            refine xj_iald dX7_next_97 (kG_a (by decide) h65) rfl (by omega) (tp_at htL hq).1 ?_
            refine xj_cS dX7_next_98 q2289 kS_X7_isDigit (M_isDigit (tp_at htL hq).2) rfl rfl (Nat.le_of_ble_eq_true rfl) ⟨(Nat.le_of_ble_eq_true rfl), (Nat.le_of_ble_eq_true rfl)⟩ (Nat.le_of_ble_eq_true rfl) (Nat.le_of_ble_eq_true rfl) ?_
            refine xj_istn2 dX7_next_101 rfl ?_
            have lq : ∀ (K : Nat) (k : Nat) (q : Nat), k < K → (q + k = tp.length) → (exF tp (isLt (tp.getD p 0)) (isDg (tp.getD p 0)) k q = nxT tp t) → xJ E (yX7_next, cX7_next, 3, none, []) (xR 1 0 0) (kR (none) T (fun b => kfr [54] a b ∧ tx tp c (nxF tp t) (nxT tp t) cl o w b)) 0 0 102 [some (.ref 54), some (.int (b1 (isLt (tp.getD p 0)))), some (.int (b1 (isDg (tp.getD p 0))))] [] (kG (fG a c0 p q) T) := by
              intro K
              induction K with
              | zero => intro k q h; exact absurd h (Nat.not_lt_zero _)
              | succ K ih_lq =>
                intro k q hK hk hs
                refine xj_aload_n dX7_next_102 rfl rfl ?_
                refine xj_get dX7_next_103 K7 25 (by decide) q1954 (kG_a (by decide) rfl) rfl ?_
                refine xj_aload_n dX7_next_106 rfl rfl ?_
                refine xj_get dX7_next_107 K7 23 (by decide) q1952 (kG_a (by decide) rfl) (congrArg some (hcc0 23 (by decide) (by decide) (by decide) (by decide) (by decide) |>.trans hf23)) ?_
                refine xj_icmp_ge (tgt := 164) dX7_next_110 rfl (fun c110 => ?_) (fun c110 => ?_)
                · exact xj_return dX7_next_164 rfl (by have hx : exB tp (isLt (tp.getD p 0)) (isDg (tp.getD p 0)) q = false := (by unfold exB; first | (rw [decide_eq_false (fun h => absurd c110 (nI_ge h (by omega)))]; rfl) | (rw [b1_z c114, b1_z c133, decide_eq_true hq]; rfl) | (rw [b1_z c114, b1_z c148, decide_eq_true hq]; simp) | (rw [b1_z c129, b1_z c133, decide_eq_true hq]; simp) | (rw [b1_z c129, b1_z c148, decide_eq_true hq]; simp)); rw [exB_f hx] at hs; rw [hs, hp]; exact kR_v ⟨(kfr.refl _ _).au (by decide), ⟨_, Cd0, rfl, rfl, rfl, hk0, ho0, hw0, h66_0, hC0, hl0, hcl0, fun j h1 h2 h3 h4 h5 => by unfold cu; rw [if_neg h2, if_neg h1]; exact hcc0 j h1 h2 h3 h4 h5⟩⟩)
                · have hq : q < tp.length := Nat.lt_of_not_le fun h => c110 (nI_le h (by omega))
                  obtain ⟨k, rfl⟩ : ∃ k0, k = k0 + 1 := ⟨k - 1, by omega⟩
                  refine xj_iload_n dX7_next_113 rfl ?_
                  refine xj_if_eq (tgt := 132) dX7_next_114 rfl (fun c114 => ?_) (fun c114 => ?_)
                  · refine xj_iload_n dX7_next_132 rfl ?_
                    refine xj_if_eq (tgt := 164) dX7_next_133 rfl (fun c133 => ?_) (fun c133 => ?_)
                    · exact xj_return dX7_next_164 rfl (by have hx : exB tp (isLt (tp.getD p 0)) (isDg (tp.getD p 0)) q = false := (by unfold exB; first | (rw [decide_eq_false (fun h => absurd c110 (nI_ge h (by omega)))]; rfl) | (rw [b1_z c114, b1_z c133, decide_eq_true hq]; rfl) | (rw [b1_z c114, b1_z c148, decide_eq_true hq]; simp) | (rw [b1_z c129, b1_z c133, decide_eq_true hq]; simp) | (rw [b1_z c129, b1_z c148, decide_eq_true hq]; simp)); rw [exB_f hx] at hs; rw [hs, hp]; exact kR_v ⟨(kfr.refl _ _).au (by decide), ⟨_, Cd0, rfl, rfl, rfl, hk0, ho0, hw0, h66_0, hC0, hl0, hcl0, fun j h1 h2 h3 h4 h5 => by unfold cu; rw [if_neg h2, if_neg h1]; exact hcc0 j h1 h2 h3 h4 h5⟩⟩)
                    · refine xj_aload_n dX7_next_136 rfl rfl ?_
                      refine xj_get dX7_next_137 K7 20 (by decide) q1949 (kG_a (by decide) rfl) rfl ?_
                      refine xj_aload_n dX7_next_140 rfl rfl ?_
                      refine xj_get dX7_next_141 K7 25 (by decide) q1954 (kG_a (by decide) rfl) rfl ?_
                      refine xj_iald dX7_next_144 (kG_a (by decide) h65) rfl (by omega) (tp_at htL hq).1 ?_
                      refine xj_cS dX7_next_145 q2289 kS_X7_isDigit (M_isDigit (tp_at htL hq).2) rfl rfl (Nat.le_of_ble_eq_true rfl) ⟨(Nat.le_of_ble_eq_true rfl), (Nat.le_of_ble_eq_true rfl)⟩ (Nat.le_of_ble_eq_true rfl) (Nat.le_of_ble_eq_true rfl) ?_
                      refine xj_if_eq (tgt := 164) dX7_next_148 rfl (fun c148 => ?_) (fun c148 => ?_)
                      · exact xj_return dX7_next_164 rfl (by have hx : exB tp (isLt (tp.getD p 0)) (isDg (tp.getD p 0)) q = false := (by unfold exB; first | (rw [decide_eq_false (fun h => absurd c110 (nI_ge h (by omega)))]; rfl) | (rw [b1_z c114, b1_z c133, decide_eq_true hq]; rfl) | (rw [b1_z c114, b1_z c148, decide_eq_true hq]; simp) | (rw [b1_z c129, b1_z c133, decide_eq_true hq]; simp) | (rw [b1_z c129, b1_z c148, decide_eq_true hq]; simp)); rw [exB_f hx] at hs; rw [hs, hp]; exact kR_v ⟨(kfr.refl _ _).au (by decide), ⟨_, Cd0, rfl, rfl, rfl, hk0, ho0, hw0, h66_0, hC0, hl0, hcl0, fun j h1 h2 h3 h4 h5 => by unfold cu; rw [if_neg h2, if_neg h1]; exact hcc0 j h1 h2 h3 h4 h5⟩⟩)
                      · refine xj_aload_n dX7_next_151 rfl rfl ?_
                        refine xj_dup dX7_next_152 rfl ?_
                        refine xj_get dX7_next_153 K7 25 (by decide) q1954 (kG_a (by decide) rfl) rfl ?_
                        refine xj_ic1 dX7_next_156 ?_
                        refine xj_iadd dX7_next_157 ?_
                        rw [nI_1]
                        refine xj_put dX7_next_158 K7 25 (by decide) q1954 rfl rfl (kG_a (by decide) rfl) (Nat.le_of_ble_eq_true rfl) ?_
                        refine xj_eq rfl rfl (kG_set (by decide)) ?_
                        rw [fG_25]
                        have hx : exB tp (isLt (tp.getD p 0)) (isDg (tp.getD p 0)) q = true := by
                          unfold exB
                          rw [decide_eq_true hq]
                          first
                          | (rw [b1_nz c114, b1_nz c129]; rfl)
                          | (rw [b1_nz c133, b1_nz c148]; simp)
                        have hs : (if exB tp (isLt (tp.getD p 0)) (isDg (tp.getD p 0)) q then exF tp (isLt (tp.getD p 0)) (isDg (tp.getD p 0)) k (q + 1) else q) = nxT tp t := hs
                        rw [if_pos hx] at hs
                        refine xj_goto (tgt := 102) dX7_next_161 rfl ?_
                        exact ih_lq k (q + 1) (by omega) (by omega) hs
                  · refine xj_aload_n dX7_next_117 rfl rfl ?_
                    refine xj_get dX7_next_118 K7 20 (by decide) q1949 (kG_a (by decide) rfl) rfl ?_
                    refine xj_aload_n dX7_next_121 rfl rfl ?_
                    refine xj_get dX7_next_122 K7 25 (by decide) q1954 (kG_a (by decide) rfl) rfl ?_
                    refine xj_iald dX7_next_125 (kG_a (by decide) h65) rfl (by omega) (tp_at htL hq).1 ?_
                    refine xj_cS dX7_next_126 q2286 kS_X7_isLetter (M_isLetter (tp_at htL hq).2) rfl rfl (Nat.le_of_ble_eq_true rfl) ⟨(Nat.le_of_ble_eq_true rfl), (Nat.le_of_ble_eq_true rfl)⟩ (Nat.le_of_ble_eq_true rfl) (Nat.le_of_ble_eq_true rfl) ?_
                    refine xj_if_ne (tgt := 151) dX7_next_129 rfl (fun c129 => ?_) (fun c129 => ?_)
                    · refine xj_aload_n dX7_next_151 rfl rfl ?_
                      refine xj_dup dX7_next_152 rfl ?_
                      refine xj_get dX7_next_153 K7 25 (by decide) q1954 (kG_a (by decide) rfl) rfl ?_
                      refine xj_ic1 dX7_next_156 ?_
                      refine xj_iadd dX7_next_157 ?_
                      rw [nI_1]
                      refine xj_put dX7_next_158 K7 25 (by decide) q1954 rfl rfl (kG_a (by decide) rfl) (Nat.le_of_ble_eq_true rfl) ?_
                      refine xj_eq rfl rfl (kG_set (by decide)) ?_
                      rw [fG_25]
                      have hx : exB tp (isLt (tp.getD p 0)) (isDg (tp.getD p 0)) q = true := by
                        unfold exB
                        rw [decide_eq_true hq]
                        first
                        | (rw [b1_nz c114, b1_nz c129]; rfl)
                        | (rw [b1_nz c133, b1_nz c148]; simp)
                      have hs : (if exB tp (isLt (tp.getD p 0)) (isDg (tp.getD p 0)) q then exF tp (isLt (tp.getD p 0)) (isDg (tp.getD p 0)) k (q + 1) else q) = nxT tp t := hs
                      rw [if_pos hx] at hs
                      refine xj_goto (tgt := 102) dX7_next_161 rfl ?_
                      exact ih_lq k (q + 1) (by omega) (by omega) hs
                    · refine xj_iload_n dX7_next_132 rfl ?_
                      refine xj_if_eq (tgt := 164) dX7_next_133 rfl (fun c133 => ?_) (fun c133 => ?_)
                      · exact xj_return dX7_next_164 rfl (by have hx : exB tp (isLt (tp.getD p 0)) (isDg (tp.getD p 0)) q = false := (by unfold exB; first | (rw [decide_eq_false (fun h => absurd c110 (nI_ge h (by omega)))]; rfl) | (rw [b1_z c114, b1_z c133, decide_eq_true hq]; rfl) | (rw [b1_z c114, b1_z c148, decide_eq_true hq]; simp) | (rw [b1_z c129, b1_z c133, decide_eq_true hq]; simp) | (rw [b1_z c129, b1_z c148, decide_eq_true hq]; simp)); rw [exB_f hx] at hs; rw [hs, hp]; exact kR_v ⟨(kfr.refl _ _).au (by decide), ⟨_, Cd0, rfl, rfl, rfl, hk0, ho0, hw0, h66_0, hC0, hl0, hcl0, fun j h1 h2 h3 h4 h5 => by unfold cu; rw [if_neg h2, if_neg h1]; exact hcc0 j h1 h2 h3 h4 h5⟩⟩)
                      · refine xj_aload_n dX7_next_136 rfl rfl ?_
                        refine xj_get dX7_next_137 K7 20 (by decide) q1949 (kG_a (by decide) rfl) rfl ?_
                        refine xj_aload_n dX7_next_140 rfl rfl ?_
                        refine xj_get dX7_next_141 K7 25 (by decide) q1954 (kG_a (by decide) rfl) rfl ?_
                        refine xj_iald dX7_next_144 (kG_a (by decide) h65) rfl (by omega) (tp_at htL hq).1 ?_
                        refine xj_cS dX7_next_145 q2289 kS_X7_isDigit (M_isDigit (tp_at htL hq).2) rfl rfl (Nat.le_of_ble_eq_true rfl) ⟨(Nat.le_of_ble_eq_true rfl), (Nat.le_of_ble_eq_true rfl)⟩ (Nat.le_of_ble_eq_true rfl) (Nat.le_of_ble_eq_true rfl) ?_
                        refine xj_if_eq (tgt := 164) dX7_next_148 rfl (fun c148 => ?_) (fun c148 => ?_)
                        · exact xj_return dX7_next_164 rfl (by have hx : exB tp (isLt (tp.getD p 0)) (isDg (tp.getD p 0)) q = false := (by unfold exB; first | (rw [decide_eq_false (fun h => absurd c110 (nI_ge h (by omega)))]; rfl) | (rw [b1_z c114, b1_z c133, decide_eq_true hq]; rfl) | (rw [b1_z c114, b1_z c148, decide_eq_true hq]; simp) | (rw [b1_z c129, b1_z c133, decide_eq_true hq]; simp) | (rw [b1_z c129, b1_z c148, decide_eq_true hq]; simp)); rw [exB_f hx] at hs; rw [hs, hp]; exact kR_v ⟨(kfr.refl _ _).au (by decide), ⟨_, Cd0, rfl, rfl, rfl, hk0, ho0, hw0, h66_0, hC0, hl0, hcl0, fun j h1 h2 h3 h4 h5 => by unfold cu; rw [if_neg h2, if_neg h1]; exact hcc0 j h1 h2 h3 h4 h5⟩⟩)
                        · refine xj_aload_n dX7_next_151 rfl rfl ?_
                          refine xj_dup dX7_next_152 rfl ?_
                          refine xj_get dX7_next_153 K7 25 (by decide) q1954 (kG_a (by decide) rfl) rfl ?_
                          refine xj_ic1 dX7_next_156 ?_
                          refine xj_iadd dX7_next_157 ?_
                          rw [nI_1]
                          refine xj_put dX7_next_158 K7 25 (by decide) q1954 rfl rfl (kG_a (by decide) rfl) (Nat.le_of_ble_eq_true rfl) ?_
                          refine xj_eq rfl rfl (kG_set (by decide)) ?_
                          rw [fG_25]
                          have hx : exB tp (isLt (tp.getD p 0)) (isDg (tp.getD p 0)) q = true := by
                            unfold exB
                            rw [decide_eq_true hq]
                            first
                            | (rw [b1_nz c114, b1_nz c129]; rfl)
                            | (rw [b1_nz c133, b1_nz c148]; simp)
                          have hs : (if exB tp (isLt (tp.getD p 0)) (isDg (tp.getD p 0)) q then exF tp (isLt (tp.getD p 0)) (isDg (tp.getD p 0)) k (q + 1) else q) = nxT tp t := hs
                          rw [if_pos hx] at hs
                          refine xj_goto (tgt := 102) dX7_next_161 rfl ?_
                          exact ih_lq k (q + 1) (by omega) (by omega) hs
            exact lq (tp.length + 1) (tp.length - (p + 1)) (p + 1) (by omega) (by omega) (by rw [hp]; unfold nxT; rw [if_pos (by omega)])
          · exact xj_return dX7_next_65 rfl (by have e : p = tp.length := (nI_eq (by omega) (by omega)).mp c62; rw [← hp, show nxT tp t = p by unfold nxT; rw [← hp, if_neg (by omega)]]; exact kR_v ⟨(kfr.refl _ _).au (by decide), ⟨_, Cd0, rfl, rfl, rfl, hk0, ho0, hw0, h66_0, hC0, hl0, hcl0, fun j h1 h2 h3 h4 h5 => by unfold cu; rw [if_neg h2, if_neg h1]; exact hcc0 j h1 h2 h3 h4 h5⟩⟩)
        · rw [if_pos ⟨hq, (nI_eq (by omega) (by decide)).mp (show nI (tp.getD p 0) = nI 32 from c30)⟩] at hs
          refine xj_aload_n dX7_next_33 rfl rfl ?_
          refine xj_dup dX7_next_34 rfl ?_
          refine xj_get dX7_next_35 K7 24 (by decide) q1953 (kG_a (by decide) rfl) rfl ?_
          refine xj_ic1 dX7_next_38 ?_
          refine xj_iadd dX7_next_39 ?_
          rw [nI_1]
          refine xj_put dX7_next_40 K7 24 (by decide) q1953 rfl rfl (kG_a (by decide) rfl) (Nat.le_of_ble_eq_true rfl) ?_
          refine xj_eq rfl rfl (kG_set (by decide)) ?_
          rw [fG_24]
          refine xj_goto (tgt := 8) dX7_next_43 rfl ?_
          exact ih_lp k (p + 1) (by omega) (by omega) hs
  exact lp (tp.length + 1) (tp.length - t) t (by omega) (by omega) rfl
theorem M_is {tp : List Nat} {e o : Nat} {cl : List Int32} {w : Bool} {u : UInt32}  (hT : kT tp c a) (hu : u.toNat < 13) (he : e ≤ tp.length) (htx0 : tx tp c (nxF tp e) (nxT tp e) cl o w a) : xMet E yX7_is cX7_is 4 (some FieldType.boolean) 4 0 0 [.ref 54, .float u] (kG a T) (xrv (some (.int (b1 (isW tp e u.toNat)))) (kG a T)) := by
  obtain ⟨hf23, L65, h65, htL⟩ := id hT
  have hL200 := htL.1
  have htp := htL.2.1
  obtain ⟨c0, Cd0, hO0, hf0, ht0, hk0, ho0, hw0, h66_0, hC0, hl0, hcl0, hcc0⟩ := id htx0
  have hwl := f_wrd u.toNat hu
  have hwll := f_wl u.toNat hu
  have hnb := nxT_b he
  have hnf := nxF_b he
  refine xMet.of (lv := [some (.ref 54), some (.float u), none, none]) rfl rfl (Nat.le_of_ble_eq_true rfl) ?_
  refine xj_aload_n dX7_is_0 rfl rfl ?_
  refine xj_get dX7_is_1 K7 25 (by decide) q1954 (kG_a (by decide) hO0) (congrArg some ht0) ?_
  refine xj_aload_n dX7_is_4 rfl rfl ?_
  refine xj_get dX7_is_5 K7 24 (by decide) q1953 (kG_a (by decide) hO0) (congrArg some hf0) ?_
  refine xj_isub dX7_is_8 ?_
  refine xj_aload_n dX7_is_9 rfl rfl ?_
  refine xj_callX dX7_is_10 q2309 kV_J5_length (M_strLen hu) hu rfl rfl rfl (Nat.le_of_ble_eq_true rfl) ⟨(Nat.le_of_ble_eq_true rfl), (Nat.le_of_ble_eq_true rfl)⟩ (Nat.le_of_ble_eq_true rfl) (Nat.le_of_ble_eq_true rfl) ?_
  rw [hwl.1]
  refine xj_sI_icmp_ne (tgt := 20) (M := 21) dX7_is_13 rfl (fun c13 k => by
      refine xj_ic0 dX7_is_20 ?_
      exact k) (fun c13 k => by
      refine xj_ic1 dX7_is_16 ?_
      refine xj_goto (tgt := 21) dX7_is_17 rfl ?_
      exact k) ?_
  refine xj_top (y := b1 (decide (nxT tp e - nxF tp e = (wrd u.toNat).length))) (by rw [pk_sub hnb.1, c_eq (by omega) (by omega)]; congr 1) ?_
  refine xj_istn2 dX7_is_21 rfl ?_
  refine xj_ic0 dX7_is_22 ?_
  refine xj_istn3 dX7_is_23 rfl ?_
  have lp : ∀ (K : Nat) (k : Nat) (i : Nat) (t : Bool), k < K → (i + k = (wrd u.toNat).length) → (t = true → nxF tp e + (wrd u.toNat).length ≤ tp.length) → (isL tp (nxF tp e) (wrd u.toNat) k i t = isW tp e u.toNat) → xJ E (yX7_is, cX7_is, 4, (some FieldType.boolean), []) (xR 4 0 0) (xrv (some (.int (b1 (isW tp e u.toNat)))) (kG a T)) 0 0 24 [some (.ref 54), some (.float u), some (.int (b1 t)), some (.int (nI i))] [] (kG a T) := by
    intro K
    induction K with
    | zero => intro k i t h; exact absurd h (Nat.not_lt_zero _)
    | succ K ih_lp =>
      intro k i t hK hk hin hs
      refine xj_iload_n dX7_is_24 rfl ?_
      refine xj_aload_n dX7_is_25 rfl rfl ?_
      refine xj_callX dX7_is_26 q2309 kV_J5_length (M_strLen hu) hu rfl rfl rfl (Nat.le_of_ble_eq_true rfl) ⟨(Nat.le_of_ble_eq_true rfl), (Nat.le_of_ble_eq_true rfl)⟩ (Nat.le_of_ble_eq_true rfl) (Nat.le_of_ble_eq_true rfl) ?_
      rw [hwl.1]
      refine xj_icmp_ge (tgt := 67) dX7_is_29 rfl (fun c29 => ?_) (fun c29 => ?_)
      · refine xj_iload_n dX7_is_67 rfl ?_
        exact xj_ireturn dX7_is_68 rfl (b1_nar _) (xrv_i (by first | (have hk0 : k = 0 := (by have := Nat.le_of_not_lt fun h => absurd c29 (nI_ge h (by omega)); omega); subst hk0; rw [← hs]; rfl) | (have h := b1_z c33; rw [h] at hs; rw [← hs, h]; rfl)))
      · have hil : i < (wrd u.toNat).length := Nat.lt_of_not_le fun h => c29 (nI_le h (by omega))
        obtain ⟨k, rfl⟩ : ∃ k0, k = k0 + 1 := ⟨k - 1, by omega⟩
        have hs : (if t then isL tp (nxF tp e) (wrd u.toNat) k (i + 1) (tp.getD (nxF tp e + i) 0 == (wrd u.toNat).getD i 0) else t) = isW tp e u.toNat := hs
        refine xj_iload_n dX7_is_32 rfl ?_
        refine xj_if_eq (tgt := 67) dX7_is_33 rfl (fun c33 => ?_) (fun c33 => ?_)
        · refine xj_iload_n dX7_is_67 rfl ?_
          exact xj_ireturn dX7_is_68 rfl (b1_nar _) (xrv_i (by first | (have hk0 : k = 0 := (by have := Nat.le_of_not_lt fun h => absurd c29 (nI_ge h (by omega)); omega); subst hk0; rw [← hs]; rfl) | (have h := b1_z c33; rw [h] at hs; rw [← hs, h]; rfl)))
        · have htt := b1_nz c33
          have hi2 := hin htt
          rw [if_pos htt] at hs
          have hta := tp_at htL (p := nxF tp e + i) (by omega)
          have hwb := f_wb u.toNat hu i (by omega)
          refine xj_aload_n dX7_is_36 rfl rfl ?_
          refine xj_get dX7_is_37 K7 20 (by decide) q1949 (kG_a (by decide) hO0) rfl ?_
          refine xj_aload_n dX7_is_40 rfl rfl ?_
          refine xj_get dX7_is_41 K7 24 (by decide) q1953 (kG_a (by decide) hO0) (congrArg some hf0) ?_
          refine xj_iload_n dX7_is_44 rfl ?_
          refine xj_iadd dX7_is_45 ?_
          refine xj_iald dX7_is_46 (kG_a (by decide) h65) (nI_add _ _) (by omega) hta.1 ?_
          refine xj_aload_n dX7_is_47 rfl rfl ?_
          refine xj_iload_n dX7_is_48 rfl ?_
          refine xj_callX dX7_is_49 q2310 kV_J5_charAt (M_charAt hu (by rw [hwl.1]; exact hil)) hu rfl rfl rfl (Nat.le_of_ble_eq_true rfl) ⟨(Nat.le_of_ble_eq_true rfl), (Nat.le_of_ble_eq_true rfl)⟩ (Nat.le_of_ble_eq_true rfl) (Nat.le_of_ble_eq_true rfl) ?_
          rw [hwl.2 i (by omega)]
          refine xj_sI_icmp_ne (tgt := 59) (M := 60) dX7_is_52 rfl (fun c52 k => by
              refine xj_ic0 dX7_is_59 ?_
              exact k) (fun c52 k => by
              refine xj_ic1 dX7_is_55 ?_
              refine xj_goto (tgt := 60) dX7_is_56 rfl ?_
              exact k) ?_
          refine xj_top (c_eq (by omega) (by omega)) ?_
          refine xj_istn2 dX7_is_60 rfl ?_
          refine xj_iinc3 (cst := 1) dX7_is_61 rfl rfl ?_
          rw [nI_1]
          refine xj_goto (tgt := 24) dX7_is_64 rfl ?_
          exact ih_lp k (i + 1) _ (by omega) (by omega) (fun _ => hi2) hs
  exact lp 7 (wrd u.toNat).length 0 (decide (nxT tp e - nxF tp e = (wrd u.toNat).length)) (by omega) (by omega) (fun h => by have := of_decide_eq_true h; omega) (isW_ok he)
theorem M_emits {tp : List Nat} {f t o : Nat} {cl : List Int32} {w : Bool} {v : Int32}  (hT : kT tp c a) (htt : t ≤ tp.length) (hcl : cl.length < 200) (htx0 : tx tp c f t cl o w a) : xMet E yX7_emits cX7_emits 2 none 2 0 0 [.ref 54, .int v] (kG a T) (kR (none) T (fun b => kfr [54, 66] a b ∧ tx tp c (nxF tp t) (nxT tp t) (cl ++ [v]) o w b)) := by
  obtain ⟨hf23, L65, h65, htL⟩ := id hT
  have hL200 := htL.1
  have htp := htL.2.1
  obtain ⟨c0, Cd0, hO0, hf0, ht0, hk0, ho0, hw0, h66_0, hC0, hl0, hcl0, hcc0⟩ := id htx0
  refine xMet.of (lv := [some (.ref 54), some (.int v)]) rfl rfl (Nat.le_of_ble_eq_true rfl) ?_
  refine xj_aload_n dX7_emits_0 rfl rfl ?_
  refine xj_get dX7_emits_1 K7 21 (by decide) q1950 (kG_a (by decide) hO0) rfl ?_
  refine xj_aload_n dX7_emits_4 rfl rfl ?_
  refine xj_get dX7_emits_5 K7 26 (by decide) q1955 (kG_a (by decide) hO0) (congrArg some hk0) ?_
  refine xj_iload_n dX7_emits_8 rfl ?_
  refine xj_iast dX7_emits_9 (kG_a (by decide) h66_0) rfl (by omega) (by omega) ?_
  refine xj_eq rfl rfl (kG_set (by decide)) ?_
  refine xj_aload_n dX7_emits_10 rfl rfl ?_
  refine xj_dup dX7_emits_11 rfl ?_
  refine xj_get dX7_emits_12 K7 26 (by decide) q1955 (kG_a (by decide) hO0) (congrArg some hk0) ?_
  refine xj_ic1 dX7_emits_15 ?_
  refine xj_iadd dX7_emits_16 ?_
  rw [nI_1]
  refine xj_put dX7_emits_17 K7 26 (by decide) q1955 rfl rfl (kG_a (by decide) hO0) (Nat.le_of_ble_eq_true rfl) ?_
  refine xj_eq rfl rfl (kG_set (by decide)) ?_
  have htx1 : tx tp c f t (cl ++ [v]) o w (au (au a 66 (cI 0 (Cd0.set cl.length v))) 54 (cO 7 (mFs (cu c0 26 (.int (nI (cl.length + 1))))))) := ⟨(cu c0 26 (.int (nI (cl.length + 1)))), _, rfl, hf0, ht0, by rw [List.length_append]; rfl, ho0, hw0, rfl, by rw [List.length_set]; exact hC0, by rw [List.length_append, List.length_singleton]; omega, cd_push hcl0 (by omega), fun j h1 h2 h3 h4 h5 => by unfold cu; rw [if_neg h3]; exact hcc0 j h1 h2 h3 h4 h5⟩
  refine xj_aload_n dX7_emits_20 rfl rfl ?_
  refine xj_dV dX7_emits_21 q2282 kV_X7_next (M_next (hT.u rfl rfl) htt htx1) (kG_a (by decide) rfl) rfl rfl rfl rfl (Nat.le_of_ble_eq_true rfl) ⟨(Nat.le_of_ble_eq_true rfl), (Nat.le_of_ble_eq_true rfl)⟩ (Nat.le_of_ble_eq_true rfl) (Nat.le_of_ble_eq_true rfl) ?_
  rintro _ _ ⟨rfl, b, rfl, hfr, htx2⟩
  exact xj_return dX7_emits_24 rfl (kR_v ⟨(((kfr.refl _ _).au (by decide)).au (by decide)).trans hfr (by decide), htx2⟩)
theorem M_factHere {tp : List Nat} {e o : Nat} {cl : List Int32} {w : Bool}  (hT : kT tp c a) (he : e ≤ tp.length) (htx0 : tx tp c (nxF tp e) (nxT tp e) cl o w a) : xMet E yX7_factHere cX7_factHere 1 (some FieldType.int) 5 0 0 [.ref 54] (kG a T) (xrv (some (.int (fct tp e))) (kG a T)) := by
  obtain ⟨c0, Cd0, hO0, hf0, ht0, hk0, ho0, hw0, h66_0, hC0, hl0, hcl0, hcc0⟩ := id htx0
  refine xMet.of (lv := [some (.ref 54)]) rfl rfl (Nat.le_of_ble_eq_true rfl) ?_
  refine xj_aload_n dX7_factHere_0 rfl rfl ?_
  refine xj_ldcSw (u := 0) dX7_factHere_1 (List.mem_of_getElem? (i := 13) rfl) ?_
  refine xj_cV dX7_factHere_4 q2305 kV_X7_is (M_is (u := 0) hT (by decide) he htx0) (kG_a (by decide) hO0) rfl rfl rfl rfl (Nat.le_of_ble_eq_true rfl) ⟨(Nat.le_of_ble_eq_true rfl), (Nat.le_of_ble_eq_true rfl)⟩ (Nat.le_of_ble_eq_true rfl) (Nat.le_of_ble_eq_true rfl) ?_
  refine xj_if_eq (tgt := 14) dX7_factHere_7 rfl (fun c7 => ?_) (fun c7 => ?_)
  · refine xj_aload_n dX7_factHere_14 rfl rfl ?_
    refine xj_ldcSw (u := 1) dX7_factHere_15 (List.mem_of_getElem? (i := 14) rfl) ?_
    refine xj_cV dX7_factHere_18 q2305 kV_X7_is (M_is (u := 1) hT (by decide) he htx0) (kG_a (by decide) hO0) rfl rfl rfl rfl (Nat.le_of_ble_eq_true rfl) ⟨(Nat.le_of_ble_eq_true rfl), (Nat.le_of_ble_eq_true rfl)⟩ (Nat.le_of_ble_eq_true rfl) (Nat.le_of_ble_eq_true rfl) ?_
    refine xj_if_eq (tgt := 29) dX7_factHere_21 rfl (fun c21 => ?_) (fun c21 => ?_)
    · refine xj_aload_n dX7_factHere_29 rfl rfl ?_
      refine xj_ldcSw (u := 2) dX7_factHere_30 (List.mem_of_getElem? (i := 15) rfl) ?_
      refine xj_cV dX7_factHere_33 q2305 kV_X7_is (M_is (u := 2) hT (by decide) he htx0) (kG_a (by decide) hO0) rfl rfl rfl rfl (Nat.le_of_ble_eq_true rfl) ⟨(Nat.le_of_ble_eq_true rfl), (Nat.le_of_ble_eq_true rfl)⟩ (Nat.le_of_ble_eq_true rfl) (Nat.le_of_ble_eq_true rfl) ?_
      refine xj_if_eq (tgt := 44) dX7_factHere_36 rfl (fun c36 => ?_) (fun c36 => ?_)
      · refine xj_aload_n dX7_factHere_44 rfl rfl ?_
        refine xj_ldcSw (u := 3) dX7_factHere_45 (List.mem_of_getElem? (i := 16) rfl) ?_
        refine xj_cV dX7_factHere_48 q2305 kV_X7_is (M_is (u := 3) hT (by decide) he htx0) (kG_a (by decide) hO0) rfl rfl rfl rfl (Nat.le_of_ble_eq_true rfl) ⟨(Nat.le_of_ble_eq_true rfl), (Nat.le_of_ble_eq_true rfl)⟩ (Nat.le_of_ble_eq_true rfl) (Nat.le_of_ble_eq_true rfl) ?_
        refine xj_if_eq (tgt := 59) dX7_factHere_51 rfl (fun c51 => ?_) (fun c51 => ?_)
        · refine xj_aload_n dX7_factHere_59 rfl rfl ?_
          refine xj_ldcSw (u := 4) dX7_factHere_60 (List.mem_of_getElem? (i := 17) rfl) ?_
          refine xj_cV dX7_factHere_63 q2305 kV_X7_is (M_is (u := 4) hT (by decide) he htx0) (kG_a (by decide) hO0) rfl rfl rfl rfl (Nat.le_of_ble_eq_true rfl) ⟨(Nat.le_of_ble_eq_true rfl), (Nat.le_of_ble_eq_true rfl)⟩ (Nat.le_of_ble_eq_true rfl) (Nat.le_of_ble_eq_true rfl) ?_
          refine xj_if_eq (tgt := 74) dX7_factHere_66 rfl (fun c66 => ?_) (fun c66 => ?_)
          · refine xj_ic0 dX7_factHere_74 ?_
            exact xj_ireturn dX7_factHere_75 rfl rfl (xrv_i (by unfold fct; first | (rw [if_pos (show isW tp e 0 = true from b1_nz c7)]; done) | (rw [if_neg (show ¬ isW tp e 0 = true by rw [show isW tp e 0 = false from b1_z c7]; decide), if_pos (show isW tp e 1 = true from b1_nz c21)]; done) | (rw [if_neg (show ¬ isW tp e 0 = true by rw [show isW tp e 0 = false from b1_z c7]; decide), if_neg (show ¬ isW tp e 1 = true by rw [show isW tp e 1 = false from b1_z c21]; decide), if_pos (show isW tp e 2 = true from b1_nz c36)]; done) | (rw [if_neg (show ¬ isW tp e 0 = true by rw [show isW tp e 0 = false from b1_z c7]; decide), if_neg (show ¬ isW tp e 1 = true by rw [show isW tp e 1 = false from b1_z c21]; decide), if_neg (show ¬ isW tp e 2 = true by rw [show isW tp e 2 = false from b1_z c36]; decide), if_pos (show isW tp e 3 = true from b1_nz c51)]; done) | (rw [if_neg (show ¬ isW tp e 0 = true by rw [show isW tp e 0 = false from b1_z c7]; decide), if_neg (show ¬ isW tp e 1 = true by rw [show isW tp e 1 = false from b1_z c21]; decide), if_neg (show ¬ isW tp e 2 = true by rw [show isW tp e 2 = false from b1_z c36]; decide), if_neg (show ¬ isW tp e 3 = true by rw [show isW tp e 3 = false from b1_z c51]; decide), if_pos (show isW tp e 4 = true from b1_nz c66)]; done) | (rw [if_neg (show ¬ isW tp e 0 = true by rw [show isW tp e 0 = false from b1_z c7]; decide), if_neg (show ¬ isW tp e 1 = true by rw [show isW tp e 1 = false from b1_z c21]; decide), if_neg (show ¬ isW tp e 2 = true by rw [show isW tp e 2 = false from b1_z c36]; decide), if_neg (show ¬ isW tp e 3 = true by rw [show isW tp e 3 = false from b1_z c51]; decide), if_neg (show ¬ isW tp e 4 = true by rw [show isW tp e 4 = false from b1_z c66]; decide)]; done)))
          · refine xj_bipush (v := -5) dX7_factHere_69 rfl ?_
            refine xj_goto (tgt := 75) dX7_factHere_71 rfl ?_
            exact xj_ireturn dX7_factHere_75 rfl rfl (xrv_i (by unfold fct; first | (rw [if_pos (show isW tp e 0 = true from b1_nz c7)]; done) | (rw [if_neg (show ¬ isW tp e 0 = true by rw [show isW tp e 0 = false from b1_z c7]; decide), if_pos (show isW tp e 1 = true from b1_nz c21)]; done) | (rw [if_neg (show ¬ isW tp e 0 = true by rw [show isW tp e 0 = false from b1_z c7]; decide), if_neg (show ¬ isW tp e 1 = true by rw [show isW tp e 1 = false from b1_z c21]; decide), if_pos (show isW tp e 2 = true from b1_nz c36)]; done) | (rw [if_neg (show ¬ isW tp e 0 = true by rw [show isW tp e 0 = false from b1_z c7]; decide), if_neg (show ¬ isW tp e 1 = true by rw [show isW tp e 1 = false from b1_z c21]; decide), if_neg (show ¬ isW tp e 2 = true by rw [show isW tp e 2 = false from b1_z c36]; decide), if_pos (show isW tp e 3 = true from b1_nz c51)]; done) | (rw [if_neg (show ¬ isW tp e 0 = true by rw [show isW tp e 0 = false from b1_z c7]; decide), if_neg (show ¬ isW tp e 1 = true by rw [show isW tp e 1 = false from b1_z c21]; decide), if_neg (show ¬ isW tp e 2 = true by rw [show isW tp e 2 = false from b1_z c36]; decide), if_neg (show ¬ isW tp e 3 = true by rw [show isW tp e 3 = false from b1_z c51]; decide), if_pos (show isW tp e 4 = true from b1_nz c66)]; done) | (rw [if_neg (show ¬ isW tp e 0 = true by rw [show isW tp e 0 = false from b1_z c7]; decide), if_neg (show ¬ isW tp e 1 = true by rw [show isW tp e 1 = false from b1_z c21]; decide), if_neg (show ¬ isW tp e 2 = true by rw [show isW tp e 2 = false from b1_z c36]; decide), if_neg (show ¬ isW tp e 3 = true by rw [show isW tp e 3 = false from b1_z c51]; decide), if_neg (show ¬ isW tp e 4 = true by rw [show isW tp e 4 = false from b1_z c66]; decide)]; done)))
        · refine xj_bipush (v := -4) dX7_factHere_54 rfl ?_
          refine xj_goto (tgt := 75) dX7_factHere_56 rfl ?_
          exact xj_ireturn dX7_factHere_75 rfl rfl (xrv_i (by unfold fct; first | (rw [if_pos (show isW tp e 0 = true from b1_nz c7)]; done) | (rw [if_neg (show ¬ isW tp e 0 = true by rw [show isW tp e 0 = false from b1_z c7]; decide), if_pos (show isW tp e 1 = true from b1_nz c21)]; done) | (rw [if_neg (show ¬ isW tp e 0 = true by rw [show isW tp e 0 = false from b1_z c7]; decide), if_neg (show ¬ isW tp e 1 = true by rw [show isW tp e 1 = false from b1_z c21]; decide), if_pos (show isW tp e 2 = true from b1_nz c36)]; done) | (rw [if_neg (show ¬ isW tp e 0 = true by rw [show isW tp e 0 = false from b1_z c7]; decide), if_neg (show ¬ isW tp e 1 = true by rw [show isW tp e 1 = false from b1_z c21]; decide), if_neg (show ¬ isW tp e 2 = true by rw [show isW tp e 2 = false from b1_z c36]; decide), if_pos (show isW tp e 3 = true from b1_nz c51)]; done) | (rw [if_neg (show ¬ isW tp e 0 = true by rw [show isW tp e 0 = false from b1_z c7]; decide), if_neg (show ¬ isW tp e 1 = true by rw [show isW tp e 1 = false from b1_z c21]; decide), if_neg (show ¬ isW tp e 2 = true by rw [show isW tp e 2 = false from b1_z c36]; decide), if_neg (show ¬ isW tp e 3 = true by rw [show isW tp e 3 = false from b1_z c51]; decide), if_pos (show isW tp e 4 = true from b1_nz c66)]; done) | (rw [if_neg (show ¬ isW tp e 0 = true by rw [show isW tp e 0 = false from b1_z c7]; decide), if_neg (show ¬ isW tp e 1 = true by rw [show isW tp e 1 = false from b1_z c21]; decide), if_neg (show ¬ isW tp e 2 = true by rw [show isW tp e 2 = false from b1_z c36]; decide), if_neg (show ¬ isW tp e 3 = true by rw [show isW tp e 3 = false from b1_z c51]; decide), if_neg (show ¬ isW tp e 4 = true by rw [show isW tp e 4 = false from b1_z c66]; decide)]; done)))
      · refine xj_bipush (v := -3) dX7_factHere_39 rfl ?_
        refine xj_goto (tgt := 75) dX7_factHere_41 rfl ?_
        exact xj_ireturn dX7_factHere_75 rfl rfl (xrv_i (by unfold fct; first | (rw [if_pos (show isW tp e 0 = true from b1_nz c7)]; done) | (rw [if_neg (show ¬ isW tp e 0 = true by rw [show isW tp e 0 = false from b1_z c7]; decide), if_pos (show isW tp e 1 = true from b1_nz c21)]; done) | (rw [if_neg (show ¬ isW tp e 0 = true by rw [show isW tp e 0 = false from b1_z c7]; decide), if_neg (show ¬ isW tp e 1 = true by rw [show isW tp e 1 = false from b1_z c21]; decide), if_pos (show isW tp e 2 = true from b1_nz c36)]; done) | (rw [if_neg (show ¬ isW tp e 0 = true by rw [show isW tp e 0 = false from b1_z c7]; decide), if_neg (show ¬ isW tp e 1 = true by rw [show isW tp e 1 = false from b1_z c21]; decide), if_neg (show ¬ isW tp e 2 = true by rw [show isW tp e 2 = false from b1_z c36]; decide), if_pos (show isW tp e 3 = true from b1_nz c51)]; done) | (rw [if_neg (show ¬ isW tp e 0 = true by rw [show isW tp e 0 = false from b1_z c7]; decide), if_neg (show ¬ isW tp e 1 = true by rw [show isW tp e 1 = false from b1_z c21]; decide), if_neg (show ¬ isW tp e 2 = true by rw [show isW tp e 2 = false from b1_z c36]; decide), if_neg (show ¬ isW tp e 3 = true by rw [show isW tp e 3 = false from b1_z c51]; decide), if_pos (show isW tp e 4 = true from b1_nz c66)]; done) | (rw [if_neg (show ¬ isW tp e 0 = true by rw [show isW tp e 0 = false from b1_z c7]; decide), if_neg (show ¬ isW tp e 1 = true by rw [show isW tp e 1 = false from b1_z c21]; decide), if_neg (show ¬ isW tp e 2 = true by rw [show isW tp e 2 = false from b1_z c36]; decide), if_neg (show ¬ isW tp e 3 = true by rw [show isW tp e 3 = false from b1_z c51]; decide), if_neg (show ¬ isW tp e 4 = true by rw [show isW tp e 4 = false from b1_z c66]; decide)]; done)))
    · refine xj_bipush (v := -2) dX7_factHere_24 rfl ?_
      refine xj_goto (tgt := 75) dX7_factHere_26 rfl ?_
      exact xj_ireturn dX7_factHere_75 rfl rfl (xrv_i (by unfold fct; first | (rw [if_pos (show isW tp e 0 = true from b1_nz c7)]; done) | (rw [if_neg (show ¬ isW tp e 0 = true by rw [show isW tp e 0 = false from b1_z c7]; decide), if_pos (show isW tp e 1 = true from b1_nz c21)]; done) | (rw [if_neg (show ¬ isW tp e 0 = true by rw [show isW tp e 0 = false from b1_z c7]; decide), if_neg (show ¬ isW tp e 1 = true by rw [show isW tp e 1 = false from b1_z c21]; decide), if_pos (show isW tp e 2 = true from b1_nz c36)]; done) | (rw [if_neg (show ¬ isW tp e 0 = true by rw [show isW tp e 0 = false from b1_z c7]; decide), if_neg (show ¬ isW tp e 1 = true by rw [show isW tp e 1 = false from b1_z c21]; decide), if_neg (show ¬ isW tp e 2 = true by rw [show isW tp e 2 = false from b1_z c36]; decide), if_pos (show isW tp e 3 = true from b1_nz c51)]; done) | (rw [if_neg (show ¬ isW tp e 0 = true by rw [show isW tp e 0 = false from b1_z c7]; decide), if_neg (show ¬ isW tp e 1 = true by rw [show isW tp e 1 = false from b1_z c21]; decide), if_neg (show ¬ isW tp e 2 = true by rw [show isW tp e 2 = false from b1_z c36]; decide), if_neg (show ¬ isW tp e 3 = true by rw [show isW tp e 3 = false from b1_z c51]; decide), if_pos (show isW tp e 4 = true from b1_nz c66)]; done) | (rw [if_neg (show ¬ isW tp e 0 = true by rw [show isW tp e 0 = false from b1_z c7]; decide), if_neg (show ¬ isW tp e 1 = true by rw [show isW tp e 1 = false from b1_z c21]; decide), if_neg (show ¬ isW tp e 2 = true by rw [show isW tp e 2 = false from b1_z c36]; decide), if_neg (show ¬ isW tp e 3 = true by rw [show isW tp e 3 = false from b1_z c51]; decide), if_neg (show ¬ isW tp e 4 = true by rw [show isW tp e 4 = false from b1_z c66]; decide)]; done)))
  · refine xj_icm1 dX7_factHere_10 ?_
    refine xj_goto (tgt := 75) dX7_factHere_11 rfl ?_
    exact xj_ireturn dX7_factHere_75 rfl rfl (xrv_i (by unfold fct; first | (rw [if_pos (show isW tp e 0 = true from b1_nz c7)]; done) | (rw [if_neg (show ¬ isW tp e 0 = true by rw [show isW tp e 0 = false from b1_z c7]; decide), if_pos (show isW tp e 1 = true from b1_nz c21)]; done) | (rw [if_neg (show ¬ isW tp e 0 = true by rw [show isW tp e 0 = false from b1_z c7]; decide), if_neg (show ¬ isW tp e 1 = true by rw [show isW tp e 1 = false from b1_z c21]; decide), if_pos (show isW tp e 2 = true from b1_nz c36)]; done) | (rw [if_neg (show ¬ isW tp e 0 = true by rw [show isW tp e 0 = false from b1_z c7]; decide), if_neg (show ¬ isW tp e 1 = true by rw [show isW tp e 1 = false from b1_z c21]; decide), if_neg (show ¬ isW tp e 2 = true by rw [show isW tp e 2 = false from b1_z c36]; decide), if_pos (show isW tp e 3 = true from b1_nz c51)]; done) | (rw [if_neg (show ¬ isW tp e 0 = true by rw [show isW tp e 0 = false from b1_z c7]; decide), if_neg (show ¬ isW tp e 1 = true by rw [show isW tp e 1 = false from b1_z c21]; decide), if_neg (show ¬ isW tp e 2 = true by rw [show isW tp e 2 = false from b1_z c36]; decide), if_neg (show ¬ isW tp e 3 = true by rw [show isW tp e 3 = false from b1_z c51]; decide), if_pos (show isW tp e 4 = true from b1_nz c66)]; done) | (rw [if_neg (show ¬ isW tp e 0 = true by rw [show isW tp e 0 = false from b1_z c7]; decide), if_neg (show ¬ isW tp e 1 = true by rw [show isW tp e 1 = false from b1_z c21]; decide), if_neg (show ¬ isW tp e 2 = true by rw [show isW tp e 2 = false from b1_z c36]; decide), if_neg (show ¬ isW tp e 3 = true by rw [show isW tp e 3 = false from b1_z c51]; decide), if_neg (show ¬ isW tp e 4 = true by rw [show isW tp e 4 = false from b1_z c66]; decide)]; done)))
theorem M_value {tp : List Nat} {e o : Nat} {cl : List Int32}  (hT : kT tp c a) (he : e ≤ tp.length) (hcl : cl.length ≤ e) (htx0 : tx tp c (nxF tp e) (nxT tp e) cl o false a) : xMet E yX7_value cX7_value 3 none 6 0 0 [.ref 54] (kG a T) (kR (none) T (fun b => kfr [54, 66] a b ∧ (match pVal tp e with | .inr q => tx tp c (nxF tp q.2) (nxT tp q.2) (cl ++ [q.1]) o false b | .inl p => txW tp c p cl.length b))) := by
  obtain ⟨hf23, L65, h65, htL⟩ := id hT
  have hL200 := htL.1
  have htp := htL.2.1
  obtain ⟨c0, Cd0, hO0, hf0, ht0, hk0, ho0, hw0, h66_0, hC0, hl0, hcl0, hcc0⟩ := id htx0
  have hnb := nxT_b he
  have hnf := nxF_b he
  refine xMet.of (lv := [some (.ref 54), none, none]) rfl rfl (Nat.le_of_ble_eq_true rfl) ?_
  refine xj_aload_n dX7_value_0 rfl rfl ?_
  refine xj_cV dX7_value_1 q2321 kV_X7_factHere (M_factHere hT he htx0) (kG_a (by decide) hO0) rfl rfl rfl rfl (Nat.le_of_ble_eq_true rfl) ⟨(Nat.le_of_ble_eq_true rfl), (Nat.le_of_ble_eq_true rfl)⟩ (Nat.le_of_ble_eq_true rfl) (Nat.le_of_ble_eq_true rfl) ?_
  refine xj_if_ge (tgt := 16) dX7_value_4 rfl (fun c4 => ?_) (fun c4 => ?_)
  · refine xj_aload_n dX7_value_16 rfl rfl ?_
    refine xj_get dX7_value_17 K7 24 (by decide) q1953 (kG_a (by decide) hO0) (congrArg some hf0) ?_
    refine xj_aload_n dX7_value_20 rfl rfl ?_
    refine xj_get dX7_value_21 K7 23 (by decide) q1952 (kG_a (by decide) hO0) (congrArg some (hcc0 23 (by decide) (by decide) (by decide) (by decide) (by decide) |>.trans hf23)) ?_
    refine xj_icmp_eq (tgt := 55) dX7_value_24 rfl (fun c24 => ?_) (fun c24 => ?_)
    · have hnn : numB tp e = false := by
        unfold numB
        first
        | (rw [decide_eq_false (show ¬ nxF tp e < tp.length by have := (nI_eq (by omega) (by omega)).mp c24; omega)]; rfl)
        | (rw [show isDg (tp.getD (nxF tp e) 0) = false from b1_z c39]; simp)
        | (rw [decide_eq_false (show ¬ nxT tp e - nxF tp e ≤ 4 from fun h => c52 (by rw [pk_sub hnb.1]; exact nI_le (b := 4) h (by decide)))]; simp)
      refine xj_aload_n dX7_value_55 rfl rfl ?_
      refine xj_ic1 dX7_value_56 ?_
      refine xj_put dX7_value_57 K7 28 (by decide) q1957 rfl rfl (kG_a (by decide) hO0) (Nat.le_of_ble_eq_true rfl) ?_
      refine xj_eq rfl rfl (kG_set (by decide)) ?_
      exact xj_return dX7_value_60 rfl (kR_v ⟨(kfr.refl _ _).au (by decide), by rw [show pVal tp e = .inl (nxF tp e) by unfold pVal; rw [if_neg (i32_nlt0 c4), if_neg (by rw [hnn]; decide)]]; exact ⟨nxT tp e, cl, o, ⟨cu c0 28 (.int 1), Cd0, rfl, hf0, ht0, hk0, ho0, rfl, h66_0, hC0, hl0, hcl0, fun j h1 h2 h3 h4 h5 => by unfold cu; rw [if_neg h5]; exact hcc0 j h1 h2 h3 h4 h5⟩, Nat.le_refl _⟩⟩)
    · have hlt : nxF tp e < tp.length := by
        have : nxF tp e ≠ tp.length := fun h => c24 (by rw [h])
        omega
      refine xj_aload_n dX7_value_27 rfl rfl ?_
      refine xj_get dX7_value_28 K7 20 (by decide) q1949 (kG_a (by decide) hO0) rfl ?_
      refine xj_aload_n dX7_value_31 rfl rfl ?_
      refine xj_get dX7_value_32 K7 24 (by decide) q1953 (kG_a (by decide) hO0) (congrArg some hf0) ?_
      refine xj_iald dX7_value_35 (kG_a (by decide) h65) rfl (by omega) (tp_at htL hlt).1 ?_
      refine xj_cS dX7_value_36 q2289 kS_X7_isDigit (M_isDigit (tp_at htL hlt).2) rfl rfl (Nat.le_of_ble_eq_true rfl) ⟨(Nat.le_of_ble_eq_true rfl), (Nat.le_of_ble_eq_true rfl)⟩ (Nat.le_of_ble_eq_true rfl) (Nat.le_of_ble_eq_true rfl) ?_
      refine xj_if_eq (tgt := 55) dX7_value_39 rfl (fun c39 => ?_) (fun c39 => ?_)
      · have hnn : numB tp e = false := by
          unfold numB
          first
          | (rw [decide_eq_false (show ¬ nxF tp e < tp.length by have := (nI_eq (by omega) (by omega)).mp c24; omega)]; rfl)
          | (rw [show isDg (tp.getD (nxF tp e) 0) = false from b1_z c39]; simp)
          | (rw [decide_eq_false (show ¬ nxT tp e - nxF tp e ≤ 4 from fun h => c52 (by rw [pk_sub hnb.1]; exact nI_le (b := 4) h (by decide)))]; simp)
        refine xj_aload_n dX7_value_55 rfl rfl ?_
        refine xj_ic1 dX7_value_56 ?_
        refine xj_put dX7_value_57 K7 28 (by decide) q1957 rfl rfl (kG_a (by decide) hO0) (Nat.le_of_ble_eq_true rfl) ?_
        refine xj_eq rfl rfl (kG_set (by decide)) ?_
        exact xj_return dX7_value_60 rfl (kR_v ⟨(kfr.refl _ _).au (by decide), by rw [show pVal tp e = .inl (nxF tp e) by unfold pVal; rw [if_neg (i32_nlt0 c4), if_neg (by rw [hnn]; decide)]]; exact ⟨nxT tp e, cl, o, ⟨cu c0 28 (.int 1), Cd0, rfl, hf0, ht0, hk0, ho0, rfl, h66_0, hC0, hl0, hcl0, fun j h1 h2 h3 h4 h5 => by unfold cu; rw [if_neg h5]; exact hcc0 j h1 h2 h3 h4 h5⟩, Nat.le_refl _⟩⟩)
      · refine xj_aload_n dX7_value_42 rfl rfl ?_
        refine xj_get dX7_value_43 K7 25 (by decide) q1954 (kG_a (by decide) hO0) (congrArg some ht0) ?_
        refine xj_aload_n dX7_value_46 rfl rfl ?_
        refine xj_get dX7_value_47 K7 24 (by decide) q1953 (kG_a (by decide) hO0) (congrArg some hf0) ?_
        refine xj_isub dX7_value_50 ?_
        refine xj_ic4 dX7_value_51 ?_
        refine xj_icmp_le (tgt := 61) dX7_value_52 rfl (fun c52 => ?_) (fun c52 => ?_)
        · have hlen : nxT tp e - nxF tp e ≤ 4 := Nat.le_of_not_lt fun h => absurd c52 (by rw [pk_sub hnb.1]; exact nI_ge (a := 4) h (by omega))
          have hnum : numB tp e = true := by unfold numB; rw [decide_eq_true hlt, b1_nz c39, decide_eq_true hlen]; rfl
          refine xj_ic0 dX7_value_61 ?_
          refine xj_istn1 dX7_value_62 rfl ?_
          refine xj_aload_n dX7_value_63 rfl rfl ?_
          refine xj_get dX7_value_64 K7 24 (by decide) q1953 (kG_a (by decide) hO0) (congrArg some hf0) ?_
          refine xj_istn2 dX7_value_67 rfl ?_
          have lp : ∀ (K : Nat) (k : Nat) (p : Nat) (v : Nat), k < K → (p + k = nxT tp e) → (nxF tp e ≤ p) → (v < 10 ^ (p - nxF tp e)) → (dgF tp k p v = pNum tp e) → xJ E (yX7_value, cX7_value, 3, none, []) (xR 6 0 0) (kR (none) T (fun b => kfr [54, 66] a b ∧ (match pVal tp e with | .inr q => tx tp c (nxF tp q.2) (nxT tp q.2) (cl ++ [q.1]) o false b | .inl p => txW tp c p cl.length b))) 0 0 68 [some (.ref 54), some (.int (nI v)), some (.int (nI p))] [] (kG a T) := by
            intro K
            induction K with
            | zero => intro k p v h; exact absurd h (Nat.not_lt_zero _)
            | succ K ih_lp =>
              intro k p v hK hk hpe hv hs
              refine xj_iload_n dX7_value_68 rfl ?_
              refine xj_aload_n dX7_value_69 rfl rfl ?_
              refine xj_get dX7_value_70 K7 25 (by decide) q1954 (kG_a (by decide) hO0) (congrArg some ht0) ?_
              refine xj_icmp_ge (tgt := 97) dX7_value_73 rfl (fun c73 => ?_) (fun c73 => ?_)
              · have hk0 : k = 0 := by have := Nat.le_of_not_lt fun h => absurd c73 (nI_ge h (by omega)); omega
                subst hk0
                have hs : v = pNum tp e := hs
                subst hs
                refine xj_aload_n dX7_value_97 rfl rfl ?_
                refine xj_iload_n dX7_value_98 rfl ?_
                refine xj_dV dX7_value_99 q2330 kV_X7_emits (M_emits hT hnb.2 (by omega) htx0) (kG_a (by decide) hO0) rfl rfl rfl rfl (Nat.le_of_ble_eq_true rfl) ⟨(Nat.le_of_ble_eq_true rfl), (Nat.le_of_ble_eq_true rfl)⟩ (Nat.le_of_ble_eq_true rfl) (Nat.le_of_ble_eq_true rfl) ?_
                rintro _ _ ⟨rfl, b, rfl, hfr, htx1⟩
                exact xj_return dX7_value_102 rfl (kR_v ⟨hfr, by rw [show pVal tp e = .inr (nI (pNum tp e), nxT tp e) by unfold pVal; rw [if_neg (i32_nlt0 c4), if_pos hnum]]; exact htx1⟩)
              · obtain ⟨k, rfl⟩ : ∃ k0, k = k0 + 1 := ⟨k - 1, by have : k ≠ 0 := fun h => c73 (nI_le (by omega) (by omega)); omega⟩
                have hta := tp_at htL (p := p) (by omega)
                have hdg := dgs_dig he hnum (p := p) hpe (by omega)
                have h104 : 10 ^ (p - nxF tp e + 1) ≤ 10 ^ 4 := Nat.pow_le_pow_right (by decide) (by omega)
                have h10 : 10 ^ (p - nxF tp e + 1) = 10 * 10 ^ (p - nxF tp e) := by rw [Nat.pow_succ, Nat.mul_comm]
                refine xj_bipush (v := 10) dX7_value_76 rfl ?_
                refine xj_iload_n dX7_value_78 rfl ?_
                refine xj_imul dX7_value_79 ?_
                refine xj_aload_n dX7_value_80 rfl rfl ?_
                refine xj_get dX7_value_81 K7 20 (by decide) q1949 (kG_a (by decide) hO0) rfl ?_
                refine xj_iload_n dX7_value_84 rfl ?_
                refine xj_iald dX7_value_85 (kG_a (by decide) h65) rfl (by omega) hta.1 ?_
                refine xj_iadd dX7_value_86 ?_
                refine xj_bipush (v := 48) dX7_value_87 rfl ?_
                refine xj_isub dX7_value_89 ?_
                refine xj_top (show (10 : Int32) * nI v + nI (tp.getD p 0) - 48 = nI (10 * v + (tp.getD p 0 - 48)) by rw [show (10 : Int32) * nI v = nI (10 * v) from (Int32.ofNat_mul 10 v).symm, nI_add, show (48 : Int32) = nI 48 from rfl, pk_sub (by omega)]; congr 1; omega) ?_
                refine xj_istn1 dX7_value_90 rfl ?_
                refine xj_iinc2 (cst := 1) dX7_value_91 rfl rfl ?_
                rw [nI_1]
                refine xj_goto (tgt := 68) dX7_value_94 rfl ?_
                exact ih_lp k (p + 1) _ (by omega) (by omega) (by omega) (by rw [show p + 1 - nxF tp e = p - nxF tp e + 1 by omega]; omega) hs
          exact lp (tp.length + 1) (nxT tp e - nxF tp e) (nxF tp e) 0 (by omega) (by omega) (Nat.le_refl _) (by rw [Nat.sub_self]; decide) rfl
        · have hnn : numB tp e = false := by
            unfold numB
            first
            | (rw [decide_eq_false (show ¬ nxF tp e < tp.length by have := (nI_eq (by omega) (by omega)).mp c24; omega)]; rfl)
            | (rw [show isDg (tp.getD (nxF tp e) 0) = false from b1_z c39]; simp)
            | (rw [decide_eq_false (show ¬ nxT tp e - nxF tp e ≤ 4 from fun h => c52 (by rw [pk_sub hnb.1]; exact nI_le (b := 4) h (by decide)))]; simp)
          refine xj_aload_n dX7_value_55 rfl rfl ?_
          refine xj_ic1 dX7_value_56 ?_
          refine xj_put dX7_value_57 K7 28 (by decide) q1957 rfl rfl (kG_a (by decide) hO0) (Nat.le_of_ble_eq_true rfl) ?_
          refine xj_eq rfl rfl (kG_set (by decide)) ?_
          exact xj_return dX7_value_60 rfl (kR_v ⟨(kfr.refl _ _).au (by decide), by rw [show pVal tp e = .inl (nxF tp e) by unfold pVal; rw [if_neg (i32_nlt0 c4), if_neg (by rw [hnn]; decide)]]; exact ⟨nxT tp e, cl, o, ⟨cu c0 28 (.int 1), Cd0, rfl, hf0, ht0, hk0, ho0, rfl, h66_0, hC0, hl0, hcl0, fun j h1 h2 h3 h4 h5 => by unfold cu; rw [if_neg h5]; exact hcc0 j h1 h2 h3 h4 h5⟩, Nat.le_refl _⟩⟩)
  · refine xj_aload_n dX7_value_7 rfl rfl ?_
    refine xj_aload_n dX7_value_8 rfl rfl ?_
    refine xj_cV dX7_value_9 q2321 kV_X7_factHere (M_factHere hT he htx0) (kG_a (by decide) hO0) rfl rfl rfl rfl (Nat.le_of_ble_eq_true rfl) ⟨(Nat.le_of_ble_eq_true rfl), (Nat.le_of_ble_eq_true rfl)⟩ (Nat.le_of_ble_eq_true rfl) (Nat.le_of_ble_eq_true rfl) ?_
    refine xj_dV dX7_value_12 q2330 kV_X7_emits (M_emits hT hnb.2 (by have := fct_lt he (i32_lt0 c4); omega) htx0) (kG_a (by decide) hO0) rfl rfl rfl rfl (Nat.le_of_ble_eq_true rfl) ⟨(Nat.le_of_ble_eq_true rfl), (Nat.le_of_ble_eq_true rfl)⟩ (Nat.le_of_ble_eq_true rfl) (Nat.le_of_ble_eq_true rfl) ?_
    rintro _ _ ⟨rfl, b, rfl, hfr, htx1⟩
    exact xj_return dX7_value_15 rfl (kR_v ⟨hfr, by rw [show pVal tp e = .inr (fct tp e, nxT tp e) by unfold pVal; rw [if_pos (i32_lt0 c4)]]; exact htx1⟩)
end M24
