/-! ===== the class: what stands on the tape ===== -/
set_option maxRecDepth 100000
theorem kS_X0_isDigit : xsS yX0_isDigit cX0_isDigit 1 (some FieldType.boolean) 1 := ⟨q1026, q151, q1027, by decide, by decide, by decide +kernel⟩
theorem kS_X0_isLetter : xsS yX0_isLetter cX0_isLetter 1 (some FieldType.boolean) 1 := ⟨q1023, q151, q1024, by decide, by decide, by decide +kernel⟩
theorem c_dgS : ∀ b, b < 256 → (if sb b < 48 then (0 : Int32) else if 57 < sb b then 0 else 1) = b1 (isDg b) := by decide +kernel
theorem c_letS : ∀ b, b < 256 → (if sb b < 97 then (0 : Int32) else if 122 < sb b then 0 else 1) = b1 (isLt b) := by decide +kernel
theorem sb_32 : ∀ b, b < 256 → (sb b = 32 ↔ b = 32) := by decide +kernel
theorem f_wa : ∀ k, k < 13 → ∀ i, i < 6 → (wrd k).getD i 0 < 128 := by decide +kernel
theorem sb_inj : ∀ a, a < 256 → ∀ b, b < 128 → (sb a = nI b ↔ a = b) := by decide +kernel
theorem sb_eq {a b : Nat} (ha : a < 256) (hb : b < 128) : sb a = nI b ↔ a = b := sb_inj a ha b hb
theorem tpB_at {L : List Int32} {tp : List Nat} {p : Nat} (h : tpB L tp) (hp : p < tp.length) : L[p]? = some (sb (tp.getD p 0)) ∧ tp.getD p 0 < 256 := by
  apply h.2.2
  rw [List.getD_eq_getElem?_getD, List.getElem?_eq_getElem hp]; rfl
def dT (d : Nat → Value) (p q : Nat) : Nat → Value := cu (cu d 18 (.int (nI p))) 19 (.int (nI q))
theorem dT_end {d : Nat → Value} {p t q : Nat} : (cFs (dT d p t)).set 19 (.int (nI q)) = cFs (dT d p q) := rfl
theorem dT_at {d : Nat → Value} {p t q : Nat} : (cFs (dT d p t)).set 18 (.int (nI q)) = cFs (dT d q t) := rfl
theorem b1_if01 (t : Bool) : (if b1 t = 0 then (0 : Int32) else 1) = b1 t := by cases t <;> rfl
section A48
variable {E : xE} {G : xH} {d : Nat → Value} {n : Nat}
theorem A_isDigit {v : Nat}  (hv : v < 256) : xMet E yX0_isDigit cX0_isDigit 1 (some FieldType.boolean) 0 0 0 [.int (sb v)] G (xrv (some (.int (b1 (isDg v)))) G) := by
  refine xMet.of (lv := [some (.int (sb v))]) rfl rfl (Nat.le_of_ble_eq_true rfl) ?_
  refine xj_iload_n dX0_isDigit_0 rfl ?_
  refine xj_bipush (v := 48) dX0_isDigit_1 rfl ?_
  refine xj_icmp_lt (tgt := 16) dX0_isDigit_3 rfl (fun c3 => ?_) (fun c3 => ?_)
  · refine xj_ic0 dX0_isDigit_16 ?_
    exact xj_ireturn dX0_isDigit_17 rfl rfl (xrv_i (by rw [← c_dgS v hv]; first | (rw [if_pos c3]; done) | (rw [if_neg c3, if_pos c9]; done) | (rw [if_neg c3, if_neg c9]; done)))
  · refine xj_iload_n dX0_isDigit_6 rfl ?_
    refine xj_bipush (v := 57) dX0_isDigit_7 rfl ?_
    refine xj_icmp_gt (tgt := 16) dX0_isDigit_9 rfl (fun c9 => ?_) (fun c9 => ?_)
    · refine xj_ic0 dX0_isDigit_16 ?_
      exact xj_ireturn dX0_isDigit_17 rfl rfl (xrv_i (by rw [← c_dgS v hv]; first | (rw [if_pos c3]; done) | (rw [if_neg c3, if_pos c9]; done) | (rw [if_neg c3, if_neg c9]; done)))
    · refine xj_ic1 dX0_isDigit_12 ?_
      refine xj_goto (tgt := 17) dX0_isDigit_13 rfl ?_
      exact xj_ireturn dX0_isDigit_17 rfl rfl (xrv_i (by rw [← c_dgS v hv]; first | (rw [if_pos c3]; done) | (rw [if_neg c3, if_pos c9]; done) | (rw [if_neg c3, if_neg c9]; done)))
theorem A_isLetter {v : Nat}  (hv : v < 256) : xMet E yX0_isLetter cX0_isLetter 1 (some FieldType.boolean) 0 0 0 [.int (sb v)] G (xrv (some (.int (b1 (isLt v)))) G) := by
  refine xMet.of (lv := [some (.int (sb v))]) rfl rfl (Nat.le_of_ble_eq_true rfl) ?_
  refine xj_iload_n dX0_isLetter_0 rfl ?_
  refine xj_bipush (v := 97) dX0_isLetter_1 rfl ?_
  refine xj_icmp_lt (tgt := 16) dX0_isLetter_3 rfl (fun c3 => ?_) (fun c3 => ?_)
  · refine xj_ic0 dX0_isLetter_16 ?_
    exact xj_ireturn dX0_isLetter_17 rfl rfl (xrv_i (by rw [← c_letS v hv]; first | (rw [if_pos c3]; done) | (rw [if_neg c3, if_pos c9]; done) | (rw [if_neg c3, if_neg c9]; done)))
  · refine xj_iload_n dX0_isLetter_6 rfl ?_
    refine xj_bipush (v := 122) dX0_isLetter_7 rfl ?_
    refine xj_icmp_gt (tgt := 16) dX0_isLetter_9 rfl (fun c9 => ?_) (fun c9 => ?_)
    · refine xj_ic0 dX0_isLetter_16 ?_
      exact xj_ireturn dX0_isLetter_17 rfl rfl (xrv_i (by rw [← c_letS v hv]; first | (rw [if_pos c3]; done) | (rw [if_neg c3, if_pos c9]; done) | (rw [if_neg c3, if_neg c9]; done)))
    · refine xj_ic1 dX0_isLetter_12 ?_
      refine xj_goto (tgt := 17) dX0_isLetter_13 rfl ?_
      exact xj_ireturn dX0_isLetter_17 rfl rfl (xrv_i (by rw [← c_letS v hv]; first | (rw [if_pos c3]; done) | (rw [if_neg c3, if_pos c9]; done) | (rw [if_neg c3, if_neg c9]; done)))
theorem A_next {p0 t : Nat} {tp : List Nat} {LT : List Int32}  (hO : G[0]? = some (cO 0 (cFs (dT d p0 t)))) (hd17 : d 17 = .int (nI tp.length)) (h19 : G[19]? = some (cI 1 LT)) (hLT : tpB LT tp) (htt : t ≤ tp.length) : xMet E yX0_next cX0_next 4 none 1 0 0 [.ref 0] G (xrv none (G.set 0 (cO 0 (cFs (dT d (nxF tp t) (nxT tp t)))))) := by
  have htp := hLT.2.1
  have hl200 := hLT.1
  refine xMet.of (lv := [some (.ref 0), none, none, none]) rfl rfl (Nat.le_of_ble_eq_true rfl) ?_
  refine xj_aload_n dX0_next_0 rfl rfl ?_
  refine xj_get dX0_next_1 K0 19 (by decide) q488 hO rfl ?_
  refine xj_istn1 dX0_next_4 rfl ?_
  have lp : ∀ (K : Nat) (k : Nat) (p : Nat), k < K → (p + k = tp.length) → (spF tp k p = nxF tp t) → xJ E (yX0_next, cX0_next, 4, none, []) (xR 1 0 0) (xrv none (G.set 0 (cO 0 (cFs (dT d (nxF tp t) (nxT tp t)))))) 0 0 5 [some (.ref 0), some (.int (nI p)), none, none] [] G := by
    intro K
    induction K with
    | zero => intro k p h; exact absurd h (Nat.not_lt_zero _)
    | succ K ih_lp =>
      intro k p hK hk hs
      refine xj_iload_n dX0_next_5 rfl ?_
      refine xj_aload_n dX0_next_6 rfl rfl ?_
      refine xj_get dX0_next_7 K0 17 (by decide) q486 hO (congrArg some hd17) ?_
      refine xj_icmp_ge (tgt := 30) dX0_next_10 rfl (fun c10 => ?_) (fun c10 => ?_)
      · have hp : p = nxF tp t := by
          first
          | (rw [if_neg (fun h => c21 ((sb_32 _ hta.2).mpr h.2))] at hs; exact hs)
          | (have hk0 : k = 0 := (by have := Nat.le_of_not_lt fun h => absurd c10 (nI_ge h (by omega)); omega); subst hk0; exact hs)
        refine xj_aload_n dX0_next_30 rfl rfl ?_
        refine xj_iload_n dX0_next_31 rfl ?_
        refine xj_put dX0_next_32 K0 18 (by decide) q487 rfl rfl hO (Nat.le_of_ble_eq_true rfl) ?_
        refine xj_eq rfl rfl (show _ = (G.set 0 (cO 0 (cFs (dT d (p) (t))))) from by rw [← dT_at]; rfl) ?_
        have hOx : (G.set 0 (cO 0 (cFs (dT d (p) (t)))))[0]? = some (cO 0 (cFs (dT d (p) (t)))) := gset_self hO
        have k19 : (G.set 0 (cO 0 (cFs (dT d (p) (t)))))[19]? = some (cI 1 LT) := by rw [gset (by decide)]; exact h19
        refine xj_iload_n dX0_next_35 rfl ?_
        refine xj_aload_n dX0_next_36 rfl rfl ?_
        refine xj_get dX0_next_37 K0 17 (by decide) q486 hOx (congrArg some hd17) ?_
        refine xj_icmp_ge (tgt := 59) dX0_next_40 rfl (fun c40 => ?_) (fun c40 => ?_)
        · have hpl : p = tp.length := by have := Nat.le_of_not_lt fun h => absurd c40 (nI_ge h (by omega)); omega
          refine xj_ic0 dX0_next_59 ?_
          refine xj_istn2 dX0_next_60 rfl ?_
          refine xj_iload_n dX0_next_61 rfl ?_
          refine xj_aload_n dX0_next_62 rfl rfl ?_
          refine xj_get dX0_next_63 K0 17 (by decide) q486 hOx (congrArg some hd17) ?_
          refine xj_icmp_ge (tgt := 85) dX0_next_66 rfl (fun c66 => ?_) (fun c66 => absurd c40 c66)
          refine xj_ic0 dX0_next_85 ?_
          refine xj_istn3 dX0_next_86 rfl ?_
          refine xj_iload_n dX0_next_87 rfl ?_
          refine xj_aload_n dX0_next_88 rfl rfl ?_
          refine xj_get dX0_next_89 K0 17 (by decide) q486 hOx (congrArg some hd17) ?_
          refine xj_icmp_ge (tgt := 98) dX0_next_92 rfl (fun c92 => ?_) (fun c92 => absurd c40 c92)
          have lq : ∀ (K : Nat) (k : Nat) (q : Nat), k < K → (q + k = tp.length) → (exF tp false false k q = nxT tp t) → xJ E (yX0_next, cX0_next, 4, none, []) (xR 1 0 0) (xrv none (G.set 0 (cO 0 (cFs (dT d (nxF tp t) (nxT tp t)))))) 0 0 98 [some (.ref 0), some (.int (nI q)), some (.int (b1 false)), some (.int (b1 false))] [] (G.set 0 (cO 0 (cFs (dT d (p) (t))))) := by
            intro K
            induction K with
            | zero => intro k q h; exact absurd h (Nat.not_lt_zero _)
            | succ K ih_lq =>
              intro k q hK hk hs
              refine xj_iload_n dX0_next_98 rfl ?_
              refine xj_aload_n dX0_next_99 rfl rfl ?_
              refine xj_get dX0_next_100 K0 17 (by decide) q486 hOx (congrArg some hd17) ?_
              refine xj_icmp_ge (tgt := 144) dX0_next_103 rfl (fun c103 => ?_) (fun c103 => ?_)
              · refine xj_aload_n dX0_next_144 rfl rfl ?_
                refine xj_iload_n dX0_next_145 rfl ?_
                refine xj_put dX0_next_146 K0 19 (by decide) q488 rfl rfl hOx (Nat.le_of_ble_eq_true rfl) ?_
                exact xj_return dX0_next_149 rfl (by have hx : exB tp false false q = false := (by unfold exB; first | (rw [decide_eq_false (fun h => absurd c103 (nI_ge h (by omega)))]; rfl) | (rw [b1_z c107, b1_z c123, decide_eq_true hq]; rfl) | (rw [b1_z c107, b1_z c135, decide_eq_true hq]; simp) | (rw [b1_z c119, b1_z c123, decide_eq_true hq]; simp) | (rw [b1_z c119, b1_z c135, decide_eq_true hq]; simp)); rw [exB_f hx] at hs; rw [← hp, ← hs]; exact ⟨rfl, by rw [gset_set, dT_end]⟩)
              · have hq : q < tp.length := Nat.lt_of_not_le fun h => c103 (nI_le h (by omega))
                obtain ⟨k, rfl⟩ : ∃ k0, k = k0 + 1 := ⟨k - 1, by omega⟩
                refine xj_iload_n dX0_next_106 rfl ?_
                refine xj_if_eq (tgt := 122) dX0_next_107 rfl (fun c107 => ?_) (fun c107 => ?_)
                · refine xj_iload_n dX0_next_122 rfl ?_
                  refine xj_if_eq (tgt := 144) dX0_next_123 rfl (fun c123 => ?_) (fun c123 => ?_)
                  · refine xj_aload_n dX0_next_144 rfl rfl ?_
                    refine xj_iload_n dX0_next_145 rfl ?_
                    refine xj_put dX0_next_146 K0 19 (by decide) q488 rfl rfl hOx (Nat.le_of_ble_eq_true rfl) ?_
                    exact xj_return dX0_next_149 rfl (by have hx : exB tp false false q = false := (by unfold exB; first | (rw [decide_eq_false (fun h => absurd c103 (nI_ge h (by omega)))]; rfl) | (rw [b1_z c107, b1_z c123, decide_eq_true hq]; rfl) | (rw [b1_z c107, b1_z c135, decide_eq_true hq]; simp) | (rw [b1_z c119, b1_z c123, decide_eq_true hq]; simp) | (rw [b1_z c119, b1_z c135, decide_eq_true hq]; simp)); rw [exB_f hx] at hs; rw [← hp, ← hs]; exact ⟨rfl, by rw [gset_set, dT_end]⟩)
                  · refine xj_aload_n dX0_next_126 rfl rfl ?_
                    refine xj_get dX0_next_127 K0 16 (by decide) q485 hOx rfl ?_
                    refine xj_iload_n dX0_next_130 rfl ?_
                    refine xj_bald dX0_next_131 k19 rfl (by omega) (tpB_at hLT hq).1 ?_
                    refine xj_cS dX0_next_132 q1025 kS_X0_isDigit (A_isDigit (tpB_at hLT hq).2) rfl rfl (Nat.le_of_ble_eq_true rfl) ⟨(Nat.le_of_ble_eq_true rfl), (Nat.le_of_ble_eq_true rfl)⟩ (Nat.le_of_ble_eq_true rfl) (Nat.le_of_ble_eq_true rfl) ?_
                    refine xj_if_eq (tgt := 144) dX0_next_135 rfl (fun c135 => ?_) (fun c135 => ?_)
                    · refine xj_aload_n dX0_next_144 rfl rfl ?_
                      refine xj_iload_n dX0_next_145 rfl ?_
                      refine xj_put dX0_next_146 K0 19 (by decide) q488 rfl rfl hOx (Nat.le_of_ble_eq_true rfl) ?_
                      exact xj_return dX0_next_149 rfl (by have hx : exB tp false false q = false := (by unfold exB; first | (rw [decide_eq_false (fun h => absurd c103 (nI_ge h (by omega)))]; rfl) | (rw [b1_z c107, b1_z c123, decide_eq_true hq]; rfl) | (rw [b1_z c107, b1_z c135, decide_eq_true hq]; simp) | (rw [b1_z c119, b1_z c123, decide_eq_true hq]; simp) | (rw [b1_z c119, b1_z c135, decide_eq_true hq]; simp)); rw [exB_f hx] at hs; rw [← hp, ← hs]; exact ⟨rfl, by rw [gset_set, dT_end]⟩)
                    · refine xj_iinc1 (cst := 1) dX0_next_138 rfl rfl ?_
                      rw [nI_1]
                      have hx : exB tp false false q = true := by
                        unfold exB
                        rw [decide_eq_true hq]
                        first
                        | (rw [b1_nz c107, b1_nz c119]; rfl)
                        | (rw [b1_nz c123, b1_nz c135]; simp)
                      have hs : (if exB tp false false q then exF tp false false k (q + 1) else q) = nxT tp t := hs
                      rw [if_pos hx] at hs
                      refine xj_goto (tgt := 98) dX0_next_141 rfl ?_
                      exact ih_lq k (q + 1) (by omega) (by omega) hs
                · refine xj_aload_n dX0_next_110 rfl rfl ?_
                  refine xj_get dX0_next_111 K0 16 (by decide) q485 hOx rfl ?_
                  refine xj_iload_n dX0_next_114 rfl ?_
                  refine xj_bald dX0_next_115 k19 rfl (by omega) (tpB_at hLT hq).1 ?_
                  refine xj_cS dX0_next_116 q1022 kS_X0_isLetter (A_isLetter (tpB_at hLT hq).2) rfl rfl (Nat.le_of_ble_eq_true rfl) ⟨(Nat.le_of_ble_eq_true rfl), (Nat.le_of_ble_eq_true rfl)⟩ (Nat.le_of_ble_eq_true rfl) (Nat.le_of_ble_eq_true rfl) ?_
                  refine xj_if_ne (tgt := 138) dX0_next_119 rfl (fun c119 => ?_) (fun c119 => ?_)
                  · refine xj_iinc1 (cst := 1) dX0_next_138 rfl rfl ?_
                    rw [nI_1]
                    have hx : exB tp false false q = true := by
                      unfold exB
                      rw [decide_eq_true hq]
                      first
                      | (rw [b1_nz c107, b1_nz c119]; rfl)
                      | (rw [b1_nz c123, b1_nz c135]; simp)
                    have hs : (if exB tp false false q then exF tp false false k (q + 1) else q) = nxT tp t := hs
                    rw [if_pos hx] at hs
                    refine xj_goto (tgt := 98) dX0_next_141 rfl ?_
                    exact ih_lq k (q + 1) (by omega) (by omega) hs
                  · refine xj_iload_n dX0_next_122 rfl ?_
                    refine xj_if_eq (tgt := 144) dX0_next_123 rfl (fun c123 => ?_) (fun c123 => ?_)
                    · refine xj_aload_n dX0_next_144 rfl rfl ?_
                      refine xj_iload_n dX0_next_145 rfl ?_
                      refine xj_put dX0_next_146 K0 19 (by decide) q488 rfl rfl hOx (Nat.le_of_ble_eq_true rfl) ?_
                      exact xj_return dX0_next_149 rfl (by have hx : exB tp false false q = false := (by unfold exB; first | (rw [decide_eq_false (fun h => absurd c103 (nI_ge h (by omega)))]; rfl) | (rw [b1_z c107, b1_z c123, decide_eq_true hq]; rfl) | (rw [b1_z c107, b1_z c135, decide_eq_true hq]; simp) | (rw [b1_z c119, b1_z c123, decide_eq_true hq]; simp) | (rw [b1_z c119, b1_z c135, decide_eq_true hq]; simp)); rw [exB_f hx] at hs; rw [← hp, ← hs]; exact ⟨rfl, by rw [gset_set, dT_end]⟩)
                    · refine xj_aload_n dX0_next_126 rfl rfl ?_
                      refine xj_get dX0_next_127 K0 16 (by decide) q485 hOx rfl ?_
                      refine xj_iload_n dX0_next_130 rfl ?_
                      refine xj_bald dX0_next_131 k19 rfl (by omega) (tpB_at hLT hq).1 ?_
                      refine xj_cS dX0_next_132 q1025 kS_X0_isDigit (A_isDigit (tpB_at hLT hq).2) rfl rfl (Nat.le_of_ble_eq_true rfl) ⟨(Nat.le_of_ble_eq_true rfl), (Nat.le_of_ble_eq_true rfl)⟩ (Nat.le_of_ble_eq_true rfl) (Nat.le_of_ble_eq_true rfl) ?_
                      refine xj_if_eq (tgt := 144) dX0_next_135 rfl (fun c135 => ?_) (fun c135 => ?_)
                      · refine xj_aload_n dX0_next_144 rfl rfl ?_
                        refine xj_iload_n dX0_next_145 rfl ?_
                        refine xj_put dX0_next_146 K0 19 (by decide) q488 rfl rfl hOx (Nat.le_of_ble_eq_true rfl) ?_
                        exact xj_return dX0_next_149 rfl (by have hx : exB tp false false q = false := (by unfold exB; first | (rw [decide_eq_false (fun h => absurd c103 (nI_ge h (by omega)))]; rfl) | (rw [b1_z c107, b1_z c123, decide_eq_true hq]; rfl) | (rw [b1_z c107, b1_z c135, decide_eq_true hq]; simp) | (rw [b1_z c119, b1_z c123, decide_eq_true hq]; simp) | (rw [b1_z c119, b1_z c135, decide_eq_true hq]; simp)); rw [exB_f hx] at hs; rw [← hp, ← hs]; exact ⟨rfl, by rw [gset_set, dT_end]⟩)
                      · refine xj_iinc1 (cst := 1) dX0_next_138 rfl rfl ?_
                        rw [nI_1]
                        have hx : exB tp false false q = true := by
                          unfold exB
                          rw [decide_eq_true hq]
                          first
                          | (rw [b1_nz c107, b1_nz c119]; rfl)
                          | (rw [b1_nz c123, b1_nz c135]; simp)
                        have hs : (if exB tp false false q then exF tp false false k (q + 1) else q) = nxT tp t := hs
                        rw [if_pos hx] at hs
                        refine xj_goto (tgt := 98) dX0_next_141 rfl ?_
                        exact ih_lq k (q + 1) (by omega) (by omega) hs
          exact lq (tp.length + 1) (tp.length - p) p (by omega) (by omega) (by rw [show tp.length - p = 0 by omega, show nxT tp t = p from by unfold nxT; rw [← hp, if_neg (by omega)]]; rfl)
        · have hq : p < tp.length := Nat.lt_of_not_le fun h => c40 (nI_le h (by omega))
          refine xj_aload_n dX0_next_43 rfl rfl ?_
          refine xj_get dX0_next_44 K0 16 (by decide) q485 hOx rfl ?_
          refine xj_iload_n dX0_next_47 rfl ?_
          refine xj_bald dX0_next_48 k19 rfl (by omega) (tpB_at hLT hq).1 ?_
          refine xj_cS dX0_next_49 q1022 kS_X0_isLetter (A_isLetter (tpB_at hLT hq).2) rfl rfl (Nat.le_of_ble_eq_true rfl) ⟨(Nat.le_of_ble_eq_true rfl), (Nat.le_of_ble_eq_true rfl)⟩ (Nat.le_of_ble_eq_true rfl) (Nat.le_of_ble_eq_true rfl) ?_
          refine xj_sI_if_eq (tgt := 59) (M := 60) dX0_next_52 rfl (fun c52 k => by
              refine xj_ic0 dX0_next_59 ?_
              exact k) (fun c52 k => by
              refine xj_ic1 dX0_next_55 ?_
              refine xj_goto (tgt := 60) dX0_next_56 rfl ?_
              exact k) ?_
          refine xj_top (b1_if01 _) ?_
          refine xj_istn2 dX0_next_60 rfl ?_
          refine xj_iload_n dX0_next_61 rfl ?_
          refine xj_aload_n dX0_next_62 rfl rfl ?_
          refine xj_get dX0_next_63 K0 17 (by decide) q486 hOx (congrArg some hd17) ?_
          refine xj_icmp_ge (tgt := 85) dX0_next_66 rfl (fun c66 => absurd c66 (fun h => absurd h (nI_ge hq (by omega)))) (fun c66 => ?_)
          refine xj_aload_n dX0_next_69 rfl rfl ?_
          refine xj_get dX0_next_70 K0 16 (by decide) q485 hOx rfl ?_
          refine xj_iload_n dX0_next_73 rfl ?_
          refine xj_bald dX0_next_74 k19 rfl (by omega) (tpB_at hLT hq).1 ?_
          refine xj_cS dX0_next_75 q1025 kS_X0_isDigit (A_isDigit (tpB_at hLT hq).2) rfl rfl (Nat.le_of_ble_eq_true rfl) ⟨(Nat.le_of_ble_eq_true rfl), (Nat.le_of_ble_eq_true rfl)⟩ (Nat.le_of_ble_eq_true rfl) (Nat.le_of_ble_eq_true rfl) ?_
          refine xj_sI_if_eq (tgt := 85) (M := 86) dX0_next_78 rfl (fun c78 k => by
              refine xj_ic0 dX0_next_85 ?_
              exact k) (fun c78 k => by
              refine xj_ic1 dX0_next_81 ?_
              refine xj_goto (tgt := 86) dX0_next_82 rfl ?_
              exact k) ?_
          refine xj_top (b1_if01 _) ?_
          refine xj_istn3 dX0_next_86 rfl ?_
          refine xj_iload_n dX0_next_87 rfl ?_
          refine xj_aload_n dX0_next_88 rfl rfl ?_
          refine xj_get dX0_next_89 K0 17 (by decide) q486 hOx (congrArg some hd17) ?_
          refine xj_icmp_ge (tgt := 98) dX0_next_92 rfl (fun c92 => absurd c92 (fun h => absurd h (nI_ge hq (by omega)))) (fun c92 => ?_)
          refine xj_iinc1 (cst := 1) dX0_next_95 rfl rfl ?_
          rw [nI_1]
          have lq : ∀ (K : Nat) (k : Nat) (q : Nat), k < K → (q + k = tp.length) → (exF tp (isLt (tp.getD p 0)) (isDg (tp.getD p 0)) k q = nxT tp t) → xJ E (yX0_next, cX0_next, 4, none, []) (xR 1 0 0) (xrv none (G.set 0 (cO 0 (cFs (dT d (nxF tp t) (nxT tp t)))))) 0 0 98 [some (.ref 0), some (.int (nI q)), some (.int (b1 (isLt (tp.getD p 0)))), some (.int (b1 (isDg (tp.getD p 0))))] [] (G.set 0 (cO 0 (cFs (dT d (p) (t))))) := by
            intro K
            induction K with
            | zero => intro k q h; exact absurd h (Nat.not_lt_zero _)
            | succ K ih_lq =>
              intro k q hK hk hs
              refine xj_iload_n dX0_next_98 rfl ?_
              refine xj_aload_n dX0_next_99 rfl rfl ?_
              refine xj_get dX0_next_100 K0 17 (by decide) q486 hOx (congrArg some hd17) ?_
              refine xj_icmp_ge (tgt := 144) dX0_next_103 rfl (fun c103 => ?_) (fun c103 => ?_)
              · refine xj_aload_n dX0_next_144 rfl rfl ?_
                refine xj_iload_n dX0_next_145 rfl ?_
                refine xj_put dX0_next_146 K0 19 (by decide) q488 rfl rfl hOx (Nat.le_of_ble_eq_true rfl) ?_
                exact xj_return dX0_next_149 rfl (by have hx : exB tp (isLt (tp.getD p 0)) (isDg (tp.getD p 0)) q = false := (by unfold exB; first | (rw [decide_eq_false (fun h => absurd c103 (nI_ge h (by omega)))]; rfl) | (rw [b1_z c107, b1_z c123, decide_eq_true hq]; rfl) | (rw [b1_z c107, b1_z c135, decide_eq_true hq]; simp) | (rw [b1_z c119, b1_z c123, decide_eq_true hq]; simp) | (rw [b1_z c119, b1_z c135, decide_eq_true hq]; simp)); rw [exB_f hx] at hs; rw [← hp, ← hs]; exact ⟨rfl, by rw [gset_set, dT_end]⟩)
              · have hq : q < tp.length := Nat.lt_of_not_le fun h => c103 (nI_le h (by omega))
                obtain ⟨k, rfl⟩ : ∃ k0, k = k0 + 1 := ⟨k - 1, by omega⟩
                refine xj_iload_n dX0_next_106 rfl ?_
                refine xj_if_eq (tgt := 122) dX0_next_107 rfl (fun c107 => ?_) (fun c107 => ?_)
                · refine xj_iload_n dX0_next_122 rfl ?_
                  refine xj_if_eq (tgt := 144) dX0_next_123 rfl (fun c123 => ?_) (fun c123 => ?_)
                  · refine xj_aload_n dX0_next_144 rfl rfl ?_
                    refine xj_iload_n dX0_next_145 rfl ?_
                    refine xj_put dX0_next_146 K0 19 (by decide) q488 rfl rfl hOx (Nat.le_of_ble_eq_true rfl) ?_
                    exact xj_return dX0_next_149 rfl (by have hx : exB tp (isLt (tp.getD p 0)) (isDg (tp.getD p 0)) q = false := (by unfold exB; first | (rw [decide_eq_false (fun h => absurd c103 (nI_ge h (by omega)))]; rfl) | (rw [b1_z c107, b1_z c123, decide_eq_true hq]; rfl) | (rw [b1_z c107, b1_z c135, decide_eq_true hq]; simp) | (rw [b1_z c119, b1_z c123, decide_eq_true hq]; simp) | (rw [b1_z c119, b1_z c135, decide_eq_true hq]; simp)); rw [exB_f hx] at hs; rw [← hp, ← hs]; exact ⟨rfl, by rw [gset_set, dT_end]⟩)
                  · refine xj_aload_n dX0_next_126 rfl rfl ?_
                    refine xj_get dX0_next_127 K0 16 (by decide) q485 hOx rfl ?_
                    refine xj_iload_n dX0_next_130 rfl ?_
                    refine xj_bald dX0_next_131 k19 rfl (by omega) (tpB_at hLT hq).1 ?_
                    refine xj_cS dX0_next_132 q1025 kS_X0_isDigit (A_isDigit (tpB_at hLT hq).2) rfl rfl (Nat.le_of_ble_eq_true rfl) ⟨(Nat.le_of_ble_eq_true rfl), (Nat.le_of_ble_eq_true rfl)⟩ (Nat.le_of_ble_eq_true rfl) (Nat.le_of_ble_eq_true rfl) ?_
                    refine xj_if_eq (tgt := 144) dX0_next_135 rfl (fun c135 => ?_) (fun c135 => ?_)
                    · refine xj_aload_n dX0_next_144 rfl rfl ?_
                      refine xj_iload_n dX0_next_145 rfl ?_
                      refine xj_put dX0_next_146 K0 19 (by decide) q488 rfl rfl hOx (Nat.le_of_ble_eq_true rfl) ?_
                      exact xj_return dX0_next_149 rfl (by have hx : exB tp (isLt (tp.getD p 0)) (isDg (tp.getD p 0)) q = false := (by unfold exB; first | (rw [decide_eq_false (fun h => absurd c103 (nI_ge h (by omega)))]; rfl) | (rw [b1_z c107, b1_z c123, decide_eq_true hq]; rfl) | (rw [b1_z c107, b1_z c135, decide_eq_true hq]; simp) | (rw [b1_z c119, b1_z c123, decide_eq_true hq]; simp) | (rw [b1_z c119, b1_z c135, decide_eq_true hq]; simp)); rw [exB_f hx] at hs; rw [← hp, ← hs]; exact ⟨rfl, by rw [gset_set, dT_end]⟩)
                    · refine xj_iinc1 (cst := 1) dX0_next_138 rfl rfl ?_
                      rw [nI_1]
                      have hx : exB tp (isLt (tp.getD p 0)) (isDg (tp.getD p 0)) q = true := by
                        unfold exB
                        rw [decide_eq_true hq]
                        first
                        | (rw [b1_nz c107, b1_nz c119]; rfl)
                        | (rw [b1_nz c123, b1_nz c135]; simp)
                      have hs : (if exB tp (isLt (tp.getD p 0)) (isDg (tp.getD p 0)) q then exF tp (isLt (tp.getD p 0)) (isDg (tp.getD p 0)) k (q + 1) else q) = nxT tp t := hs
                      rw [if_pos hx] at hs
                      refine xj_goto (tgt := 98) dX0_next_141 rfl ?_
                      exact ih_lq k (q + 1) (by omega) (by omega) hs
                · refine xj_aload_n dX0_next_110 rfl rfl ?_
                  refine xj_get dX0_next_111 K0 16 (by decide) q485 hOx rfl ?_
                  refine xj_iload_n dX0_next_114 rfl ?_
                  refine xj_bald dX0_next_115 k19 rfl (by omega) (tpB_at hLT hq).1 ?_
                  refine xj_cS dX0_next_116 q1022 kS_X0_isLetter (A_isLetter (tpB_at hLT hq).2) rfl rfl (Nat.le_of_ble_eq_true rfl) ⟨(Nat.le_of_ble_eq_true rfl), (Nat.le_of_ble_eq_true rfl)⟩ (Nat.le_of_ble_eq_true rfl) (Nat.le_of_ble_eq_true rfl) ?_
                  refine xj_if_ne (tgt := 138) dX0_next_119 rfl (fun c119 => ?_) (fun c119 => ?_)
                  · refine xj_iinc1 (cst := 1) dX0_next_138 rfl rfl ?_
                    rw [nI_1]
                    have hx : exB tp (isLt (tp.getD p 0)) (isDg (tp.getD p 0)) q = true := by
                      unfold exB
                      rw [decide_eq_true hq]
                      first
                      | (rw [b1_nz c107, b1_nz c119]; rfl)
                      | (rw [b1_nz c123, b1_nz c135]; simp)
                    have hs : (if exB tp (isLt (tp.getD p 0)) (isDg (tp.getD p 0)) q then exF tp (isLt (tp.getD p 0)) (isDg (tp.getD p 0)) k (q + 1) else q) = nxT tp t := hs
                    rw [if_pos hx] at hs
                    refine xj_goto (tgt := 98) dX0_next_141 rfl ?_
                    exact ih_lq k (q + 1) (by omega) (by omega) hs
                  · refine xj_iload_n dX0_next_122 rfl ?_
                    refine xj_if_eq (tgt := 144) dX0_next_123 rfl (fun c123 => ?_) (fun c123 => ?_)
                    · refine xj_aload_n dX0_next_144 rfl rfl ?_
                      refine xj_iload_n dX0_next_145 rfl ?_
                      refine xj_put dX0_next_146 K0 19 (by decide) q488 rfl rfl hOx (Nat.le_of_ble_eq_true rfl) ?_
                      exact xj_return dX0_next_149 rfl (by have hx : exB tp (isLt (tp.getD p 0)) (isDg (tp.getD p 0)) q = false := (by unfold exB; first | (rw [decide_eq_false (fun h => absurd c103 (nI_ge h (by omega)))]; rfl) | (rw [b1_z c107, b1_z c123, decide_eq_true hq]; rfl) | (rw [b1_z c107, b1_z c135, decide_eq_true hq]; simp) | (rw [b1_z c119, b1_z c123, decide_eq_true hq]; simp) | (rw [b1_z c119, b1_z c135, decide_eq_true hq]; simp)); rw [exB_f hx] at hs; rw [← hp, ← hs]; exact ⟨rfl, by rw [gset_set, dT_end]⟩)
                    · refine xj_aload_n dX0_next_126 rfl rfl ?_
                      refine xj_get dX0_next_127 K0 16 (by decide) q485 hOx rfl ?_
                      refine xj_iload_n dX0_next_130 rfl ?_
                      refine xj_bald dX0_next_131 k19 rfl (by omega) (tpB_at hLT hq).1 ?_
                      refine xj_cS dX0_next_132 q1025 kS_X0_isDigit (A_isDigit (tpB_at hLT hq).2) rfl rfl (Nat.le_of_ble_eq_true rfl) ⟨(Nat.le_of_ble_eq_true rfl), (Nat.le_of_ble_eq_true rfl)⟩ (Nat.le_of_ble_eq_true rfl) (Nat.le_of_ble_eq_true rfl) ?_
                      refine xj_if_eq (tgt := 144) dX0_next_135 rfl (fun c135 => ?_) (fun c135 => ?_)
                      · refine xj_aload_n dX0_next_144 rfl rfl ?_
                        refine xj_iload_n dX0_next_145 rfl ?_
                        refine xj_put dX0_next_146 K0 19 (by decide) q488 rfl rfl hOx (Nat.le_of_ble_eq_true rfl) ?_
                        exact xj_return dX0_next_149 rfl (by have hx : exB tp (isLt (tp.getD p 0)) (isDg (tp.getD p 0)) q = false := (by unfold exB; first | (rw [decide_eq_false (fun h => absurd c103 (nI_ge h (by omega)))]; rfl) | (rw [b1_z c107, b1_z c123, decide_eq_true hq]; rfl) | (rw [b1_z c107, b1_z c135, decide_eq_true hq]; simp) | (rw [b1_z c119, b1_z c123, decide_eq_true hq]; simp) | (rw [b1_z c119, b1_z c135, decide_eq_true hq]; simp)); rw [exB_f hx] at hs; rw [← hp, ← hs]; exact ⟨rfl, by rw [gset_set, dT_end]⟩)
                      · refine xj_iinc1 (cst := 1) dX0_next_138 rfl rfl ?_
                        rw [nI_1]
                        have hx : exB tp (isLt (tp.getD p 0)) (isDg (tp.getD p 0)) q = true := by
                          unfold exB
                          rw [decide_eq_true hq]
                          first
                          | (rw [b1_nz c107, b1_nz c119]; rfl)
                          | (rw [b1_nz c123, b1_nz c135]; simp)
                        have hs : (if exB tp (isLt (tp.getD p 0)) (isDg (tp.getD p 0)) q then exF tp (isLt (tp.getD p 0)) (isDg (tp.getD p 0)) k (q + 1) else q) = nxT tp t := hs
                        rw [if_pos hx] at hs
                        refine xj_goto (tgt := 98) dX0_next_141 rfl ?_
                        exact ih_lq k (q + 1) (by omega) (by omega) hs
          exact lq (tp.length + 1) (tp.length - (p + 1)) (p + 1) (by omega) (by omega) (by rw [hp]; unfold nxT; rw [if_pos (by omega)])
      · have hq : p < tp.length := Nat.lt_of_not_le fun h => c10 (nI_le h (by omega))
        obtain ⟨k, rfl⟩ : ∃ k0, k = k0 + 1 := ⟨k - 1, by omega⟩
        have hta := tpB_at hLT hq
        have hs : (if p < tp.length ∧ tp.getD p 0 = 32 then spF tp k (p + 1) else p) = nxF tp t := hs
        refine xj_aload_n dX0_next_13 rfl rfl ?_
        refine xj_get dX0_next_14 K0 16 (by decide) q485 hO rfl ?_
        refine xj_iload_n dX0_next_17 rfl ?_
        refine xj_bald dX0_next_18 h19 rfl (by omega) hta.1 ?_
        refine xj_bipush (v := 32) dX0_next_19 rfl ?_
        refine xj_icmp_ne (tgt := 30) dX0_next_21 rfl (fun c21 => ?_) (fun c21 => ?_)
        · have hp : p = nxF tp t := by
            first
            | (rw [if_neg (fun h => c21 ((sb_32 _ hta.2).mpr h.2))] at hs; exact hs)
            | (have hk0 : k = 0 := (by have := Nat.le_of_not_lt fun h => absurd c10 (nI_ge h (by omega)); omega); subst hk0; exact hs)
          refine xj_aload_n dX0_next_30 rfl rfl ?_
          refine xj_iload_n dX0_next_31 rfl ?_
          refine xj_put dX0_next_32 K0 18 (by decide) q487 rfl rfl hO (Nat.le_of_ble_eq_true rfl) ?_
          refine xj_eq rfl rfl (show _ = (G.set 0 (cO 0 (cFs (dT d (p) (t))))) from by rw [← dT_at]; rfl) ?_
          have hOx : (G.set 0 (cO 0 (cFs (dT d (p) (t)))))[0]? = some (cO 0 (cFs (dT d (p) (t)))) := gset_self hO
          have k19 : (G.set 0 (cO 0 (cFs (dT d (p) (t)))))[19]? = some (cI 1 LT) := by rw [gset (by decide)]; exact h19
          refine xj_iload_n dX0_next_35 rfl ?_
          refine xj_aload_n dX0_next_36 rfl rfl ?_
          refine xj_get dX0_next_37 K0 17 (by decide) q486 hOx (congrArg some hd17) ?_
          refine xj_icmp_ge (tgt := 59) dX0_next_40 rfl (fun c40 => ?_) (fun c40 => ?_)
          · have hpl : p = tp.length := by have := Nat.le_of_not_lt fun h => absurd c40 (nI_ge h (by omega)); omega
            refine xj_ic0 dX0_next_59 ?_
            refine xj_istn2 dX0_next_60 rfl ?_
            refine xj_iload_n dX0_next_61 rfl ?_
            refine xj_aload_n dX0_next_62 rfl rfl ?_
            refine xj_get dX0_next_63 K0 17 (by decide) q486 hOx (congrArg some hd17) ?_
            refine xj_icmp_ge (tgt := 85) dX0_next_66 rfl (fun c66 => ?_) (fun c66 => absurd c40 c66)
            refine xj_ic0 dX0_next_85 ?_
            refine xj_istn3 dX0_next_86 rfl ?_
            refine xj_iload_n dX0_next_87 rfl ?_
            refine xj_aload_n dX0_next_88 rfl rfl ?_
            refine xj_get dX0_next_89 K0 17 (by decide) q486 hOx (congrArg some hd17) ?_
            refine xj_icmp_ge (tgt := 98) dX0_next_92 rfl (fun c92 => ?_) (fun c92 => absurd c40 c92)
            have lq : ∀ (K : Nat) (k : Nat) (q : Nat), k < K → (q + k = tp.length) → (exF tp false false k q = nxT tp t) → xJ E (yX0_next, cX0_next, 4, none, []) (xR 1 0 0) (xrv none (G.set 0 (cO 0 (cFs (dT d (nxF tp t) (nxT tp t)))))) 0 0 98 [some (.ref 0), some (.int (nI q)), some (.int (b1 false)), some (.int (b1 false))] [] (G.set 0 (cO 0 (cFs (dT d (p) (t))))) := by
              intro K
              induction K with
              | zero => intro k q h; exact absurd h (Nat.not_lt_zero _)
              | succ K ih_lq =>
                intro k q hK hk hs
                refine xj_iload_n dX0_next_98 rfl ?_
                refine xj_aload_n dX0_next_99 rfl rfl ?_
                refine xj_get dX0_next_100 K0 17 (by decide) q486 hOx (congrArg some hd17) ?_
                refine xj_icmp_ge (tgt := 144) dX0_next_103 rfl (fun c103 => ?_) (fun c103 => ?_)
                · refine xj_aload_n dX0_next_144 rfl rfl ?_
                  refine xj_iload_n dX0_next_145 rfl ?_
                  refine xj_put dX0_next_146 K0 19 (by decide) q488 rfl rfl hOx (Nat.le_of_ble_eq_true rfl) ?_
                  exact xj_return dX0_next_149 rfl (by have hx : exB tp false false q = false := (by unfold exB; first | (rw [decide_eq_false (fun h => absurd c103 (nI_ge h (by omega)))]; rfl) | (rw [b1_z c107, b1_z c123, decide_eq_true hq]; rfl) | (rw [b1_z c107, b1_z c135, decide_eq_true hq]; simp) | (rw [b1_z c119, b1_z c123, decide_eq_true hq]; simp) | (rw [b1_z c119, b1_z c135, decide_eq_true hq]; simp)); rw [exB_f hx] at hs; rw [← hp, ← hs]; exact ⟨rfl, by rw [gset_set, dT_end]⟩)
                · have hq : q < tp.length := Nat.lt_of_not_le fun h => c103 (nI_le h (by omega))
                  obtain ⟨k, rfl⟩ : ∃ k0, k = k0 + 1 := ⟨k - 1, by omega⟩
                  refine xj_iload_n dX0_next_106 rfl ?_
                  refine xj_if_eq (tgt := 122) dX0_next_107 rfl (fun c107 => ?_) (fun c107 => ?_)
                  · refine xj_iload_n dX0_next_122 rfl ?_
                    refine xj_if_eq (tgt := 144) dX0_next_123 rfl (fun c123 => ?_) (fun c123 => ?_)
                    · refine xj_aload_n dX0_next_144 rfl rfl ?_
                      refine xj_iload_n dX0_next_145 rfl ?_
                      refine xj_put dX0_next_146 K0 19 (by decide) q488 rfl rfl hOx (Nat.le_of_ble_eq_true rfl) ?_
                      exact xj_return dX0_next_149 rfl (by have hx : exB tp false false q = false := (by unfold exB; first | (rw [decide_eq_false (fun h => absurd c103 (nI_ge h (by omega)))]; rfl) | (rw [b1_z c107, b1_z c123, decide_eq_true hq]; rfl) | (rw [b1_z c107, b1_z c135, decide_eq_true hq]; simp) | (rw [b1_z c119, b1_z c123, decide_eq_true hq]; simp) | (rw [b1_z c119, b1_z c135, decide_eq_true hq]; simp)); rw [exB_f hx] at hs; rw [← hp, ← hs]; exact ⟨rfl, by rw [gset_set, dT_end]⟩)
                    · refine xj_aload_n dX0_next_126 rfl rfl ?_
                      refine xj_get dX0_next_127 K0 16 (by decide) q485 hOx rfl ?_
                      refine xj_iload_n dX0_next_130 rfl ?_
                      refine xj_bald dX0_next_131 k19 rfl (by omega) (tpB_at hLT hq).1 ?_
                      refine xj_cS dX0_next_132 q1025 kS_X0_isDigit (A_isDigit (tpB_at hLT hq).2) rfl rfl (Nat.le_of_ble_eq_true rfl) ⟨(Nat.le_of_ble_eq_true rfl), (Nat.le_of_ble_eq_true rfl)⟩ (Nat.le_of_ble_eq_true rfl) (Nat.le_of_ble_eq_true rfl) ?_
                      refine xj_if_eq (tgt := 144) dX0_next_135 rfl (fun c135 => ?_) (fun c135 => ?_)
                      · refine xj_aload_n dX0_next_144 rfl rfl ?_
                        refine xj_iload_n dX0_next_145 rfl ?_
                        refine xj_put dX0_next_146 K0 19 (by decide) q488 rfl rfl hOx (Nat.le_of_ble_eq_true rfl) ?_
                        exact xj_return dX0_next_149 rfl (by have hx : exB tp false false q = false := (by unfold exB; first | (rw [decide_eq_false (fun h => absurd c103 (nI_ge h (by omega)))]; rfl) | (rw [b1_z c107, b1_z c123, decide_eq_true hq]; rfl) | (rw [b1_z c107, b1_z c135, decide_eq_true hq]; simp) | (rw [b1_z c119, b1_z c123, decide_eq_true hq]; simp) | (rw [b1_z c119, b1_z c135, decide_eq_true hq]; simp)); rw [exB_f hx] at hs; rw [← hp, ← hs]; exact ⟨rfl, by rw [gset_set, dT_end]⟩)
                      · refine xj_iinc1 (cst := 1) dX0_next_138 rfl rfl ?_
                        rw [nI_1]
                        have hx : exB tp false false q = true := by
                          unfold exB
                          rw [decide_eq_true hq]
                          first
                          | (rw [b1_nz c107, b1_nz c119]; rfl)
                          | (rw [b1_nz c123, b1_nz c135]; simp)
                        have hs : (if exB tp false false q then exF tp false false k (q + 1) else q) = nxT tp t := hs
                        rw [if_pos hx] at hs
                        refine xj_goto (tgt := 98) dX0_next_141 rfl ?_
                        exact ih_lq k (q + 1) (by omega) (by omega) hs
                  · refine xj_aload_n dX0_next_110 rfl rfl ?_
                    refine xj_get dX0_next_111 K0 16 (by decide) q485 hOx rfl ?_
                    refine xj_iload_n dX0_next_114 rfl ?_
                    refine xj_bald dX0_next_115 k19 rfl (by omega) (tpB_at hLT hq).1 ?_
                    refine xj_cS dX0_next_116 q1022 kS_X0_isLetter (A_isLetter (tpB_at hLT hq).2) rfl rfl (Nat.le_of_ble_eq_true rfl) ⟨(Nat.le_of_ble_eq_true rfl), (Nat.le_of_ble_eq_true rfl)⟩ (Nat.le_of_ble_eq_true rfl) (Nat.le_of_ble_eq_true rfl) ?_
                    refine xj_if_ne (tgt := 138) dX0_next_119 rfl (fun c119 => ?_) (fun c119 => ?_)
                    · refine xj_iinc1 (cst := 1) dX0_next_138 rfl rfl ?_
                      rw [nI_1]
                      have hx : exB tp false false q = true := by
                        unfold exB
                        rw [decide_eq_true hq]
                        first
                        | (rw [b1_nz c107, b1_nz c119]; rfl)
                        | (rw [b1_nz c123, b1_nz c135]; simp)
                      have hs : (if exB tp false false q then exF tp false false k (q + 1) else q) = nxT tp t := hs
                      rw [if_pos hx] at hs
                      refine xj_goto (tgt := 98) dX0_next_141 rfl ?_
                      exact ih_lq k (q + 1) (by omega) (by omega) hs
                    · refine xj_iload_n dX0_next_122 rfl ?_
                      refine xj_if_eq (tgt := 144) dX0_next_123 rfl (fun c123 => ?_) (fun c123 => ?_)
                      · refine xj_aload_n dX0_next_144 rfl rfl ?_
                        refine xj_iload_n dX0_next_145 rfl ?_
                        refine xj_put dX0_next_146 K0 19 (by decide) q488 rfl rfl hOx (Nat.le_of_ble_eq_true rfl) ?_
                        exact xj_return dX0_next_149 rfl (by have hx : exB tp false false q = false := (by unfold exB; first | (rw [decide_eq_false (fun h => absurd c103 (nI_ge h (by omega)))]; rfl) | (rw [b1_z c107, b1_z c123, decide_eq_true hq]; rfl) | (rw [b1_z c107, b1_z c135, decide_eq_true hq]; simp) | (rw [b1_z c119, b1_z c123, decide_eq_true hq]; simp) | (rw [b1_z c119, b1_z c135, decide_eq_true hq]; simp)); rw [exB_f hx] at hs; rw [← hp, ← hs]; exact ⟨rfl, by rw [gset_set, dT_end]⟩)
                      · refine xj_aload_n dX0_next_126 rfl rfl ?_
                        refine xj_get dX0_next_127 K0 16 (by decide) q485 hOx rfl ?_
                        refine xj_iload_n dX0_next_130 rfl ?_
                        refine xj_bald dX0_next_131 k19 rfl (by omega) (tpB_at hLT hq).1 ?_
                        refine xj_cS dX0_next_132 q1025 kS_X0_isDigit (A_isDigit (tpB_at hLT hq).2) rfl rfl (Nat.le_of_ble_eq_true rfl) ⟨(Nat.le_of_ble_eq_true rfl), (Nat.le_of_ble_eq_true rfl)⟩ (Nat.le_of_ble_eq_true rfl) (Nat.le_of_ble_eq_true rfl) ?_
                        refine xj_if_eq (tgt := 144) dX0_next_135 rfl (fun c135 => ?_) (fun c135 => ?_)
                        · refine xj_aload_n dX0_next_144 rfl rfl ?_
                          refine xj_iload_n dX0_next_145 rfl ?_
                          refine xj_put dX0_next_146 K0 19 (by decide) q488 rfl rfl hOx (Nat.le_of_ble_eq_true rfl) ?_
                          exact xj_return dX0_next_149 rfl (by have hx : exB tp false false q = false := (by unfold exB; first | (rw [decide_eq_false (fun h => absurd c103 (nI_ge h (by omega)))]; rfl) | (rw [b1_z c107, b1_z c123, decide_eq_true hq]; rfl) | (rw [b1_z c107, b1_z c135, decide_eq_true hq]; simp) | (rw [b1_z c119, b1_z c123, decide_eq_true hq]; simp) | (rw [b1_z c119, b1_z c135, decide_eq_true hq]; simp)); rw [exB_f hx] at hs; rw [← hp, ← hs]; exact ⟨rfl, by rw [gset_set, dT_end]⟩)
                        · refine xj_iinc1 (cst := 1) dX0_next_138 rfl rfl ?_
                          rw [nI_1]
                          have hx : exB tp false false q = true := by
                            unfold exB
                            rw [decide_eq_true hq]
                            first
                            | (rw [b1_nz c107, b1_nz c119]; rfl)
                            | (rw [b1_nz c123, b1_nz c135]; simp)
                          have hs : (if exB tp false false q then exF tp false false k (q + 1) else q) = nxT tp t := hs
                          rw [if_pos hx] at hs
                          refine xj_goto (tgt := 98) dX0_next_141 rfl ?_
                          exact ih_lq k (q + 1) (by omega) (by omega) hs
            exact lq (tp.length + 1) (tp.length - p) p (by omega) (by omega) (by rw [show tp.length - p = 0 by omega, show nxT tp t = p from by unfold nxT; rw [← hp, if_neg (by omega)]]; rfl)
          · have hq : p < tp.length := Nat.lt_of_not_le fun h => c40 (nI_le h (by omega))
            refine xj_aload_n dX0_next_43 rfl rfl ?_
            refine xj_get dX0_next_44 K0 16 (by decide) q485 hOx rfl ?_
            refine xj_iload_n dX0_next_47 rfl ?_
            refine xj_bald dX0_next_48 k19 rfl (by omega) (tpB_at hLT hq).1 ?_
            refine xj_cS dX0_next_49 q1022 kS_X0_isLetter (A_isLetter (tpB_at hLT hq).2) rfl rfl (Nat.le_of_ble_eq_true rfl) ⟨(Nat.le_of_ble_eq_true rfl), (Nat.le_of_ble_eq_true rfl)⟩ (Nat.le_of_ble_eq_true rfl) (Nat.le_of_ble_eq_true rfl) ?_
            refine xj_sI_if_eq (tgt := 59) (M := 60) dX0_next_52 rfl (fun c52 k => by
                refine xj_ic0 dX0_next_59 ?_
                exact k) (fun c52 k => by
                refine xj_ic1 dX0_next_55 ?_
                refine xj_goto (tgt := 60) dX0_next_56 rfl ?_
                exact k) ?_
            refine xj_top (b1_if01 _) ?_
            refine xj_istn2 dX0_next_60 rfl ?_
            refine xj_iload_n dX0_next_61 rfl ?_
            refine xj_aload_n dX0_next_62 rfl rfl ?_
            refine xj_get dX0_next_63 K0 17 (by decide) q486 hOx (congrArg some hd17) ?_
            refine xj_icmp_ge (tgt := 85) dX0_next_66 rfl (fun c66 => absurd c66 (fun h => absurd h (nI_ge hq (by omega)))) (fun c66 => ?_)
            refine xj_aload_n dX0_next_69 rfl rfl ?_
            refine xj_get dX0_next_70 K0 16 (by decide) q485 hOx rfl ?_
            refine xj_iload_n dX0_next_73 rfl ?_
            refine xj_bald dX0_next_74 k19 rfl (by omega) (tpB_at hLT hq).1 ?_
            refine xj_cS dX0_next_75 q1025 kS_X0_isDigit (A_isDigit (tpB_at hLT hq).2) rfl rfl (Nat.le_of_ble_eq_true rfl) ⟨(Nat.le_of_ble_eq_true rfl), (Nat.le_of_ble_eq_true rfl)⟩ (Nat.le_of_ble_eq_true rfl) (Nat.le_of_ble_eq_true rfl) ?_
            refine xj_sI_if_eq (tgt := 85) (M := 86) dX0_next_78 rfl (fun c78 k => by
                refine xj_ic0 dX0_next_85 ?_
                exact k) (fun c78 k => by
                refine xj_ic1 dX0_next_81 ?_
                refine xj_goto (tgt := 86) dX0_next_82 rfl ?_
                exact k) ?_
            refine xj_top (b1_if01 _) ?_
            refine xj_istn3 dX0_next_86 rfl ?_
            refine xj_iload_n dX0_next_87 rfl ?_
            refine xj_aload_n dX0_next_88 rfl rfl ?_
            refine xj_get dX0_next_89 K0 17 (by decide) q486 hOx (congrArg some hd17) ?_
            refine xj_icmp_ge (tgt := 98) dX0_next_92 rfl (fun c92 => absurd c92 (fun h => absurd h (nI_ge hq (by omega)))) (fun c92 => ?_)
            refine xj_iinc1 (cst := 1) dX0_next_95 rfl rfl ?_
            rw [nI_1]
            have lq : ∀ (K : Nat) (k : Nat) (q : Nat), k < K → (q + k = tp.length) → (exF tp (isLt (tp.getD p 0)) (isDg (tp.getD p 0)) k q = nxT tp t) → xJ E (yX0_next, cX0_next, 4, none, []) (xR 1 0 0) (xrv none (G.set 0 (cO 0 (cFs (dT d (nxF tp t) (nxT tp t)))))) 0 0 98 [some (.ref 0), some (.int (nI q)), some (.int (b1 (isLt (tp.getD p 0)))), some (.int (b1 (isDg (tp.getD p 0))))] [] (G.set 0 (cO 0 (cFs (dT d (p) (t))))) := by
              intro K
              induction K with
              | zero => intro k q h; exact absurd h (Nat.not_lt_zero _)
              | succ K ih_lq =>
                intro k q hK hk hs
                refine xj_iload_n dX0_next_98 rfl ?_
                refine xj_aload_n dX0_next_99 rfl rfl ?_
                refine xj_get dX0_next_100 K0 17 (by decide) q486 hOx (congrArg some hd17) ?_
                refine xj_icmp_ge (tgt := 144) dX0_next_103 rfl (fun c103 => ?_) (fun c103 => ?_)
                · refine xj_aload_n dX0_next_144 rfl rfl ?_
                  refine xj_iload_n dX0_next_145 rfl ?_
                  refine xj_put dX0_next_146 K0 19 (by decide) q488 rfl rfl hOx (Nat.le_of_ble_eq_true rfl) ?_
                  exact xj_return dX0_next_149 rfl (by have hx : exB tp (isLt (tp.getD p 0)) (isDg (tp.getD p 0)) q = false := (by unfold exB; first | (rw [decide_eq_false (fun h => absurd c103 (nI_ge h (by omega)))]; rfl) | (rw [b1_z c107, b1_z c123, decide_eq_true hq]; rfl) | (rw [b1_z c107, b1_z c135, decide_eq_true hq]; simp) | (rw [b1_z c119, b1_z c123, decide_eq_true hq]; simp) | (rw [b1_z c119, b1_z c135, decide_eq_true hq]; simp)); rw [exB_f hx] at hs; rw [← hp, ← hs]; exact ⟨rfl, by rw [gset_set, dT_end]⟩)
                · have hq : q < tp.length := Nat.lt_of_not_le fun h => c103 (nI_le h (by omega))
                  obtain ⟨k, rfl⟩ : ∃ k0, k = k0 + 1 := ⟨k - 1, by omega⟩
                  refine xj_iload_n dX0_next_106 rfl ?_
                  refine xj_if_eq (tgt := 122) dX0_next_107 rfl (fun c107 => ?_) (fun c107 => ?_)
                  · refine xj_iload_n dX0_next_122 rfl ?_
                    refine xj_if_eq (tgt := 144) dX0_next_123 rfl (fun c123 => ?_) (fun c123 => ?_)
                    · refine xj_aload_n dX0_next_144 rfl rfl ?_
                      refine xj_iload_n dX0_next_145 rfl ?_
                      refine xj_put dX0_next_146 K0 19 (by decide) q488 rfl rfl hOx (Nat.le_of_ble_eq_true rfl) ?_
                      exact xj_return dX0_next_149 rfl (by have hx : exB tp (isLt (tp.getD p 0)) (isDg (tp.getD p 0)) q = false := (by unfold exB; first | (rw [decide_eq_false (fun h => absurd c103 (nI_ge h (by omega)))]; rfl) | (rw [b1_z c107, b1_z c123, decide_eq_true hq]; rfl) | (rw [b1_z c107, b1_z c135, decide_eq_true hq]; simp) | (rw [b1_z c119, b1_z c123, decide_eq_true hq]; simp) | (rw [b1_z c119, b1_z c135, decide_eq_true hq]; simp)); rw [exB_f hx] at hs; rw [← hp, ← hs]; exact ⟨rfl, by rw [gset_set, dT_end]⟩)
                    · refine xj_aload_n dX0_next_126 rfl rfl ?_
                      refine xj_get dX0_next_127 K0 16 (by decide) q485 hOx rfl ?_
                      refine xj_iload_n dX0_next_130 rfl ?_
                      refine xj_bald dX0_next_131 k19 rfl (by omega) (tpB_at hLT hq).1 ?_
                      refine xj_cS dX0_next_132 q1025 kS_X0_isDigit (A_isDigit (tpB_at hLT hq).2) rfl rfl (Nat.le_of_ble_eq_true rfl) ⟨(Nat.le_of_ble_eq_true rfl), (Nat.le_of_ble_eq_true rfl)⟩ (Nat.le_of_ble_eq_true rfl) (Nat.le_of_ble_eq_true rfl) ?_
                      refine xj_if_eq (tgt := 144) dX0_next_135 rfl (fun c135 => ?_) (fun c135 => ?_)
                      · refine xj_aload_n dX0_next_144 rfl rfl ?_
                        refine xj_iload_n dX0_next_145 rfl ?_
                        refine xj_put dX0_next_146 K0 19 (by decide) q488 rfl rfl hOx (Nat.le_of_ble_eq_true rfl) ?_
                        exact xj_return dX0_next_149 rfl (by have hx : exB tp (isLt (tp.getD p 0)) (isDg (tp.getD p 0)) q = false := (by unfold exB; first | (rw [decide_eq_false (fun h => absurd c103 (nI_ge h (by omega)))]; rfl) | (rw [b1_z c107, b1_z c123, decide_eq_true hq]; rfl) | (rw [b1_z c107, b1_z c135, decide_eq_true hq]; simp) | (rw [b1_z c119, b1_z c123, decide_eq_true hq]; simp) | (rw [b1_z c119, b1_z c135, decide_eq_true hq]; simp)); rw [exB_f hx] at hs; rw [← hp, ← hs]; exact ⟨rfl, by rw [gset_set, dT_end]⟩)
                      · refine xj_iinc1 (cst := 1) dX0_next_138 rfl rfl ?_
                        rw [nI_1]
                        have hx : exB tp (isLt (tp.getD p 0)) (isDg (tp.getD p 0)) q = true := by
                          unfold exB
                          rw [decide_eq_true hq]
                          first
                          | (rw [b1_nz c107, b1_nz c119]; rfl)
                          | (rw [b1_nz c123, b1_nz c135]; simp)
                        have hs : (if exB tp (isLt (tp.getD p 0)) (isDg (tp.getD p 0)) q then exF tp (isLt (tp.getD p 0)) (isDg (tp.getD p 0)) k (q + 1) else q) = nxT tp t := hs
                        rw [if_pos hx] at hs
                        refine xj_goto (tgt := 98) dX0_next_141 rfl ?_
                        exact ih_lq k (q + 1) (by omega) (by omega) hs
                  · refine xj_aload_n dX0_next_110 rfl rfl ?_
                    refine xj_get dX0_next_111 K0 16 (by decide) q485 hOx rfl ?_
                    refine xj_iload_n dX0_next_114 rfl ?_
                    refine xj_bald dX0_next_115 k19 rfl (by omega) (tpB_at hLT hq).1 ?_
                    refine xj_cS dX0_next_116 q1022 kS_X0_isLetter (A_isLetter (tpB_at hLT hq).2) rfl rfl (Nat.le_of_ble_eq_true rfl) ⟨(Nat.le_of_ble_eq_true rfl), (Nat.le_of_ble_eq_true rfl)⟩ (Nat.le_of_ble_eq_true rfl) (Nat.le_of_ble_eq_true rfl) ?_
                    refine xj_if_ne (tgt := 138) dX0_next_119 rfl (fun c119 => ?_) (fun c119 => ?_)
                    · refine xj_iinc1 (cst := 1) dX0_next_138 rfl rfl ?_
                      rw [nI_1]
                      have hx : exB tp (isLt (tp.getD p 0)) (isDg (tp.getD p 0)) q = true := by
                        unfold exB
                        rw [decide_eq_true hq]
                        first
                        | (rw [b1_nz c107, b1_nz c119]; rfl)
                        | (rw [b1_nz c123, b1_nz c135]; simp)
                      have hs : (if exB tp (isLt (tp.getD p 0)) (isDg (tp.getD p 0)) q then exF tp (isLt (tp.getD p 0)) (isDg (tp.getD p 0)) k (q + 1) else q) = nxT tp t := hs
                      rw [if_pos hx] at hs
                      refine xj_goto (tgt := 98) dX0_next_141 rfl ?_
                      exact ih_lq k (q + 1) (by omega) (by omega) hs
                    · refine xj_iload_n dX0_next_122 rfl ?_
                      refine xj_if_eq (tgt := 144) dX0_next_123 rfl (fun c123 => ?_) (fun c123 => ?_)
                      · refine xj_aload_n dX0_next_144 rfl rfl ?_
                        refine xj_iload_n dX0_next_145 rfl ?_
                        refine xj_put dX0_next_146 K0 19 (by decide) q488 rfl rfl hOx (Nat.le_of_ble_eq_true rfl) ?_
                        exact xj_return dX0_next_149 rfl (by have hx : exB tp (isLt (tp.getD p 0)) (isDg (tp.getD p 0)) q = false := (by unfold exB; first | (rw [decide_eq_false (fun h => absurd c103 (nI_ge h (by omega)))]; rfl) | (rw [b1_z c107, b1_z c123, decide_eq_true hq]; rfl) | (rw [b1_z c107, b1_z c135, decide_eq_true hq]; simp) | (rw [b1_z c119, b1_z c123, decide_eq_true hq]; simp) | (rw [b1_z c119, b1_z c135, decide_eq_true hq]; simp)); rw [exB_f hx] at hs; rw [← hp, ← hs]; exact ⟨rfl, by rw [gset_set, dT_end]⟩)
                      · refine xj_aload_n dX0_next_126 rfl rfl ?_
                        refine xj_get dX0_next_127 K0 16 (by decide) q485 hOx rfl ?_
                        refine xj_iload_n dX0_next_130 rfl ?_
                        refine xj_bald dX0_next_131 k19 rfl (by omega) (tpB_at hLT hq).1 ?_
                        refine xj_cS dX0_next_132 q1025 kS_X0_isDigit (A_isDigit (tpB_at hLT hq).2) rfl rfl (Nat.le_of_ble_eq_true rfl) ⟨(Nat.le_of_ble_eq_true rfl), (Nat.le_of_ble_eq_true rfl)⟩ (Nat.le_of_ble_eq_true rfl) (Nat.le_of_ble_eq_true rfl) ?_
                        refine xj_if_eq (tgt := 144) dX0_next_135 rfl (fun c135 => ?_) (fun c135 => ?_)
                        · refine xj_aload_n dX0_next_144 rfl rfl ?_
                          refine xj_iload_n dX0_next_145 rfl ?_
                          refine xj_put dX0_next_146 K0 19 (by decide) q488 rfl rfl hOx (Nat.le_of_ble_eq_true rfl) ?_
                          exact xj_return dX0_next_149 rfl (by have hx : exB tp (isLt (tp.getD p 0)) (isDg (tp.getD p 0)) q = false := (by unfold exB; first | (rw [decide_eq_false (fun h => absurd c103 (nI_ge h (by omega)))]; rfl) | (rw [b1_z c107, b1_z c123, decide_eq_true hq]; rfl) | (rw [b1_z c107, b1_z c135, decide_eq_true hq]; simp) | (rw [b1_z c119, b1_z c123, decide_eq_true hq]; simp) | (rw [b1_z c119, b1_z c135, decide_eq_true hq]; simp)); rw [exB_f hx] at hs; rw [← hp, ← hs]; exact ⟨rfl, by rw [gset_set, dT_end]⟩)
                        · refine xj_iinc1 (cst := 1) dX0_next_138 rfl rfl ?_
                          rw [nI_1]
                          have hx : exB tp (isLt (tp.getD p 0)) (isDg (tp.getD p 0)) q = true := by
                            unfold exB
                            rw [decide_eq_true hq]
                            first
                            | (rw [b1_nz c107, b1_nz c119]; rfl)
                            | (rw [b1_nz c123, b1_nz c135]; simp)
                          have hs : (if exB tp (isLt (tp.getD p 0)) (isDg (tp.getD p 0)) q then exF tp (isLt (tp.getD p 0)) (isDg (tp.getD p 0)) k (q + 1) else q) = nxT tp t := hs
                          rw [if_pos hx] at hs
                          refine xj_goto (tgt := 98) dX0_next_141 rfl ?_
                          exact ih_lq k (q + 1) (by omega) (by omega) hs
            exact lq (tp.length + 1) (tp.length - (p + 1)) (p + 1) (by omega) (by omega) (by rw [hp]; unfold nxT; rw [if_pos (by omega)])
        · refine xj_iinc1 (cst := 1) dX0_next_24 rfl rfl ?_
          rw [nI_1]
          rw [if_pos ⟨hq, (sb_32 _ hta.2).mp c21⟩] at hs
          refine xj_goto (tgt := 5) dX0_next_27 rfl ?_
          exact ih_lp k (p + 1) (by omega) (by omega) hs
  exact lp (tp.length + 1) (tp.length - t) t (by omega) (by omega) rfl
theorem A_isName {e : Nat} {u : UInt32} {tp : List Nat} {LT : List Int32}  (hO : G[0]? = some (cO 0 (cFs (dT d (nxF tp e) (nxT tp e))))) (hd17 : d 17 = .int (nI tp.length)) (h19 : G[19]? = some (cI 1 LT)) (hLT : tpB LT tp) (hu : u.toNat < 13) (he : e ≤ tp.length) : xMet E yX0_isName cX0_isName 3 (some FieldType.boolean) 4 0 0 [.ref 0, .float u] G (xrv (some (.int (b1 (isW tp e u.toNat)))) G) := by
  have htp := hLT.2.1
  have hl200 := hLT.1
  have hwl := f_wrd u.toNat hu
  have hwll := f_wl u.toNat hu
  have hnb := nxT_b he
  have hnf := nxF_b he
  refine xMet.of (lv := [some (.ref 0), some (.float u), none]) rfl rfl (Nat.le_of_ble_eq_true rfl) ?_
  refine xj_aload_n dX0_isName_0 rfl rfl ?_
  refine xj_get dX0_isName_1 K0 19 (by decide) q488 hO rfl ?_
  refine xj_aload_n dX0_isName_4 rfl rfl ?_
  refine xj_get dX0_isName_5 K0 18 (by decide) q487 hO rfl ?_
  refine xj_isub dX0_isName_8 ?_
  refine xj_aload_n dX0_isName_9 rfl rfl ?_
  refine xj_callX dX0_isName_10 q1049 kV_J5_length (M_strLen hu) hu rfl rfl rfl (Nat.le_of_ble_eq_true rfl) ⟨(Nat.le_of_ble_eq_true rfl), (Nat.le_of_ble_eq_true rfl)⟩ (Nat.le_of_ble_eq_true rfl) (Nat.le_of_ble_eq_true rfl) ?_
  rw [hwl.1]
  rw [pk_sub hnb.1]
  refine xj_icmp_eq (tgt := 18) dX0_isName_13 rfl (fun c13 => ?_) (fun c13 => ?_)
  · have hlen : nxT tp e - nxF tp e = (wrd u.toNat).length := (nI_eq (by omega) (by omega)).mp c13
    refine xj_ic0 dX0_isName_18 ?_
    refine xj_istn2 dX0_isName_19 rfl ?_
    have lp : ∀ (K : Nat) (k : Nat) (i : Nat), k < K → (i + k = (wrd u.toNat).length) → (isL tp (nxF tp e) (wrd u.toNat) k i true = isW tp e u.toNat) → xJ E (yX0_isName, cX0_isName, 3, (some FieldType.boolean), []) (xR 4 0 0) (xrv (some (.int (b1 (isW tp e u.toNat)))) G) 0 0 20 [some (.ref 0), some (.float u), some (.int (nI i))] [] G := by
      intro K
      induction K with
      | zero => intro k i h; exact absurd h (Nat.not_lt_zero _)
      | succ K ih_lp =>
        intro k i hK hk hs
        refine xj_iload_n dX0_isName_20 rfl ?_
        refine xj_aload_n dX0_isName_21 rfl rfl ?_
        refine xj_callX dX0_isName_22 q1049 kV_J5_length (M_strLen hu) hu rfl rfl rfl (Nat.le_of_ble_eq_true rfl) ⟨(Nat.le_of_ble_eq_true rfl), (Nat.le_of_ble_eq_true rfl)⟩ (Nat.le_of_ble_eq_true rfl) (Nat.le_of_ble_eq_true rfl) ?_
        rw [hwl.1]
        refine xj_icmp_ge (tgt := 55) dX0_isName_25 rfl (fun c25 => ?_) (fun c25 => ?_)
        · refine xj_ic1 dX0_isName_55 ?_
          exact xj_ireturn dX0_isName_56 rfl rfl (xrv_i (by have hk0 : k = 0 := (by have := Nat.le_of_not_lt fun h => absurd c25 (nI_ge h (by omega)); omega); subst hk0; rw [← hs]; rfl))
        · have hil : i < (wrd u.toNat).length := Nat.lt_of_not_le fun h => c25 (nI_le h (by omega))
          obtain ⟨k, rfl⟩ : ∃ k0, k = k0 + 1 := ⟨k - 1, by omega⟩
          have hs : isL tp (nxF tp e) (wrd u.toNat) k (i + 1) (tp.getD (nxF tp e + i) 0 == (wrd u.toNat).getD i 0) = isW tp e u.toNat := hs
          have hta := tpB_at hLT (p := nxF tp e + i) (by omega)
          have hwb := f_wa u.toNat hu i (by omega)
          refine xj_aload_n dX0_isName_28 rfl rfl ?_
          refine xj_get dX0_isName_29 K0 16 (by decide) q485 hO rfl ?_
          refine xj_aload_n dX0_isName_32 rfl rfl ?_
          refine xj_get dX0_isName_33 K0 18 (by decide) q487 hO rfl ?_
          refine xj_iload_n dX0_isName_36 rfl ?_
          refine xj_iadd dX0_isName_37 ?_
          refine xj_bald dX0_isName_38 h19 (nI_add _ _) (by omega) hta.1 ?_
          refine xj_aload_n dX0_isName_39 rfl rfl ?_
          refine xj_iload_n dX0_isName_40 rfl ?_
          refine xj_callX dX0_isName_41 q1059 kV_J5_charAt (M_charAt hu (by rw [hwl.1]; exact hil)) hu rfl rfl rfl (Nat.le_of_ble_eq_true rfl) ⟨(Nat.le_of_ble_eq_true rfl), (Nat.le_of_ble_eq_true rfl)⟩ (Nat.le_of_ble_eq_true rfl) (Nat.le_of_ble_eq_true rfl) ?_
          rw [hwl.2 i (by omega)]
          refine xj_icmp_eq (tgt := 49) dX0_isName_44 rfl (fun c44 => ?_) (fun c44 => ?_)
          · rw [show (tp.getD (nxF tp e + i) 0 == (wrd u.toNat).getD i 0) = true from beq_iff_eq.mpr ((sb_eq hta.2 hwb).mp c44)] at hs
            refine xj_iinc2 (cst := 1) dX0_isName_49 rfl rfl ?_
            rw [nI_1]
            refine xj_goto (tgt := 20) dX0_isName_52 rfl ?_
            exact ih_lp k (i + 1) (by omega) (by omega) hs
          · refine xj_ic0 dX0_isName_47 ?_
            exact xj_ireturn dX0_isName_48 rfl rfl (xrv_i (by rw [show (tp.getD (nxF tp e + i) 0 == (wrd u.toNat).getD i 0) = false from beq_eq_false_iff_ne.mpr (fun h => c44 ((sb_eq hta.2 hwb).mpr h)), isL_f] at hs; rw [← hs]; rfl))
    exact lp 7 (wrd u.toNat).length 0 (by omega) (by omega) (by have := isW_ok (k := u.toNat) he; rwa [decide_eq_true hlen] at this)
  · refine xj_ic0 dX0_isName_16 ?_
    exact xj_ireturn dX0_isName_17 rfl rfl (xrv_i (by have := isW_ok (k := u.toNat) he; rw [decide_eq_false (fun h => c13 (by rw [h])), isL_f] at this; rw [← this]; rfl))
end A48
