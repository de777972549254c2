/-! ===== the class: conditions held ===== -/
set_option maxRecDepth 100000
theorem kV_X16_of : xsV yX16_of cX16_of 2 (some FieldType.int) 1 := ⟨q1211, q1212, q179, q1213, by decide, by decide, by decide +kernel⟩
theorem kU_X15_X14_X15_holds : xsU "CoarserOrders$Not" "CoarserOrders$Cond" ⟨"CoarserOrders$Cond", "holds", "([I)Z"⟩ yX15_holds cX15_holds 2 (some FieldType.boolean) 1 := ⟨q1203, Or.inl q1202, q1221, q1214, q178, q1215, by decide, by decide +kernel⟩
theorem kU_X17_X14_X17_holds : xsU "CoarserOrders$Asks" "CoarserOrders$Cond" ⟨"CoarserOrders$Cond", "holds", "([I)Z"⟩ yX17_holds cX17_holds 4 (some FieldType.boolean) 1 := ⟨q1203, Or.inl q1202, q1220, q1208, q180, q1209, by decide, by decide +kernel⟩
theorem kU_X18_X14_X18_holds : xsU "CoarserOrders$All" "CoarserOrders$Cond" ⟨"CoarserOrders$Cond", "holds", "([I)Z"⟩ yX18_holds cX18_holds 2 (some FieldType.boolean) 1 := ⟨q1203, Or.inl q1202, q1204, q1205, q181, q1206, by decide, by decide +kernel⟩
theorem kU_X19_X14_X19_holds : xsU "CoarserOrders$Some" "CoarserOrders$Cond" ⟨"CoarserOrders$Cond", "holds", "([I)Z"⟩ yX19_holds cX19_holds 2 (some FieldType.boolean) 1 := ⟨q1203, Or.inl q1202, q1222, q1217, q182, q1218, by decide, by decide +kernel⟩
theorem ev_app {n a : Nat} : ∀ (c1 c2 st : List Int32), ev n a (c1 ++ c2) st = ev n a c2 (ev n a c1 st) := by
  intro c1
  induction c1 with
  | nil => intro c2 st; rfl
  | cons v c1 ih => intro c2 st; exact ih c2 _
theorem ev_asks {n a : Nat} {v1 v2 sg : Int32} {st : List Int32} (h1 : -6 < v1) (h2 : -6 < v2) (hs : ¬ -6 < sg ∧ sg ≠ -9) : ev n a [v1, v2, sg] st = b1 (soB sg (fac n a v1) (fac n a v2)) :: st := by
  show evS n a sg (evS n a v2 (evS n a v1 st)) = _
  have e : ∀ v s, -6 < v → evS n a v s = fac n a v :: s := fun v s h => by unfold evS; rw [if_pos h]
  rw [e v1 st h1, e v2 _ h2]
  unfold evS
  rw [if_neg hs.1, if_neg hs.2]; rfl
theorem ev_not {n a : Nat} {b : Bool} {st : List Int32} : ev n a [-9] (b1 b :: st) = b1 (!b) :: st := by
  show evS n a (-9) (b1 b :: st) = _
  unfold evS
  rw [if_neg (by decide), if_pos rfl]
  have e : (1 : Int32) - b1 b = b1 (!b) := by cases b <;> decide
  show ((1 : Int32) - b1 b) :: st = _
  rw [e]
def hMt (E : xE) (G : xH) (l a : Nat) (b : Bool) : Prop := (∃ fs, G[a]? = some (cO 15 fs) ∧ xMet E yX15_holds cX15_holds 2 (some FieldType.boolean) l 0 0 [.ref a, .ref 20] G (xrv (some (.int (b1 b))) G)) ∨ (∃ fs, G[a]? = some (cO 17 fs) ∧ xMet E yX17_holds cX17_holds 4 (some FieldType.boolean) l 0 0 [.ref a, .ref 20] G (xrv (some (.int (b1 b))) G)) ∨ (∃ fs, G[a]? = some (cO 18 fs) ∧ xMet E yX18_holds cX18_holds 2 (some FieldType.boolean) l 0 0 [.ref a, .ref 20] G (xrv (some (.int (b1 b))) G)) ∨ (∃ fs, G[a]? = some (cO 19 fs) ∧ xMet E yX19_holds cX19_holds 2 (some FieldType.boolean) l 0 0 [.ref a, .ref 20] G (xrv (some (.int (b1 b))) G))
section A56
variable {E : xE} {G : xH} {d : Nat → Value} {n : Nat}
theorem xj_hold {I : xI} {R : Room} {Φ : xOut → xH → Prop} {nc ns pc idx l a : Nat} {lv : List (Option Value)} {rest : List Value} {b : Bool} (hd : decode I.2.1 pc = .ok (.invokevirtual idx, 3)) (w1 : Cond.methodLink I.1.cls idx ⟨"CoarserOrders$Cond", "holds", "([I)Z"⟩ ∈ lw_all) (hM : hMt E G l a b) (hrest : (rest.map fun v => v.category).sum ≤ 8) (hR : ∀ mL, mL ≤ 4 → l + 41 ≤ R.frames ∧ 11019 + mL + 64 * l ≤ R.locals) (k : xJ E I R Φ nc ns (pc + 3) lv (.int (b1 b) :: rest) G) : xJ E I R Φ nc ns pc lv (.ref 20 :: .ref a :: rest) G := by
  rcases hM with ⟨fs, h1, h2⟩ | ⟨fs, h1, h2⟩ | ⟨fs, h1, h2⟩ | ⟨fs, h1, h2⟩
  · exact xj_cU hd w1 kU_X15_X14_X15_holds h2 h1 rfl rfl rfl hrest (hR _ (by decide)) (Nat.zero_le _) (Nat.zero_le _) k
  · exact xj_cU hd w1 kU_X17_X14_X17_holds h2 h1 rfl rfl rfl hrest (hR _ (by decide)) (Nat.zero_le _) (Nat.zero_le _) k
  · exact xj_cU hd w1 kU_X18_X14_X18_holds h2 h1 rfl rfl rfl hrest (hR _ (by decide)) (Nat.zero_le _) (Nat.zero_le _) k
  · exact xj_cU hd w1 kU_X19_X14_X19_holds h2 h1 rfl rfl rfl hrest (hR _ (by decide)) (Nat.zero_le _) (Nat.zero_le _) k
theorem A_holds {j : Nat} (h20 : G[20]? = some (cI 0 [nI (aL n j), nI (aH n j), nI (lf n j), nI (bw n j - lf n j), nI n])) : ∀ (k a : Nat) (c : List Int32), cnd G k a c → ∃ b, (∀ st, ev n j c st = b1 b :: st) ∧ hMt E G (k + 1) a b := by
  intro k
  induction k with
  | zero => intro a c h; exact h.elim
  | succ k ih =>
    intro a c h
    rcases h with ⟨x, y, s, v1, v2, sg, h1, h2, h3, ⟨hs, g1, g2⟩, rfl⟩ | ⟨x, c1, h1, hc1, rfl⟩ | ⟨x, y, c1, c2, h1, hc1, hc2, rfl⟩ | ⟨x, y, c1, c2, h1, hc1, hc2, rfl⟩
    · refine ⟨soB sg (fac n j v1) (fac n j v2), fun st => ev_asks g1 g2 (by rcases hs with ⟨-, rfl⟩ | ⟨-, rfl⟩ | ⟨-, rfl⟩ <;> decide), Or.inr (Or.inl ⟨_, h1, ?_⟩)⟩
      rcases hs with ⟨rfl, rfl⟩ | ⟨rfl, rfl⟩ | ⟨rfl, rfl⟩
      · refine xMet.of (lv := [some (.ref a), some (.ref 20), none, none]) rfl rfl (Nat.le_of_ble_eq_true rfl) ?_
        refine xj_aload_n dX17_holds_0 rfl rfl ?_
        refine xj_get dX17_holds_1 K17 0 (by decide) q1157 h1 rfl ?_
        refine xj_aload_n dX17_holds_4 rfl rfl ?_
        refine xj_cV dX17_holds_5 q1210 kV_X16_of (A_valueOf h2 h20 g1) h2 rfl rfl rfl rfl (Nat.le_of_ble_eq_true rfl) (xR_ok (by omega) (by decide)) (Nat.le_of_ble_eq_true rfl) (Nat.le_of_ble_eq_true rfl) ?_
        refine xj_istn2 dX17_holds_8 rfl ?_
        refine xj_aload_n dX17_holds_9 rfl rfl ?_
        refine xj_get dX17_holds_10 K17 1 (by decide) q1158 h1 rfl ?_
        refine xj_aload_n dX17_holds_13 rfl rfl ?_
        refine xj_cV dX17_holds_14 q1210 kV_X16_of (A_valueOf h3 h20 g2) h3 rfl rfl rfl rfl (Nat.le_of_ble_eq_true rfl) (xR_ok (by omega) (by decide)) (Nat.le_of_ble_eq_true rfl) (Nat.le_of_ble_eq_true rfl) ?_
        refine xj_istn3 dX17_holds_17 rfl ?_
        refine xj_aload_n dX17_holds_18 rfl rfl ?_
        refine xj_get dX17_holds_19 K17 2 (by decide) q1159 h1 rfl ?_
        refine xj_bipush (v := 60) dX17_holds_22 rfl ?_
        refine xj_icmp_ne (tgt := 40) dX17_holds_24 rfl (fun c24 => absurd rfl c24) (fun c24 => ?_)
        refine xj_iload_n dX17_holds_27 rfl ?_
        refine xj_iload_n dX17_holds_28 rfl ?_
        refine xj_icmp_ge (tgt := 36) dX17_holds_29 rfl (fun c29 => ?_) (fun c29 => ?_)
        · refine xj_ic0 dX17_holds_36 ?_
          refine xj_goto (tgt := 72) dX17_holds_37 rfl ?_
          exact xj_ireturn dX17_holds_72 rfl rfl (xrv_i (by first | (rw [show soB (-6) (fac n j v1) (fac n j v2) = decide (fac n j v1 < fac n j v2) from rfl, decide_eq_true (Int32.not_le.mp c29)]; rfl) | (rw [show soB (-6) (fac n j v1) (fac n j v2) = decide (fac n j v1 < fac n j v2) from rfl, decide_eq_false (Int32.not_lt.mpr c29)]; rfl)))
        · refine xj_ic1 dX17_holds_32 ?_
          refine xj_goto (tgt := 72) dX17_holds_33 rfl ?_
          exact xj_ireturn dX17_holds_72 rfl rfl (xrv_i (by first | (rw [show soB (-6) (fac n j v1) (fac n j v2) = decide (fac n j v1 < fac n j v2) from rfl, decide_eq_true (Int32.not_le.mp c29)]; rfl) | (rw [show soB (-6) (fac n j v1) (fac n j v2) = decide (fac n j v1 < fac n j v2) from rfl, decide_eq_false (Int32.not_lt.mpr c29)]; rfl)))
      · refine xMet.of (lv := [some (.ref a), some (.ref 20), none, none]) rfl rfl (Nat.le_of_ble_eq_true rfl) ?_
        refine xj_aload_n dX17_holds_0 rfl rfl ?_
        refine xj_get dX17_holds_1 K17 0 (by decide) q1157 h1 rfl ?_
        refine xj_aload_n dX17_holds_4 rfl rfl ?_
        refine xj_cV dX17_holds_5 q1210 kV_X16_of (A_valueOf h2 h20 g1) h2 rfl rfl rfl rfl (Nat.le_of_ble_eq_true rfl) (xR_ok (by omega) (by decide)) (Nat.le_of_ble_eq_true rfl) (Nat.le_of_ble_eq_true rfl) ?_
        refine xj_istn2 dX17_holds_8 rfl ?_
        refine xj_aload_n dX17_holds_9 rfl rfl ?_
        refine xj_get dX17_holds_10 K17 1 (by decide) q1158 h1 rfl ?_
        refine xj_aload_n dX17_holds_13 rfl rfl ?_
        refine xj_cV dX17_holds_14 q1210 kV_X16_of (A_valueOf h3 h20 g2) h3 rfl rfl rfl rfl (Nat.le_of_ble_eq_true rfl) (xR_ok (by omega) (by decide)) (Nat.le_of_ble_eq_true rfl) (Nat.le_of_ble_eq_true rfl) ?_
        refine xj_istn3 dX17_holds_17 rfl ?_
        refine xj_aload_n dX17_holds_18 rfl rfl ?_
        refine xj_get dX17_holds_19 K17 2 (by decide) q1159 h1 rfl ?_
        refine xj_bipush (v := 60) dX17_holds_22 rfl ?_
        refine xj_icmp_ne (tgt := 40) dX17_holds_24 rfl (fun c24 => ?_) (fun c24 => absurd c24 (by decide))
        refine xj_aload_n dX17_holds_40 rfl rfl ?_
        refine xj_get dX17_holds_41 K17 2 (by decide) q1159 h1 rfl ?_
        refine xj_bipush (v := 61) dX17_holds_44 rfl ?_
        refine xj_icmp_ne (tgt := 62) dX17_holds_46 rfl (fun c46 => absurd rfl c46) (fun c46 => ?_)
        refine xj_iload_n dX17_holds_49 rfl ?_
        refine xj_iload_n dX17_holds_50 rfl ?_
        refine xj_icmp_ne (tgt := 58) dX17_holds_51 rfl (fun c51 => ?_) (fun c51 => ?_)
        · refine xj_ic0 dX17_holds_58 ?_
          refine xj_goto (tgt := 72) dX17_holds_59 rfl ?_
          exact xj_ireturn dX17_holds_72 rfl rfl (xrv_i (by first | (rw [show soB (-7) (fac n j v1) (fac n j v2) = decide (fac n j v1 = fac n j v2) from rfl, decide_eq_true c51]; rfl) | (rw [show soB (-7) (fac n j v1) (fac n j v2) = decide (fac n j v1 = fac n j v2) from rfl, decide_eq_false c51]; rfl)))
        · refine xj_ic1 dX17_holds_54 ?_
          refine xj_goto (tgt := 72) dX17_holds_55 rfl ?_
          exact xj_ireturn dX17_holds_72 rfl rfl (xrv_i (by first | (rw [show soB (-7) (fac n j v1) (fac n j v2) = decide (fac n j v1 = fac n j v2) from rfl, decide_eq_true c51]; rfl) | (rw [show soB (-7) (fac n j v1) (fac n j v2) = decide (fac n j v1 = fac n j v2) from rfl, decide_eq_false c51]; rfl)))
      · refine xMet.of (lv := [some (.ref a), some (.ref 20), none, none]) rfl rfl (Nat.le_of_ble_eq_true rfl) ?_
        refine xj_aload_n dX17_holds_0 rfl rfl ?_
        refine xj_get dX17_holds_1 K17 0 (by decide) q1157 h1 rfl ?_
        refine xj_aload_n dX17_holds_4 rfl rfl ?_
        refine xj_cV dX17_holds_5 q1210 kV_X16_of (A_valueOf h2 h20 g1) h2 rfl rfl rfl rfl (Nat.le_of_ble_eq_true rfl) (xR_ok (by omega) (by decide)) (Nat.le_of_ble_eq_true rfl) (Nat.le_of_ble_eq_true rfl) ?_
        refine xj_istn2 dX17_holds_8 rfl ?_
        refine xj_aload_n dX17_holds_9 rfl rfl ?_
        refine xj_get dX17_holds_10 K17 1 (by decide) q1158 h1 rfl ?_
        refine xj_aload_n dX17_holds_13 rfl rfl ?_
        refine xj_cV dX17_holds_14 q1210 kV_X16_of (A_valueOf h3 h20 g2) h3 rfl rfl rfl rfl (Nat.le_of_ble_eq_true rfl) (xR_ok (by omega) (by decide)) (Nat.le_of_ble_eq_true rfl) (Nat.le_of_ble_eq_true rfl) ?_
        refine xj_istn3 dX17_holds_17 rfl ?_
        refine xj_aload_n dX17_holds_18 rfl rfl ?_
        refine xj_get dX17_holds_19 K17 2 (by decide) q1159 h1 rfl ?_
        refine xj_bipush (v := 60) dX17_holds_22 rfl ?_
        refine xj_icmp_ne (tgt := 40) dX17_holds_24 rfl (fun c24 => ?_) (fun c24 => absurd c24 (by decide))
        refine xj_aload_n dX17_holds_40 rfl rfl ?_
        refine xj_get dX17_holds_41 K17 2 (by decide) q1159 h1 rfl ?_
        refine xj_bipush (v := 61) dX17_holds_44 rfl ?_
        refine xj_icmp_ne (tgt := 62) dX17_holds_46 rfl (fun c46 => ?_) (fun c46 => absurd c46 (by decide))
        refine xj_iload_n dX17_holds_62 rfl ?_
        refine xj_iload_n dX17_holds_63 rfl ?_
        refine xj_icmp_le (tgt := 71) dX17_holds_64 rfl (fun c64 => ?_) (fun c64 => ?_)
        · refine xj_ic0 dX17_holds_71 ?_
          exact xj_ireturn dX17_holds_72 rfl rfl (xrv_i (by first | (rw [show soB (-8) (fac n j v1) (fac n j v2) = decide (fac n j v2 < fac n j v1) from rfl, decide_eq_true (Int32.not_le.mp c64)]; rfl) | (rw [show soB (-8) (fac n j v1) (fac n j v2) = decide (fac n j v2 < fac n j v1) from rfl, decide_eq_false (Int32.not_lt.mpr c64)]; rfl)))
        · refine xj_ic1 dX17_holds_67 ?_
          refine xj_goto (tgt := 72) dX17_holds_68 rfl ?_
          exact xj_ireturn dX17_holds_72 rfl rfl (xrv_i (by first | (rw [show soB (-8) (fac n j v1) (fac n j v2) = decide (fac n j v2 < fac n j v1) from rfl, decide_eq_true (Int32.not_le.mp c64)]; rfl) | (rw [show soB (-8) (fac n j v1) (fac n j v2) = decide (fac n j v2 < fac n j v1) from rfl, decide_eq_false (Int32.not_lt.mpr c64)]; rfl)))
    · obtain ⟨b, he, hm⟩ := ih x c1 hc1
      refine ⟨!b, fun st => by rw [ev_app, he, ev_not], Or.inl ⟨_, h1, ?_⟩⟩
      refine xMet.of (lv := [some (.ref a), some (.ref 20)]) rfl rfl (Nat.le_of_ble_eq_true rfl) ?_
      refine xj_aload_n dX15_holds_0 rfl rfl ?_
      refine xj_get dX15_holds_1 K15 0 (by decide) q1106 h1 rfl ?_
      refine xj_aload_n dX15_holds_4 rfl rfl ?_
      refine xj_hold dX15_holds_5 q1216 hm (Nat.le_of_ble_eq_true rfl) (fun mL h => xR_ok (by omega) (by omega)) ?_
      refine xj_if_ne (tgt := 15) dX15_holds_8 rfl (fun c8 => ?_) (fun c8 => ?_)
      · refine xj_ic0 dX15_holds_15 ?_
        exact xj_ireturn dX15_holds_16 rfl rfl (xrv_i (by first | (rw [b1_nz c8]; rfl) | (rw [b1_z c8]; rfl)))
      · refine xj_ic1 dX15_holds_11 ?_
        refine xj_goto (tgt := 16) dX15_holds_12 rfl ?_
        exact xj_ireturn dX15_holds_16 rfl rfl (xrv_i (by first | (rw [b1_nz c8]; rfl) | (rw [b1_z c8]; rfl)))
    · obtain ⟨b, he1, hm1⟩ := ih x c1 hc1
      obtain ⟨b', he2, hm2⟩ := ih y c2 hc2
      refine ⟨b && b', fun st => by rw [ev_app, ev_app, he1, he2]; cases b <;> cases b' <;> rfl, Or.inr (Or.inr (Or.inl ⟨_, h1, ?_⟩))⟩
      refine xMet.of (lv := [some (.ref a), some (.ref 20)]) rfl rfl (Nat.le_of_ble_eq_true rfl) ?_
      refine xj_aload_n dX18_holds_0 rfl rfl ?_
      refine xj_get dX18_holds_1 K18 0 (by decide) q1174 h1 rfl ?_
      refine xj_aload_n dX18_holds_4 rfl rfl ?_
      refine xj_hold dX18_holds_5 q1207 hm1 (Nat.le_of_ble_eq_true rfl) (fun mL h => xR_ok (by omega) (by omega)) ?_
      refine xj_if_eq (tgt := 26) dX18_holds_8 rfl (fun c8 => ?_) (fun c8 => ?_)
      · refine xj_ic0 dX18_holds_26 ?_
        exact xj_ireturn dX18_holds_27 rfl rfl (xrv_i (by first | (rw [b1_nz c8, b1_nz c19]; rfl) | (rw [b1_z c8]; rfl) | (rw [b1_nz c8, b1_z c19]; rfl)))
      · refine xj_aload_n dX18_holds_11 rfl rfl ?_
        refine xj_get dX18_holds_12 K18 1 (by decide) q1177 h1 rfl ?_
        refine xj_aload_n dX18_holds_15 rfl rfl ?_
        refine xj_hold dX18_holds_16 q1207 hm2 (Nat.le_of_ble_eq_true rfl) (fun mL h => xR_ok (by omega) (by omega)) ?_
        refine xj_if_eq (tgt := 26) dX18_holds_19 rfl (fun c19 => ?_) (fun c19 => ?_)
        · refine xj_ic0 dX18_holds_26 ?_
          exact xj_ireturn dX18_holds_27 rfl rfl (xrv_i (by first | (rw [b1_nz c8, b1_nz c19]; rfl) | (rw [b1_z c8]; rfl) | (rw [b1_nz c8, b1_z c19]; rfl)))
        · refine xj_ic1 dX18_holds_22 ?_
          refine xj_goto (tgt := 27) dX18_holds_23 rfl ?_
          exact xj_ireturn dX18_holds_27 rfl rfl (xrv_i (by first | (rw [b1_nz c8, b1_nz c19]; rfl) | (rw [b1_z c8]; rfl) | (rw [b1_nz c8, b1_z c19]; rfl)))
    · obtain ⟨b, he1, hm1⟩ := ih x c1 hc1
      obtain ⟨b', he2, hm2⟩ := ih y c2 hc2
      refine ⟨b || b', fun st => by rw [ev_app, ev_app, he1, he2]; cases b <;> cases b' <;> rfl, Or.inr (Or.inr (Or.inr ⟨_, h1, ?_⟩))⟩
      refine xMet.of (lv := [some (.ref a), some (.ref 20)]) rfl rfl (Nat.le_of_ble_eq_true rfl) ?_
      refine xj_aload_n dX19_holds_0 rfl rfl ?_
      refine xj_getS dX19_holds_1 K19 0 (by decide) q1175 q1176 h1 rfl ?_
      refine xj_aload_n dX19_holds_4 rfl rfl ?_
      refine xj_hold dX19_holds_5 q1219 hm1 (Nat.le_of_ble_eq_true rfl) (fun mL h => xR_ok (by omega) (by omega)) ?_
      refine xj_if_ne (tgt := 22) dX19_holds_8 rfl (fun c8 => ?_) (fun c8 => ?_)
      · refine xj_ic1 dX19_holds_22 ?_
        refine xj_goto (tgt := 27) dX19_holds_23 rfl ?_
        exact xj_ireturn dX19_holds_27 rfl rfl (xrv_i (by first | (rw [b1_nz c8]; rfl) | (rw [b1_z c8, b1_nz c19]; rfl) | (rw [b1_z c8, b1_z c19]; rfl)))
      · refine xj_aload_n dX19_holds_11 rfl rfl ?_
        refine xj_getS dX19_holds_12 K19 1 (by decide) q1178 q1179 h1 rfl ?_
        refine xj_aload_n dX19_holds_15 rfl rfl ?_
        refine xj_hold dX19_holds_16 q1219 hm2 (Nat.le_of_ble_eq_true rfl) (fun mL h => xR_ok (by omega) (by omega)) ?_
        refine xj_if_eq (tgt := 26) dX19_holds_19 rfl (fun c19 => ?_) (fun c19 => ?_)
        · refine xj_ic0 dX19_holds_26 ?_
          exact xj_ireturn dX19_holds_27 rfl rfl (xrv_i (by first | (rw [b1_nz c8]; rfl) | (rw [b1_z c8, b1_nz c19]; rfl) | (rw [b1_z c8, b1_z c19]; rfl)))
        · refine xj_ic1 dX19_holds_22 ?_
          refine xj_goto (tgt := 27) dX19_holds_23 rfl ?_
          exact xj_ireturn dX19_holds_27 rfl rfl (xrv_i (by first | (rw [b1_nz c8]; rfl) | (rw [b1_z c8, b1_nz c19]; rfl) | (rw [b1_z c8, b1_z c19]; rfl)))
end A56
