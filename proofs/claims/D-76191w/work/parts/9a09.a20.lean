/-! ===== the class: arcs go on ===== -/
set_option maxRecDepth 100000
theorem kS_X6_goesOn : xsS yX6_goesOn cX6_goesOn 4 (some FieldType.long) 3 := ⟨q465, q160, q466, by decide, by decide, by decide +kernel⟩
theorem kV_X6_lefts : xsV yX6_lefts cX6_lefts 1 (some FieldType.int) 0 := ⟨q947, q948, q160, q949, by decide, by decide, by decide +kernel⟩
theorem kV_X6_with : xsV yX6_with cX6_with 6 (some FieldType.long) 2 := ⟨q461, q462, q160, q463, by decide, by decide, by decide +kernel⟩
theorem kS_J7_bitCount : xsS yJ7_bitCount cJ7_bitCount 1 (some FieldType.int) 1 := ⟨q951, q173, q952, by decide, by decide, by decide +kernel⟩
theorem qObjI : Cond.instanceMethod Lib.objectInit ∈ lw_all := lw_g (lw_at lw_m1 51 rfl) rfl
theorem qObjC : Cond.code Lib.objectInit ⟨#[0xb1]⟩ 1 none ∈ lw_all := lw_g (lw_at lw_m1 52 rfl) rfl
theorem lval_c1 {n B k i : Nat} {st : List Value} (h : st = [lval n B k i]) : (st.map fun v => v.category).sum ≤ 8 := by
  rw [h]
  unfold lval
  cases lk n k i <;> exact Nat.le_of_ble_eq_true rfl
theorem gon_lt {n k i f s r : Nat} {t : Bool} (hn : n < 7) (hk : k < na n) (hi : i < 6) (hs : s < 2 ^ 57) (h : gOn (wth n t f) (lk n k i) (some s) = some r) : r < 2 ^ 57 := by
  cases ho : lk n k i with
  | none => rw [ho] at h; cases h; exact hs
  | some j => rw [ho] at h; exact wth_lt hn f s j r hs (lk_lt hn hk hi ho) h
section A20
variable {E : xE} {G : xH} {d e : Nat → Value} {n : Nat}
theorem A_arcInit {a : Nat} {x0 x1 x2 x3 : Int32}  (h6 : G[a]? = some (cO 6 [.int 0, .int 0, .int 0, .int 0, .null, .null, .null, .null, .null, .null, .long 0, .long 0])) : xMet E yX6_init cX6_init 5 none 0 0 0 [.ref a, .int x0, .int x1, .int x2, .int x3] G (xrv none (G.set a (cO 6 [.int x0, .int x1, .int x2, .int x3, .null, .null, .null, .null, .null, .null, .long 0, .long 0]))) := by
  refine xMet.of (lv := [some (.ref a), some (.int x0), some (.int x1), some (.int x2), some (.int x3)]) rfl rfl (Nat.le_of_ble_eq_true rfl) ?_
  refine xj_aload_n dX6_init_0 rfl rfl ?_
  refine xj_objInit dX6_init_1 q401 qObjI qObjC ⟨(Nat.le_of_ble_eq_true rfl), (Nat.le_of_ble_eq_true rfl)⟩ (Nat.le_of_ble_eq_true rfl) ?_
  refine xj_aload_n dX6_init_4 rfl rfl ?_
  refine xj_iload_n dX6_init_5 rfl ?_
  refine xj_putF dX6_init_6 K6 0 (by decide) q402 rfl rfl rfl rfl h6 (Nat.le_of_ble_eq_true rfl) ?_
  refine xj_aload_n dX6_init_9 rfl rfl ?_
  refine xj_iload_n dX6_init_10 rfl ?_
  refine xj_putF dX6_init_11 K6 1 (by decide) q403 rfl rfl rfl rfl (gset_self h6) (Nat.le_of_ble_eq_true rfl) ?_
  refine xj_aload_n dX6_init_14 rfl rfl ?_
  refine xj_iload_n dX6_init_15 rfl ?_
  refine xj_putF dX6_init_16 K6 2 (by decide) q407 rfl rfl rfl rfl (gset_self (gset_self h6)) (Nat.le_of_ble_eq_true rfl) ?_
  refine xj_aload_n dX6_init_19 rfl rfl ?_
  refine xj_iload dX6_init_20 rfl ?_
  refine xj_putF dX6_init_22 K6 3 (by decide) q411 rfl rfl rfl rfl (gset_self (gset_self (gset_self h6))) (Nat.le_of_ble_eq_true rfl) ?_
  exact xj_return dX6_init_25 rfl ⟨rfl, by rw [gset_set, gset_set, gset_set]; rfl⟩
theorem A_lefts {a k : Nat} {w : Nat → Value}  (h6 : G[a]? = some (cO 6 (aFs n k w))) (hn7 : n < 7) (hk : k < na n) : xMet E yX6_lefts cX6_lefts 1 (some FieldType.int) 1 0 0 [.ref a] G (xrv (some (.int (nI (lf n k)))) G) := by
  have hac := f_ac n hn7 k hk
  refine xMet.of (lv := [some (.ref a)]) rfl rfl (Nat.le_of_ble_eq_true rfl) ?_
  refine xj_aload_n dX6_lefts_0 rfl rfl ?_
  refine xj_get dX6_lefts_1 K6 3 (by decide) q411 h6 rfl ?_
  refine xj_cS dX6_lefts_4 q950 kS_J7_bitCount (M_bitCount (x := aF n k) (by omega)) rfl rfl (Nat.le_of_ble_eq_true rfl) ⟨(Nat.le_of_ble_eq_true rfl), (Nat.le_of_ble_eq_true rfl)⟩ (Nat.le_of_ble_eq_true rfl) (Nat.le_of_ble_eq_true rfl) ?_
  exact xj_ireturn dX6_lefts_7 rfl rfl ⟨rfl, rfl⟩
theorem A_rights {a k : Nat} {w : Nat → Value}  (h6 : G[a]? = some (cO 6 (aFs n k w))) (hn7 : n < 7) (hk : k < na n) : xMet E yX6_rights cX6_rights 1 (some FieldType.int) 2 0 0 [.ref a] G (xrv (some (.int (nI (bw n k - lf n k)))) G) := by
  have hac := f_ac n hn7 k hk
  have hlf := f_lf n hn7 k hk
  unfold bw at hlf
  refine xMet.of (lv := [some (.ref a)]) rfl rfl (Nat.le_of_ble_eq_true rfl) ?_
  refine xj_aload_n dX6_rights_0 rfl rfl ?_
  refine xj_get dX6_rights_1 K6 2 (by decide) q407 h6 rfl ?_
  refine xj_aload_n dX6_rights_4 rfl rfl ?_
  refine xj_get dX6_rights_5 K6 1 (by decide) q403 h6 rfl ?_
  refine xj_isub dX6_rights_8 ?_
  refine xj_ic1 dX6_rights_9 ?_
  refine xj_isub dX6_rights_10 ?_
  refine xj_aload_n dX6_rights_11 rfl rfl ?_
  refine xj_cV dX6_rights_12 q973 kV_X6_lefts (A_lefts h6 hn7 hk) h6 rfl rfl rfl rfl (Nat.le_of_ble_eq_true rfl) ⟨(Nat.le_of_ble_eq_true rfl), (Nat.le_of_ble_eq_true rfl)⟩ (Nat.le_of_ble_eq_true rfl) (Nat.le_of_ble_eq_true rfl) ?_
  refine xj_isub dX6_rights_15 ?_
  exact xj_ireturn dX6_rights_16 rfl rfl (xrv_i (by unfold bw; rw [pk_sub (by omega), nI_sub1 (by omega), pk_sub (by omega)]))
theorem A_isLeftA {a k c : Nat} {w : Nat → Value}  (h6 : G[a]? = some (cO 6 (aFs n k w))) (hn7 : n < 7) (hk : k < na n) (hc1 : aL n k < c) (hc2 : c ≤ 7) : xMet E yX6_isLeft cX6_isLeft 2 (some FieldType.boolean) 0 0 0 [.ref a, .int (nI c)] G (xrv (some (.int (b1 (lft n k c)))) G) := by
  have hac := f_ac n hn7 k hk
  refine xMet.of (lv := [some (.ref a), some (.int (nI c))]) rfl rfl (Nat.le_of_ble_eq_true rfl) ?_
  refine xj_aload_n dX6_isLeft_0 rfl rfl ?_
  refine xj_get dX6_isLeft_1 K6 3 (by decide) q411 h6 rfl ?_
  refine xj_iload_n dX6_isLeft_4 rfl ?_
  refine xj_aload_n dX6_isLeft_5 rfl rfl ?_
  refine xj_get dX6_isLeft_6 K6 1 (by decide) q403 h6 rfl ?_
  refine xj_isub dX6_isLeft_9 ?_
  refine xj_ic1 dX6_isLeft_10 ?_
  refine xj_isub dX6_isLeft_11 ?_
  refine xj_ishr dX6_isLeft_12 ?_
  rw [pk_sub (by omega), nI_sub1 (by omega)]
  refine xj_ic1 dX6_isLeft_13 ?_
  refine xj_iand dX6_isLeft_14 ?_
  rw [c_bitI (aF n k) (by omega) (c - aL n k - 1) (by omega)]
  refine xj_sI_if_le (tgt := 22) (M := 23) dX6_isLeft_15 rfl (fun c15 k => by
      refine xj_ic0 dX6_isLeft_22 ?_
      exact k) (fun c15 k => by
      refine xj_ic1 dX6_isLeft_18 ?_
      refine xj_goto (tgt := 23) dX6_isLeft_19 rfl ?_
      exact k) ?_
  exact xj_ireturn dX6_isLeft_23 rfl (by rw [b1_le]; cases (aF n k).testBit (c - aL n k - 1) <;> rfl) (xrv_i (by rw [b1_le]; unfold lft; cases (aF n k).testBit (c - aL n k - 1) <;> rfl))
theorem A_goesOnN {f s : Nat} {t : Bool}  : xMet E yX6_goesOn cX6_goesOn 4 (some FieldType.long) (2 * f + 1) 0 0 [.null, .long (lN s), .int (b1 t)] G (xrv (some (.long (lN s))) G) := by
  refine xMet.of (lv := [some (.null), some (.long (lN s)), none, some (.int (b1 t))]) rfl rfl (Nat.le_of_ble_eq_true rfl) ?_
  refine xj_aload_n dX6_goesOn_0 rfl rfl ?_
  refine xj_ifnonnull_n dX6_goesOn_1 ?_
  refine xj_lload_n dX6_goesOn_4 rfl ?_
  refine xj_goto (tgt := 14) dX6_goesOn_5 rfl ?_
  exact xj_lreturn dX6_goesOn_14 rfl ⟨rfl, rfl⟩
theorem A_goesOnR {f a s r : Nat} {t : Bool} {fs : List Value}  (h6 : G[a]? = some (cO 6 fs)) (hw : xMet E yX6_with cX6_with 6 (some .long) (2 * f) 0 0 [.ref a, .long (lN s), .int (b1 t)] G (xrv (some (.long (lN r))) G)) : xMet E yX6_goesOn cX6_goesOn 4 (some FieldType.long) (2 * f + 1) 0 0 [.ref a, .long (lN s), .int (b1 t)] G (xrv (some (.long (lN r))) G) := by
  refine xMet.of (lv := [some (.ref a), some (.long (lN s)), none, some (.int (b1 t))]) rfl rfl (Nat.le_of_ble_eq_true rfl) ?_
  refine xj_aload_n dX6_goesOn_0 rfl rfl ?_
  refine xj_ifnonnull_r (tgt := 8) dX6_goesOn_1 rfl ?_
  refine xj_aload_n dX6_goesOn_8 rfl rfl ?_
  refine xj_lload_n dX6_goesOn_9 rfl ?_
  refine xj_iload_n dX6_goesOn_10 rfl ?_
  refine xj_cV dX6_goesOn_11 q467 kV_X6_with hw h6 rfl rfl rfl rfl (Nat.le_of_ble_eq_true rfl) (xR_ok (by omega) (by decide)) (Nat.le_of_ble_eq_true rfl) (Nat.le_of_ble_eq_true rfl) ?_
  exact xj_lreturn dX6_goesOn_14 rfl ⟨rfl, rfl⟩
theorem A_goesOn {B f k i s r : Nat} {t : Bool} (hT : ∀ k, k < na n → ∃ u v, G[B + k]? = some (cO 6 (arF n B k u v))) (hn7 : n < 7) (hk : k < na n) (hi : i < 6) (hs : s < 2 ^ 57) (hr : gOn (wth n t f) (lk n k i) (some s) = some r) (ih : ∀ (s j r : Nat), s < 2 ^ 57 → j < na n → wth n t f s j = some r → xMet E yX6_with cX6_with 6 (some .long) (2 * f) 0 0 [.ref (B + j), .long (lN s), .int (b1 t)] G (xrv (some (.long (lN r))) G)) : xMet E yX6_goesOn cX6_goesOn 4 (some .long) (2 * f + 1) 0 0 [lval n B k i, .long (lN s), .int (b1 t)] G (xrv (some (.long (lN r))) G) := by
  unfold lval
  cases ho : lk n k i with
  | none => rw [ho] at hr; cases hr; exact A_goesOnN
  | some j =>
    rw [ho] at hr
    have hj := lk_lt hn7 hk hi ho
    obtain ⟨u, v, h6⟩ := hT j hj
    exact A_goesOnR h6 (ih s j r hs hj hr)
theorem A_with {B : Nat} {t : Bool} (hT : ∀ k, k < na n → ∃ u v, G[B + k]? = some (cO 6 (arF n B k u v))) (hn7 : n < 7) : ∀ (f s k r : Nat), s < 2 ^ 57 → k < na n → wth n t f s k = some r → xMet E yX6_with cX6_with 6 (some .long) (2 * f) 0 0 [.ref (B + k), .long (lN s), .int (b1 t)] G (xrv (some (.long (lN r))) G) := by
  intro f
  induction f with
  | zero => intro s k r _ _ h; cases h
  | succ f ih =>
    intro s k r hs hk hr
    have hna := na_lt n hn7
    unfold wth at hr
    obtain ⟨u, v, h6⟩ := hT k hk
    refine xMet.of (lv := [some (.ref (B + k)), some (.long (lN s)), none, some (.int (b1 t)), none, none]) rfl rfl (Nat.le_of_ble_eq_true rfl) ?_
    refine xj_lload_n dX6_with_0 rfl ?_
    refine xj_aload_n dX6_with_1 rfl rfl ?_
    refine xj_get dX6_with_2 K6 0 (by decide) q402 h6 rfl ?_
    refine xj_lushr dX6_with_5 ?_
    refine xj_lc1 dX6_with_6 ?_
    refine xj_land dX6_with_7 ?_
    refine xj_topl (x_bit (Nat.lt_trans hs (by decide)) (by omega)) ?_
    refine xj_lc0 dX6_with_8 ?_
    refine xj_lcmp dX6_with_9 ?_
    rw [l_gt0]
    refine xj_if_le (tgt := 15) dX6_with_10 rfl (fun c10 => ?_) (fun c10 => ?_)
    · have hb : ¬ s.testBit k = true := fun q => by rw [q] at c10; exact absurd c10 (by decide)
      rw [if_neg hb, fz_eq] at hr
      have hm : s ||| 2 ^ k < 2 ^ 57 := Nat.or_lt_two_pow hs (Nat.pow_lt_pow_right (by decide) (by omega))
      refine xj_lload_n dX6_with_15 rfl ?_
      refine xj_lc1 dX6_with_16 ?_
      refine xj_aload_n dX6_with_17 rfl rfl ?_
      refine xj_get dX6_with_18 K6 0 (by decide) q402 h6 rfl ?_
      refine xj_lshl dX6_with_21 ?_
      refine xj_topl (l_one_shl (by omega)) ?_
      refine xj_lor dX6_with_22 ?_
      rw [wb_or (Nat.lt_trans hs (by decide)) (Nat.pow_lt_pow_right (by decide) (by omega))]
      refine xj_lst4 dX6_with_23 rfl ?_
      refine xj_iload_n dX6_with_25 rfl ?_
      refine xj_if_ne (tgt := 48) dX6_with_26 rfl (fun c26 => ?_) (fun c26 => ?_)
      · obtain rfl : t = true := b1_nz c26
        rw [if_pos rfl] at hr
        obtain ⟨s3, e3, e4⟩ := gOn_some hr
        obtain ⟨s2, e2, e3⟩ := gOn_some e3
        obtain ⟨s1, e1, e2⟩ := gOn_some e2
        have hs1 := gon_lt hn7 hk (by decide) hm e1
        have hs2 := gon_lt hn7 hk (by decide) hs1 e2
        have hs3 := gon_lt hn7 hk (by decide) hs2 e3
        refine xj_aload_n dX6_with_48 rfl rfl ?_
        refine xj_get dX6_with_49 K6 5 (by decide) q415 h6 rfl ?_
        refine xj_aload_n dX6_with_52 rfl rfl ?_
        refine xj_get dX6_with_53 K6 4 (by decide) q413 h6 rfl ?_
        refine xj_lload dX6_with_56 rfl ?_
        refine xj_ic1 dX6_with_58 ?_
        refine xj_cS dX6_with_59 q464 kS_X6_goesOn (A_goesOn (t := true) hT hn7 hk (by decide) hm e1 ih) rfl rfl (lval_c1 rfl) (xR_ok (by omega) (by decide)) (Nat.le_of_ble_eq_true rfl) (Nat.le_of_ble_eq_true rfl) ?_
        refine xj_ic1 dX6_with_62 ?_
        refine xj_cS dX6_with_63 q464 kS_X6_goesOn (A_goesOn (t := true) hT hn7 hk (by decide) hs1 e2 ih) rfl rfl (Nat.le_of_ble_eq_true rfl) (xR_ok (by omega) (by decide)) (Nat.le_of_ble_eq_true rfl) (Nat.le_of_ble_eq_true rfl) ?_
        refine xj_lst4 dX6_with_66 rfl ?_
        refine xj_aload_n dX6_with_68 rfl rfl ?_
        refine xj_get dX6_with_69 K6 7 (by decide) q419 h6 rfl ?_
        refine xj_aload_n dX6_with_72 rfl rfl ?_
        refine xj_get dX6_with_73 K6 6 (by decide) q417 h6 rfl ?_
        refine xj_lload dX6_with_76 rfl ?_
        refine xj_ic1 dX6_with_78 ?_
        refine xj_cS dX6_with_79 q464 kS_X6_goesOn (A_goesOn (t := true) hT hn7 hk (by decide) hs2 e3 ih) rfl rfl (lval_c1 rfl) (xR_ok (by omega) (by decide)) (Nat.le_of_ble_eq_true rfl) (Nat.le_of_ble_eq_true rfl) ?_
        refine xj_ic1 dX6_with_82 ?_
        refine xj_cS dX6_with_83 q464 kS_X6_goesOn (A_goesOn (t := true) hT hn7 hk (by decide) hs3 e4 ih) rfl rfl (Nat.le_of_ble_eq_true rfl) (xR_ok (by omega) (by decide)) (Nat.le_of_ble_eq_true rfl) (Nat.le_of_ble_eq_true rfl) ?_
        exact xj_lreturn dX6_with_86 rfl ⟨rfl, rfl⟩
      · obtain rfl : t = false := b1_z c26
        rw [if_neg (by decide)] at hr
        obtain ⟨s1, e1, e2⟩ := gOn_some hr
        have hs1 := gon_lt hn7 hk (by decide) hm e1
        refine xj_aload_n dX6_with_29 rfl rfl ?_
        refine xj_get dX6_with_30 K6 9 (by decide) q423 h6 rfl ?_
        refine xj_aload_n dX6_with_33 rfl rfl ?_
        refine xj_get dX6_with_34 K6 8 (by decide) q421 h6 rfl ?_
        refine xj_lload dX6_with_37 rfl ?_
        refine xj_ic0 dX6_with_39 ?_
        refine xj_cS dX6_with_40 q464 kS_X6_goesOn (A_goesOn (t := false) hT hn7 hk (by decide) hm e1 ih) rfl rfl (lval_c1 rfl) (xR_ok (by omega) (by decide)) (Nat.le_of_ble_eq_true rfl) (Nat.le_of_ble_eq_true rfl) ?_
        refine xj_ic0 dX6_with_43 ?_
        refine xj_cS dX6_with_44 q464 kS_X6_goesOn (A_goesOn (t := false) hT hn7 hk (by decide) hs1 e2 ih) rfl rfl (Nat.le_of_ble_eq_true rfl) (xR_ok (by omega) (by decide)) (Nat.le_of_ble_eq_true rfl) (Nat.le_of_ble_eq_true rfl) ?_
        exact xj_lreturn dX6_with_47 rfl ⟨rfl, rfl⟩
    · refine xj_lload_n dX6_with_13 rfl ?_
      exact xj_lreturn dX6_with_14 rfl (by have hb : s.testBit k = true := b1_nz (fun q => c10 (by rw [q]; decide)); rw [if_pos hb] at hr; cases hr; exact ⟨rfl, rfl⟩)
end A20
