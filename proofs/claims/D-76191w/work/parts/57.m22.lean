/-! ===== the reference: how far, on ===== -/
set_option maxRecDepth 100000
theorem kV_X7_apartOf : xsV yX7_apartOf cX7_apartOf 8 (some FieldType.int) 2 := ⟨q2408, qs126, q161, q2409, by decide, by decide, by decide +kernel⟩
theorem kV_X7_climbs : xsV yX7_climbs cX7_climbs 7 none 0 := ⟨q2420, qs128, q161, q2421, by decide, by decide, by decide +kernel⟩
theorem clA_len {n g : Nat} : (clA n g).1.length = 120 ∧ (clA n g).2.length = 120 := by
  have hV : ∀ (i : Nat) (l : List Nat) (s : List Int32 × List Int32), s.1.length = 120 ∧ s.2.length = 120 → (clV n i l s).1.length = 120 ∧ (clV n i l s).2.length = 120 := by
    intro i l
    induction l with
    | nil => intro s h; exact h
    | cons v l ih =>
      intro s h
      refine ih _ ?_
      unfold clS
      rw [List.length_set, List.length_set]
      exact h
  have hI : ∀ (w k i : Nat) (s : List Int32 × List Int32), s.1.length = 120 ∧ s.2.length = 120 → (lpN (clI n g w) i k s).1.length = 120 ∧ (lpN (clI n g w) i k s).2.length = 120 := by
    intro w k
    induction k with
    | zero => intro i s h; exact h
    | succ k ih =>
      intro i s h
      refine ih (i + 1) _ ?_
      unfold clI
      split
      · exact hV _ _ _ h
      · exact h
  have hO : ∀ (k w : Nat) (s : List Int32 × List Int32), s.1.length = 120 ∧ s.2.length = 120 → (lpN (clO n g) w k s).1.length = 120 ∧ (lpN (clO n g) w k s).2.length = 120 := by
    intro k
    induction k with
    | zero => intro w s h; exact h
    | succ k ih => intro w s h; exact ih (w + 1) _ (hI w _ _ _ h)
  exact hO _ _ _ ⟨by rw [List.length_set, List.length_replicate], by rw [List.length_set, List.length_replicate]⟩
section M22
variable {E : xE} {G T : xH} {a : Nat → xC} {c : Nat → Value} {n : Nat}
theorem M_apart {x y v : Int32} {g : Nat} {X0 F0 W0 Q0 : List Int32}  (hv : kV c n a) (ha : kA n a) (hf3 : c 3 = .long (lN g)) (hg : g < 2 ^ 57) (h68 : a 68 = cI 0 X0) (h69 : a 69 = cI 0 F0) (h70 : a 70 = cI 0 W0) (h71 : a 71 = cI 0 Q0) (hX0 : X0.length = 6) (hF0 : F0.length = 120) (hW0 : W0.length = 120) (hQ0 : Q0.length = 120) (h : o_apart n g x y = some v) : xMet E yX7_apart cX7_apart 3 (some FieldType.int) 7 0 0 [.ref 54, .int x, .int y] (kG a T) (kR (some (.int v)) T (fun b => kfr [68, 69, 70, 71] a b ∧ ∃ X F W Q : List Int32, b 68 = cI 0 X ∧ b 69 = cI 0 F ∧ b 70 = cI 0 W ∧ b 71 = cI 0 Q ∧ X.length = 6 ∧ F.length = 120 ∧ W.length = 120 ∧ Q.length = 120)) := by
  obtain ⟨hO, hf0, h1n, hn6, h63, h64⟩ := id hv
  refine xMet.of (lv := [some (.ref 54), some (.int x), some (.int y)]) rfl rfl (Nat.le_of_ble_eq_true rfl) ?_
  refine xj_aload_n dX7_apart_0 rfl rfl ?_
  refine xj_iload_n dX7_apart_1 rfl ?_
  refine xj_iload_n dX7_apart_2 rfl ?_
  refine xj_cV dX7_apart_3 q2092 kV_X7_areRows (M_areRows hv.V) (kG_a (by decide) hO) rfl rfl rfl rfl (Nat.le_of_ble_eq_true rfl) ⟨(Nat.le_of_ble_eq_true rfl), (Nat.le_of_ble_eq_true rfl)⟩ (Nat.le_of_ble_eq_true rfl) (Nat.le_of_ble_eq_true rfl) ?_
  refine xj_if_ne (tgt := 13) dX7_apart_6 rfl (fun c6 => ?_) (fun c6 => ?_)
  · have hb := b1_nz c6
    obtain ⟨r1, r2, hr1, hr2, rfl, rfl⟩ := rows2 (by omega) h1n hb
    have e1 := tn_nI (by omega) hr1
    have e2 := tn_nI (by omega) hr2
    unfold o_apart at h
    rw [if_pos hb, e1, e2] at h
    refine xj_aload_n dX7_apart_13 rfl rfl ?_
    refine xj_get dX7_apart_14 K7 0 (by decide) q1929 (kG_a (by decide) hO) (congrArg some hf0) ?_
    refine xj_bipush (v := 6) dX7_apart_17 rfl ?_
    refine xj_icmp_ne (tgt := 27) dX7_apart_19 rfl (fun c19 => ?_) (fun c19 => ?_)
    · have hn5 : n < 6 := by
        have : n ≠ 6 := fun q => c19 (by rw [q]; rfl)
        omega
      rw [if_neg (by omega)] at h
      refine xj_aload_n dX7_apart_27 rfl rfl ?_
      refine xj_aload_n dX7_apart_28 rfl rfl ?_
      refine xj_iload_n dX7_apart_29 rfl ?_
      refine xj_cV dX7_apart_30 q2358 kV_X7_leastOf (M_leastOf hv.V ha.A hf3 hg hr1) (kG_a (by decide) hO) rfl rfl rfl rfl (Nat.le_of_ble_eq_true rfl) ⟨(Nat.le_of_ble_eq_true rfl), (Nat.le_of_ble_eq_true rfl)⟩ (Nat.le_of_ble_eq_true rfl) (Nat.le_of_ble_eq_true rfl) ?_
      refine xj_aload_n dX7_apart_33 rfl rfl ?_
      refine xj_iload_n dX7_apart_34 rfl ?_
      refine xj_cV dX7_apart_35 q2358 kV_X7_leastOf (M_leastOf hv.V ha.A hf3 hg hr2) (kG_a (by decide) hO) rfl rfl rfl rfl (Nat.le_of_ble_eq_true rfl) ⟨(Nat.le_of_ble_eq_true rfl), (Nat.le_of_ble_eq_true rfl)⟩ (Nat.le_of_ble_eq_true rfl) (Nat.le_of_ble_eq_true rfl) ?_
      refine xj_dV dX7_apart_38 q2406 kV_X7_apartOf (M_apartOf hv ha hf3 hg h68 h69 h70 h71 hX0 hF0 hW0 hQ0 (gos_mem' (by omega) hr1) (gos_mem' (by omega) hr2) hn5 h) (kG_a (by decide) hO) rfl rfl rfl rfl (Nat.le_of_ble_eq_true rfl) ⟨(Nat.le_of_ble_eq_true rfl), (Nat.le_of_ble_eq_true rfl)⟩ (Nat.le_of_ble_eq_true rfl) (Nat.le_of_ble_eq_true rfl) ?_
      rintro _ _ ⟨rfl, b, rfl, hb2⟩
      exact xj_ireturn dX7_apart_41 rfl rfl (by first | exact kR_i rfl hb2 | exact kR_i (by unfold o_apart at h; rw [b1_z c6] at h; exact Option.some.inj h) ⟨kfr.refl _ _, X0, F0, W0, Q0, h68, h69, h70, h71, hX0, hF0, hW0, hQ0⟩ | exact kR_i (by rw [if_pos ((nI_eq (by omega) (by decide)).mp (show nI n = nI 6 from c19))] at h; exact Option.some.inj h) ⟨kfr.refl _ _, X0, F0, W0, Q0, h68, h69, h70, h71, hX0, hF0, hW0, hQ0⟩)
    · refine xj_bipush (v := -4) dX7_apart_22 rfl ?_
      refine xj_goto (tgt := 41) dX7_apart_24 rfl ?_
      exact xj_ireturn dX7_apart_41 rfl rfl (by first | exact kR_i rfl hb2 | exact kR_i (by unfold o_apart at h; rw [b1_z c6] at h; exact Option.some.inj h) ⟨kfr.refl _ _, X0, F0, W0, Q0, h68, h69, h70, h71, hX0, hF0, hW0, hQ0⟩ | exact kR_i (by rw [if_pos ((nI_eq (by omega) (by decide)).mp (show nI n = nI 6 from c19))] at h; exact Option.some.inj h) ⟨kfr.refl _ _, X0, F0, W0, Q0, h68, h69, h70, h71, hX0, hF0, hW0, hQ0⟩)
  · refine xj_icm1 dX7_apart_9 ?_
    refine xj_goto (tgt := 41) dX7_apart_10 rfl ?_
    exact xj_ireturn dX7_apart_41 rfl rfl (by first | exact kR_i rfl hb2 | exact kR_i (by unfold o_apart at h; rw [b1_z c6] at h; exact Option.some.inj h) ⟨kfr.refl _ _, X0, F0, W0, Q0, h68, h69, h70, h71, hX0, hF0, hW0, hQ0⟩ | exact kR_i (by rw [if_pos ((nI_eq (by omega) (by decide)).mp (show nI n = nI 6 from c19))] at h; exact Option.some.inj h) ⟨kfr.refl _ _, X0, F0, W0, Q0, h68, h69, h70, h71, hX0, hF0, hW0, hQ0⟩)
theorem M_climbs {g : Nat} {X0 F0 W0 : List Int32}  (hv : kV c n a) (ha : kA n a) (hf3 : c 3 = .long (lN g)) (hg : g < 2 ^ 57) (h68 : a 68 = cI 0 X0) (h69 : a 69 = cI 0 F0) (h70 : a 70 = cI 0 W0) (hX0 : X0.length = 6) (hF0 : F0.length = 120) (hW0 : W0.length = 120) (hn5 : n < 6) : xMet E yX7_climbs cX7_climbs 7 none 6 0 0 [.ref 54] (kG a T) (kR (none) T (fun b => kfr [68, 69, 70] a b ∧ ∃ X : List Int32, X.length = 6 ∧ b 68 = cI 0 X ∧ b 69 = cI 0 (clA n g).1 ∧ b 70 = cI 0 (clA n g).2)) := by
  obtain ⟨hO, hf0, h1n, hn6, h63, h64⟩ := id hv
  have hw31 := wayN hn6
  have hw5 := f_wy5 n hn5
  have hpp := f_pp n (by omega)
  refine xMet.of (lv := [some (.ref 54), none, none, none, none, none, none]) rfl rfl (Nat.le_of_ble_eq_true rfl) ?_
  refine xj_aload_n dX7_climbs_0 rfl rfl ?_
  refine xj_dV dX7_climbs_1 q2410 kV_X7_begins (M_begins hv h69 h70 hF0 hW0) (kG_a (by decide) hO) rfl rfl rfl rfl (Nat.le_of_ble_eq_true rfl) ⟨(Nat.le_of_ble_eq_true rfl), (Nat.le_of_ble_eq_true rfl)⟩ (Nat.le_of_ble_eq_true rfl) (Nat.le_of_ble_eq_true rfl) ?_
  rintro _ _ ⟨rfl, b, rfl, rfl⟩
  refine xj_aload_n dX7_climbs_4 rfl rfl ?_
  refine xj_get dX7_climbs_5 K7 30 (by decide) q1959 (kG_a (by decide) hO) rfl ?_
  refine xj_ic0 dX7_climbs_8 ?_
  refine xj_ic0 dX7_climbs_9 ?_
  refine xj_iast dX7_climbs_10 (kG_a (by decide) rfl) (show (0 : Int32) = nI 0 from rfl) (by decide) (by rw [List.length_replicate]; decide) ?_
  refine xj_eq rfl rfl (kG_set (by decide)) ?_
  refine xj_aload_n dX7_climbs_11 rfl rfl ?_
  refine xj_get dX7_climbs_12 K7 31 (by decide) q1960 (kG_a (by decide) hO) rfl ?_
  refine xj_ic0 dX7_climbs_15 ?_
  refine xj_ic0 dX7_climbs_16 ?_
  refine xj_iast dX7_climbs_17 (kG_a (by decide) rfl) (show (0 : Int32) = nI 0 from rfl) (by decide) (by rw [List.length_replicate]; decide) ?_
  refine xj_eq rfl rfl (kG_set (by decide)) ?_
  refine xj_ic0 dX7_climbs_18 ?_
  refine xj_istn1 dX7_climbs_19 rfl ?_
  refine xj_eq rfl rfl (show _ = kG (wG a X0 ((List.replicate 120 (-1)).set 0 0) ((List.replicate 120 (-1)).set 0 0)) T from congrArg (fun z => kG z T) (by unfold wG; rw [au_id (i := 68) h68, au_comm _ _ _ (by decide : 70 ≠ 69), au_au, au_au])) ?_
  have lw : ∀ (K : Nat) (w : Nat) (F : List Int32) (W : List Int32) (X : List Int32), 17 - w < K → (w ≤ n * (n - 1) / 2 + 1) → (X.length = 6) → (F.length = 120) → (W.length = 120) → (lpN (clO n g) w (n * (n - 1) / 2 + 1 - w) (F, W) = clA n g) → xJ E (yX7_climbs, cX7_climbs, 7, none, []) (xR 6 0 0) (kR (none) T (fun b => kfr [68, 69, 70] a b ∧ ∃ X : List Int32, X.length = 6 ∧ b 68 = cI 0 X ∧ b 69 = cI 0 (clA n g).1 ∧ b 70 = cI 0 (clA n g).2)) 0 0 20 [some (.ref 54), some (.int (nI w)), none, none, none, none, none] [] (kG (wG a X F W) T) := by
    intro K
    induction K with
    | zero => intro w F W X h; exact absurd h (Nat.not_lt_zero _)
    | succ K ih_lw =>
      intro w F W X hK hw hX hF hW hs
      refine xj_iload_n dX7_climbs_20 rfl ?_
      refine xj_aload_n dX7_climbs_21 rfl rfl ?_
      refine xj_get dX7_climbs_22 K7 0 (by decide) q1929 (kG_a (by decide) hO) (congrArg some hf0) ?_
      refine xj_aload_n dX7_climbs_25 rfl rfl ?_
      refine xj_get dX7_climbs_26 K7 0 (by decide) q1929 (kG_a (by decide) hO) (congrArg some hf0) ?_
      refine xj_ic1 dX7_climbs_29 ?_
      refine xj_isub dX7_climbs_30 ?_
      refine xj_imul dX7_climbs_31 ?_
      refine xj_ic2 dX7_climbs_32 ?_
      refine xj_idiv dX7_climbs_33 (by decide) ?_
      refine xj_top (c_pairs n (by omega) h1n) ?_
      refine xj_icmp_gt (tgt := 228) dX7_climbs_34 rfl (fun c34 => ?_) (fun c34 => ?_)
      · exact xj_return dX7_climbs_228 rfl (by have hwp : n * (n - 1) / 2 < w := Nat.lt_of_not_le fun h => absurd c34 (nI_nlt h (by omega)); rw [lp_end (clO n g) (by omega)] at hs; exact kR_v ⟨fun j hj => by simp only [List.mem_cons, List.not_mem_nil, or_false, not_or] at hj; unfold wG; rw [au_n _ _ hj.2.2, au_n _ _ hj.2.1, au_n _ _ hj.1], X, hX, rfl, by rw [← hs]; rfl, by rw [← hs]; rfl⟩)
      · have hwp : w ≤ n * (n - 1) / 2 := Nat.le_of_not_lt fun h => c34 (nI_lt h (by omega))
        rw [lp_step (clO n g) (by omega)] at hs
        have hs : lpN (clO n g) (w + 1) (n * (n - 1) / 2 + 1 - (w + 1)) (lpN (clI n g w) 0 (wy n - 0) (F, W)) = clA n g := hs
        refine xj_ic0 dX7_climbs_37 ?_
        refine xj_istn2 dX7_climbs_38 rfl ?_
        have li : ∀ (K : Nat) (i : Nat) (F : List Int32) (W : List Int32) (X : List Int32), wy n - i < K → (i ≤ wy n) → (X.length = 6) → (F.length = 120) → (W.length = 120) → (lpN (clO n g) (w + 1) (n * (n - 1) / 2 + 1 - (w + 1)) (lpN (clI n g w) i (wy n - i) (F, W)) = clA n g) → xJ E (yX7_climbs, cX7_climbs, 7, none, []) (xR 6 0 0) (kR (none) T (fun b => kfr [68, 69, 70] a b ∧ ∃ X : List Int32, X.length = 6 ∧ b 68 = cI 0 X ∧ b 69 = cI 0 (clA n g).1 ∧ b 70 = cI 0 (clA n g).2)) 0 0 39 [some (.ref 54), some (.int (nI w)), some (.int (nI i)), none, none, none, none] [] (kG (wG a X F W) T) := by
          intro K
          induction K with
          | zero => intro i F W X h; exact absurd h (Nat.not_lt_zero _)
          | succ K ih_li =>
            intro i F W X hK hi hX hF hW hs
            have hv2 : kV c n (wG a X F W) := hv.u hO rfl rfl rfl
            have ha2 : kA n (wG a X F W) := ha.u rfl rfl rfl
            refine xj_iload_n dX7_climbs_39 rfl ?_
            refine xj_aload_n dX7_climbs_40 rfl rfl ?_
            refine xj_get dX7_climbs_41 K7 19 (by decide) q1948 (kG_a (by decide) hO) rfl ?_
            refine xj_aload_n dX7_climbs_44 rfl rfl ?_
            refine xj_get dX7_climbs_45 K7 0 (by decide) q1929 (kG_a (by decide) hO) (congrArg some hf0) ?_
            refine xj_iald dX7_climbs_48 (kG_a (by decide) h64) rfl (by omega) (wayL_at hn6) ?_
            refine xj_icmp_ge (tgt := 222) dX7_climbs_49 rfl (fun c49 => ?_) (fun c49 => ?_)
            · have hin : wy n ≤ i := Nat.le_of_not_lt fun h => absurd c49 (nI_ge h (by omega))
              rw [lp_end (clI n g w) hin] at hs
              refine xj_iinc1 (cst := 1) dX7_climbs_222 rfl rfl ?_
              rw [nI_1]
              refine xj_goto (tgt := 20) dX7_climbs_225 rfl ?_
              exact xj_fg2 (ih_lw (w + 1) F W X (by omega) (by omega) hX hF hW hs)
            · have hin : i < wy n := Nat.lt_of_not_le fun h => c49 (nI_le h (by omega))
              have hrb := rb_mem (by omega) h1n hin
              have hiv := inv_lt (by omega) hrb
              rw [lp_step (clI n g w) hin] at hs
              refine xj_aload_n dX7_climbs_52 rfl rfl ?_
              refine xj_iload_n dX7_climbs_53 rfl ?_
              refine xj_cV dX7_climbs_54 q2120 kV_X7_rowBy (M_rowBy hv2.V hin) (kG_a (by decide) hO) rfl rfl rfl rfl (Nat.le_of_ble_eq_true rfl) ⟨(Nat.le_of_ble_eq_true rfl), (Nat.le_of_ble_eq_true rfl)⟩ (Nat.le_of_ble_eq_true rfl) (Nat.le_of_ble_eq_true rfl) ?_
              refine xj_istn3 dX7_climbs_57 rfl ?_
              refine xj_aload_n dX7_climbs_58 rfl rfl ?_
              refine xj_iload_n dX7_climbs_59 rfl ?_
              refine xj_cV dX7_climbs_60 q2108 kV_X7_swapped (M_swapped hv2.V hrb) (kG_a (by decide) hO) rfl rfl rfl rfl (Nat.le_of_ble_eq_true rfl) ⟨(Nat.le_of_ble_eq_true rfl), (Nat.le_of_ble_eq_true rfl)⟩ (Nat.le_of_ble_eq_true rfl) (Nat.le_of_ble_eq_true rfl) ?_
              refine xj_i2l dX7_climbs_63 ?_
              refine xj_topl (nI_l (Nat.lt_trans hiv (by decide))) ?_
              refine xj_cS dX7_climbs_64 q2124 kS_X7_ones (M_ones (Nat.lt_trans hiv (by decide))) rfl rfl (Nat.le_of_ble_eq_true rfl) ⟨(Nat.le_of_ble_eq_true rfl), (Nat.le_of_ble_eq_true rfl)⟩ (Nat.le_of_ble_eq_true rfl) (Nat.le_of_ble_eq_true rfl) ?_
              refine xj_iload_n dX7_climbs_67 rfl ?_
              refine xj_icmp_ne (tgt := 88) dX7_climbs_68 rfl (fun c68 => ?_) (fun c68 => ?_)
              · first
                | have hcnt : ¬ pc64 (inv n (rb n i)) = w := fun q => c68 (by rw [q])
                  refine xj_ic0 dX7_climbs_88 ?_
                  refine xj_ist4 dX7_climbs_89 rfl ?_
                  refine xj_ic0 dX7_climbs_91 ?_
                  refine xj_ist5 dX7_climbs_92 rfl ?_
                  refine xj_iload dX7_climbs_94 rfl ?_
                  refine xj_iload dX7_climbs_96 rfl ?_
                  refine xj_icmp_ge (tgt := 216) dX7_climbs_98 rfl (fun c98 => ?_) (fun c98 => absurd (by decide) c98)
                  refine xj_iinc2 (cst := 1) dX7_climbs_216 rfl rfl ?_
                  rw [nI_1]
                  refine xj_goto (tgt := 39) dX7_climbs_219 rfl ?_
                  exact xj_fg3 (xj_fg4 (xj_fg5 (ih_li (i + 1) F W X (by omega) (by omega) hX hF hW (by rw [show clI n g w i (F, W) = (F, W) from if_neg (by first | exact fun q => hcnt q.1 | exact fun q => absurd q.2 (by rw [b1_z c76]; decide))] at hs; exact hs))))
                | refine xj_ic0 dX7_climbs_88 ?_
                  refine xj_ist4 dX7_climbs_89 rfl ?_
                  refine xj_ic0 dX7_climbs_91 ?_
                  refine xj_ist5 dX7_climbs_92 rfl ?_
                  refine xj_iload dX7_climbs_94 rfl ?_
                  refine xj_iload dX7_climbs_96 rfl ?_
                  refine xj_icmp_ge (tgt := 216) dX7_climbs_98 rfl (fun c98 => ?_) (fun c98 => absurd (by decide) c98)
                  refine xj_iinc2 (cst := 1) dX7_climbs_216 rfl rfl ?_
                  rw [nI_1]
                  refine xj_goto (tgt := 39) dX7_climbs_219 rfl ?_
                  exact xj_fg3 (xj_fg4 (xj_fg5 (ih_li (i + 1) F W X (by omega) (by omega) hX hF hW (by rw [show clI n g w i (F, W) = (F, W) from if_neg (by first | exact fun q => hcnt q.1 | exact fun q => absurd q.2 (by rw [b1_z c76]; decide))] at hs; exact hs))))
              · have hcnt : pc64 (inv n (rb n i)) = w := (nI_eq (Nat.lt_of_le_of_lt (pc64_le _) (by decide)) (by omega)).mp c68
                refine xj_aload_n dX7_climbs_71 rfl rfl ?_
                refine xj_iload_n dX7_climbs_72 rfl ?_
                refine xj_cV dX7_climbs_73 q2382 kV_X7_isLeast (M_isLeast hv2.V ha2.A hf3 hg hrb) (kG_a (by decide) hO) rfl rfl rfl rfl (Nat.le_of_ble_eq_true rfl) ⟨(Nat.le_of_ble_eq_true rfl), (Nat.le_of_ble_eq_true rfl)⟩ (Nat.le_of_ble_eq_true rfl) (Nat.le_of_ble_eq_true rfl) ?_
                refine xj_if_eq (tgt := 88) dX7_climbs_76 rfl (fun c76 => ?_) (fun c76 => ?_)
                · first
                  | have hcnt : ¬ pc64 (inv n (rb n i)) = w := fun q => c68 (by rw [q])
                    refine xj_ic0 dX7_climbs_88 ?_
                    refine xj_ist4 dX7_climbs_89 rfl ?_
                    refine xj_ic0 dX7_climbs_91 ?_
                    refine xj_ist5 dX7_climbs_92 rfl ?_
                    refine xj_iload dX7_climbs_94 rfl ?_
                    refine xj_iload dX7_climbs_96 rfl ?_
                    refine xj_icmp_ge (tgt := 216) dX7_climbs_98 rfl (fun c98 => ?_) (fun c98 => absurd (by decide) c98)
                    refine xj_iinc2 (cst := 1) dX7_climbs_216 rfl rfl ?_
                    rw [nI_1]
                    refine xj_goto (tgt := 39) dX7_climbs_219 rfl ?_
                    exact xj_fg3 (xj_fg4 (xj_fg5 (ih_li (i + 1) F W X (by omega) (by omega) hX hF hW (by rw [show clI n g w i (F, W) = (F, W) from if_neg (by first | exact fun q => hcnt q.1 | exact fun q => absurd q.2 (by rw [b1_z c76]; decide))] at hs; exact hs))))
                  | refine xj_ic0 dX7_climbs_88 ?_
                    refine xj_ist4 dX7_climbs_89 rfl ?_
                    refine xj_ic0 dX7_climbs_91 ?_
                    refine xj_ist5 dX7_climbs_92 rfl ?_
                    refine xj_iload dX7_climbs_94 rfl ?_
                    refine xj_iload dX7_climbs_96 rfl ?_
                    refine xj_icmp_ge (tgt := 216) dX7_climbs_98 rfl (fun c98 => ?_) (fun c98 => absurd (by decide) c98)
                    refine xj_iinc2 (cst := 1) dX7_climbs_216 rfl rfl ?_
                    rw [nI_1]
                    refine xj_goto (tgt := 39) dX7_climbs_219 rfl ?_
                    exact xj_fg3 (xj_fg4 (xj_fg5 (ih_li (i + 1) F W X (by omega) (by omega) hX hF hW (by rw [show clI n g w i (F, W) = (F, W) from if_neg (by first | exact fun q => hcnt q.1 | exact fun q => absurd q.2 (by rw [b1_z c76]; decide))] at hs; exact hs))))
                · have hlst := b1_nz c76
                  refine xj_aload_n dX7_climbs_79 rfl rfl ?_
                  refine xj_iload_n dX7_climbs_80 rfl ?_
                  refine xj_ic1 dX7_climbs_81 ?_
                  refine xj_dV dX7_climbs_82 q2394 kV_X7_turnsTo (M_turnsTo (t := false) hv2.V ha2.A hf3 hg hrb (kG_a (by decide) rfl) hX) (kG_a (by decide) hO) rfl rfl rfl rfl (Nat.le_of_ble_eq_true rfl) ⟨(Nat.le_of_ble_eq_true rfl), (Nat.le_of_ble_eq_true rfl)⟩ (Nat.le_of_ble_eq_true rfl) (Nat.le_of_ble_eq_true rfl) ?_
                  rintro _ _ ⟨rfl, X, hX, hlk, rfl⟩
                  have hrl := rot_le (n := n) (g := g) (r := rb n i) (t := false)
                  refine xj_eq rfl rfl ((kG_set (by decide)).trans (congrArg (fun z => kG z T) wG_68)) ?_
                  refine xj_goto (tgt := 89) dX7_climbs_85 rfl ?_
                  refine xj_ist4 dX7_climbs_89 rfl ?_
                  refine xj_ic0 dX7_climbs_91 ?_
                  refine xj_ist5 dX7_climbs_92 rfl ?_
                  have lk : ∀ (K : Nat) (k : Nat) (F : List Int32) (W : List Int32), (rot n g (rb n i) false).length - k < K → (k ≤ (rot n g (rb n i) false).length) → (F.length = 120) → (W.length = 120) → (lpN (clO n g) (w + 1) (n * (n - 1) / 2 + 1 - (w + 1)) (lpN (clI n g w) (i + 1) (wy n - (i + 1)) (clV n i ((rot n g (rb n i) false).drop k) (F, W))) = clA n g) → xJ E (yX7_climbs, cX7_climbs, 7, none, []) (xR 6 0 0) (kR (none) T (fun b => kfr [68, 69, 70] a b ∧ ∃ X : List Int32, X.length = 6 ∧ b 68 = cI 0 X ∧ b 69 = cI 0 (clA n g).1 ∧ b 70 = cI 0 (clA n g).2)) 0 0 94 [some (.ref 54), some (.int (nI w)), some (.int (nI i)), some (.int (nI (rb n i))), some (.int (nI (rot n g (rb n i) false).length)), some (.int (nI k)), none] [] (kG (wG a X F W) T) := by
                    intro K
                    induction K with
                    | zero => intro k F W h; exact absurd h (Nat.not_lt_zero _)
                    | succ K ih_lk =>
                      intro k F W hK hk hF hW hs
                      refine xj_iload dX7_climbs_94 rfl ?_
                      refine xj_iload dX7_climbs_96 rfl ?_
                      refine xj_icmp_ge (tgt := 216) dX7_climbs_98 rfl (fun c98 => ?_) (fun c98 => ?_)
                      · have hil : k = (rot n g (rb n i) false).length := by have := Nat.le_of_not_lt fun h => absurd c98 (nI_ge h (by omega)); omega
                        rw [hil, List.drop_length] at hs
                        refine xj_iinc2 (cst := 1) dX7_climbs_216 rfl rfl ?_
                        rw [nI_1]
                        refine xj_goto (tgt := 39) dX7_climbs_219 rfl ?_
                        exact xj_fg3 (xj_fg4 (xj_fg5 (ih_li (i + 1) F W X (by omega) (by omega) hX hF hW hs)))
                      · have hil : k < (rot n g (rb n i) false).length := Nat.lt_of_not_le fun h => c98 (nI_le h (by omega))
                        obtain ⟨v, hvi⟩ : ∃ v, (rot n g (rb n i) false)[k]? = some v := ⟨_, List.getElem?_eq_getElem hil⟩
                        have hvm : v ∈ rws n := rot_mem (by omega) hrb v (List.mem_of_getElem? hvi)
                        have hXi := hlk k v hvi
                        have hdr : (rot n g (rb n i) false).drop k = v :: (rot n g (rb n i) false).drop (k + 1) := by rw [List.drop_eq_getElem_cons hil]; congr 1; exact Option.some.inj ((List.getElem?_eq_getElem hil).symm.trans hvi)
                        rw [hdr, show clV n i (v :: (rot n g (rb n i) false).drop (k + 1)) (F, W) = clV n i ((rot n g (rb n i) false).drop (k + 1)) (clS n i v (F, W)) from rfl] at hs
                        have hv31 := R31 (by omega) hvm
                        have hrk := f_rk5 n hn5 v hvm
                        have hv2 : kV c n (wG a X F W) := hv.u hO rfl rfl rfl
                        refine xj_aload_n dX7_climbs_101 rfl rfl ?_
                        refine xj_aload_n dX7_climbs_102 rfl rfl ?_
                        refine xj_get dX7_climbs_103 K7 29 (by decide) q1958 (kG_a (by decide) hO) rfl ?_
                        refine xj_iload dX7_climbs_106 rfl ?_
                        refine xj_iald dX7_climbs_108 (kG_a (by decide) rfl) rfl (by omega) hXi ?_
                        refine xj_cV dX7_climbs_109 q2148 kV_X7_rank (M_rank hv2.V hv31) (kG_a (by decide) hO) rfl rfl rfl rfl (Nat.le_of_ble_eq_true rfl) ⟨(Nat.le_of_ble_eq_true rfl), (Nat.le_of_ble_eq_true rfl)⟩ (Nat.le_of_ble_eq_true rfl) (Nat.le_of_ble_eq_true rfl) ?_
                        refine xj_ist6 dX7_climbs_112 rfl ?_
                        refine xj_aload_n dX7_climbs_114 rfl rfl ?_
                        refine xj_get dX7_climbs_115 K7 30 (by decide) q1959 (kG_a (by decide) hO) rfl ?_
                        refine xj_iload dX7_climbs_118 rfl ?_
                        refine xj_aload_n dX7_climbs_120 rfl rfl ?_
                        refine xj_get dX7_climbs_121 K7 30 (by decide) q1959 (kG_a (by decide) hO) rfl ?_
                        refine xj_iload_n dX7_climbs_124 rfl ?_
                        refine xj_iald dX7_climbs_125 (kG_a (by decide) rfl) rfl (by omega) (gD_at (by omega)) ?_
                        refine xj_ic1 dX7_climbs_126 ?_
                        refine xj_iadd dX7_climbs_127 ?_
                        refine xj_aload_n dX7_climbs_128 rfl rfl ?_
                        refine xj_get dX7_climbs_129 K7 30 (by decide) q1959 (kG_a (by decide) hO) rfl ?_
                        refine xj_iload dX7_climbs_132 rfl ?_
                        refine xj_iald dX7_climbs_134 (kG_a (by decide) rfl) rfl (by omega) (gD_at (by omega)) ?_
                        refine xj_sI_icmp_le (tgt := 149) (M := 156) dX7_climbs_135 rfl (fun c135 k => by
                            refine xj_aload_n dX7_climbs_149 rfl rfl ?_
                            refine xj_get dX7_climbs_150 K7 30 (by decide) q1959 (kG_a (by decide) hO) rfl ?_
                            refine xj_iload dX7_climbs_153 rfl ?_
                            refine xj_iald dX7_climbs_155 (kG_a (by decide) rfl) rfl (by omega) (gD_at (by omega)) ?_
                            exact k) (fun c135 k => by
                            refine xj_aload_n dX7_climbs_138 rfl rfl ?_
                            refine xj_get dX7_climbs_139 K7 30 (by decide) q1959 (kG_a (by decide) hO) rfl ?_
                            refine xj_iload_n dX7_climbs_142 rfl ?_
                            refine xj_iald dX7_climbs_143 (kG_a (by decide) rfl) rfl (by omega) (gD_at (by omega)) ?_
                            refine xj_ic1 dX7_climbs_144 ?_
                            refine xj_iadd dX7_climbs_145 ?_
                            refine xj_goto (tgt := 156) dX7_climbs_146 rfl ?_
                            exact k) ?_
                        refine xj_top le_lt_if ?_
                        refine xj_iast dX7_climbs_156 (kG_a (by decide) rfl) rfl (by omega) (by omega) ?_
                        refine xj_eq rfl rfl (kG_set (by decide)) ?_
                        rw [wG_69]
                        refine xj_aload_n dX7_climbs_157 rfl rfl ?_
                        refine xj_get dX7_climbs_158 K7 31 (by decide) q1960 (kG_a (by decide) hO) rfl ?_
                        refine xj_iload dX7_climbs_161 rfl ?_
                        refine xj_aload_n dX7_climbs_163 rfl rfl ?_
                        refine xj_get dX7_climbs_164 K7 31 (by decide) q1960 (kG_a (by decide) hO) rfl ?_
                        refine xj_iload dX7_climbs_167 rfl ?_
                        refine xj_iald dX7_climbs_169 (kG_a (by decide) rfl) rfl (by omega) (gD_at (by omega)) ?_
                        refine xj_if_lt (tgt := 191) dX7_climbs_170 rfl (fun c170 => ?_) (fun c170 => ?_)
                        · refine xj_aload_n dX7_climbs_191 rfl rfl ?_
                          refine xj_get dX7_climbs_192 K7 31 (by decide) q1960 (kG_a (by decide) hO) rfl ?_
                          refine xj_iload_n dX7_climbs_195 rfl ?_
                          refine xj_iald dX7_climbs_196 (kG_a (by decide) rfl) rfl (by omega) (gD_at (by omega)) ?_
                          refine xj_ic1 dX7_climbs_197 ?_
                          refine xj_iadd dX7_climbs_198 ?_
                          refine xj_goto (tgt := 209) dX7_climbs_199 rfl ?_
                          refine xj_top (y := (if W.getD (rk n v) 0 < 0 ∨ W.getD i 0 + 1 < W.getD (rk n v) 0 then W.getD i 0 + 1 else W.getD (rk n v) 0)) (by first | exact (if_pos (Or.inl c170)).symm | exact (if_pos (Or.inr (i32_nle c188))).symm | exact (if_neg (fun q => q.elim c170 (i32_le c188))).symm) ?_
                          refine xj_iast dX7_climbs_209 (kG_a (by decide) rfl) rfl (by omega) (by omega) ?_
                          refine xj_eq rfl rfl (kG_set (by decide)) ?_
                          rw [wG_70]
                          refine xj_iinc5 (cst := 1) dX7_climbs_210 rfl rfl ?_
                          rw [nI_1]
                          refine xj_goto (tgt := 94) dX7_climbs_213 rfl ?_
                          exact xj_fg6 (ih_lk (k + 1) _ _ (by omega) (by omega) (by rw [List.length_set]; exact hF) (by rw [List.length_set]; exact hW) hs)
                        · refine xj_aload_n dX7_climbs_173 rfl rfl ?_
                          refine xj_get dX7_climbs_174 K7 31 (by decide) q1960 (kG_a (by decide) hO) rfl ?_
                          refine xj_iload_n dX7_climbs_177 rfl ?_
                          refine xj_iald dX7_climbs_178 (kG_a (by decide) rfl) rfl (by omega) (gD_at (by omega)) ?_
                          refine xj_ic1 dX7_climbs_179 ?_
                          refine xj_iadd dX7_climbs_180 ?_
                          refine xj_aload_n dX7_climbs_181 rfl rfl ?_
                          refine xj_get dX7_climbs_182 K7 31 (by decide) q1960 (kG_a (by decide) hO) rfl ?_
                          refine xj_iload dX7_climbs_185 rfl ?_
                          refine xj_iald dX7_climbs_187 (kG_a (by decide) rfl) rfl (by omega) (gD_at (by omega)) ?_
                          refine xj_icmp_ge (tgt := 202) dX7_climbs_188 rfl (fun c188 => ?_) (fun c188 => ?_)
                          · refine xj_aload_n dX7_climbs_202 rfl rfl ?_
                            refine xj_get dX7_climbs_203 K7 31 (by decide) q1960 (kG_a (by decide) hO) rfl ?_
                            refine xj_iload dX7_climbs_206 rfl ?_
                            refine xj_iald dX7_climbs_208 (kG_a (by decide) rfl) rfl (by omega) (gD_at (by omega)) ?_
                            refine xj_top (y := (if W.getD (rk n v) 0 < 0 ∨ W.getD i 0 + 1 < W.getD (rk n v) 0 then W.getD i 0 + 1 else W.getD (rk n v) 0)) (by first | exact (if_pos (Or.inl c170)).symm | exact (if_pos (Or.inr (i32_nle c188))).symm | exact (if_neg (fun q => q.elim c170 (i32_le c188))).symm) ?_
                            refine xj_iast dX7_climbs_209 (kG_a (by decide) rfl) rfl (by omega) (by omega) ?_
                            refine xj_eq rfl rfl (kG_set (by decide)) ?_
                            rw [wG_70]
                            refine xj_iinc5 (cst := 1) dX7_climbs_210 rfl rfl ?_
                            rw [nI_1]
                            refine xj_goto (tgt := 94) dX7_climbs_213 rfl ?_
                            exact xj_fg6 (ih_lk (k + 1) _ _ (by omega) (by omega) (by rw [List.length_set]; exact hF) (by rw [List.length_set]; exact hW) hs)
                          · refine xj_aload_n dX7_climbs_191 rfl rfl ?_
                            refine xj_get dX7_climbs_192 K7 31 (by decide) q1960 (kG_a (by decide) hO) rfl ?_
                            refine xj_iload_n dX7_climbs_195 rfl ?_
                            refine xj_iald dX7_climbs_196 (kG_a (by decide) rfl) rfl (by omega) (gD_at (by omega)) ?_
                            refine xj_ic1 dX7_climbs_197 ?_
                            refine xj_iadd dX7_climbs_198 ?_
                            refine xj_goto (tgt := 209) dX7_climbs_199 rfl ?_
                            refine xj_top (y := (if W.getD (rk n v) 0 < 0 ∨ W.getD i 0 + 1 < W.getD (rk n v) 0 then W.getD i 0 + 1 else W.getD (rk n v) 0)) (by first | exact (if_pos (Or.inl c170)).symm | exact (if_pos (Or.inr (i32_nle c188))).symm | exact (if_neg (fun q => q.elim c170 (i32_le c188))).symm) ?_
                            refine xj_iast dX7_climbs_209 (kG_a (by decide) rfl) rfl (by omega) (by omega) ?_
                            refine xj_eq rfl rfl (kG_set (by decide)) ?_
                            rw [wG_70]
                            refine xj_iinc5 (cst := 1) dX7_climbs_210 rfl rfl ?_
                            rw [nI_1]
                            refine xj_goto (tgt := 94) dX7_climbs_213 rfl ?_
                            exact xj_fg6 (ih_lk (k + 1) _ _ (by omega) (by omega) (by rw [List.length_set]; exact hF) (by rw [List.length_set]; exact hW) hs)
                  exact lk 7 0 F W (by omega) (by omega) hF hW (by rw [List.drop_zero]; rw [show clI n g w i (F, W) = clV n i (rot n g (rb n i) false) (F, W) from if_pos ⟨hcnt, hlst⟩] at hs; exact hs)
        exact li (wy n + 1) 0 F W X (by omega) (by omega) hX hF hW hs
  exact lw 18 0 ((List.replicate 120 (-1)).set 0 0) ((List.replicate 120 (-1)).set 0 0) X0 (by omega) (by omega) hX0 (by rw [List.length_set, List.length_replicate]) (by rw [List.length_set, List.length_replicate]) rfl
theorem M_wayUp {w : Int32} {g : Nat} {X0 F0 W0 : List Int32}  (hv : kV c n a) (ha : kA n a) (hf3 : c 3 = .long (lN g)) (hg : g < 2 ^ 57) (h68 : a 68 = cI 0 X0) (h69 : a 69 = cI 0 F0) (h70 : a 70 = cI 0 W0) (hX0 : X0.length = 6) (hF0 : F0.length = 120) (hW0 : W0.length = 120) : xMet E yX7_wayUp cX7_wayUp 3 (some FieldType.int) 7 0 0 [.ref 54, .int w] (kG a T) (kR (some (.int (o_wayUp n g w))) T (fun b => kfr [68, 69, 70] a b ∧ ∃ X F W : List Int32, b 68 = cI 0 X ∧ b 69 = cI 0 F ∧ b 70 = cI 0 W ∧ X.length = 6 ∧ F.length = 120 ∧ W.length = 120)) := by
  obtain ⟨hO, hf0, h1n, hn6, h63, h64⟩ := id hv
  refine xMet.of (lv := [some (.ref 54), some (.int w), none]) rfl rfl (Nat.le_of_ble_eq_true rfl) ?_
  refine xj_iload_n dX7_wayUp_0 rfl ?_
  refine xj_i2l dX7_wayUp_1 ?_
  refine xj_lc0 dX7_wayUp_2 ?_
  refine xj_lc1 dX7_wayUp_3 ?_
  refine xj_cS dX7_wayUp_4 q2085 kS_X7_in M_in rfl rfl (Nat.le_of_ble_eq_true rfl) ⟨(Nat.le_of_ble_eq_true rfl), (Nat.le_of_ble_eq_true rfl)⟩ (Nat.le_of_ble_eq_true rfl) (Nat.le_of_ble_eq_true rfl) ?_
  rw [inB_c1]
  refine xj_if_ne (tgt := 12) dX7_wayUp_7 rfl (fun c7 => ?_) (fun c7 => ?_)
  · have hb1 := b1_nz c7
    refine xj_aload_n dX7_wayUp_12 rfl rfl ?_
    refine xj_get dX7_wayUp_13 K7 0 (by decide) q1929 (kG_a (by decide) hO) (congrArg some hf0) ?_
    refine xj_bipush (v := 6) dX7_wayUp_16 rfl ?_
    refine xj_icmp_ne (tgt := 24) dX7_wayUp_18 rfl (fun c18 => ?_) (fun c18 => ?_)
    · have hn5 : n < 6 := by
        have : n ≠ 6 := fun q => c18 (by rw [q]; rfl)
        omega
      have hw31 := wayN hn6
      have hwy := (wy_in n (by omega)).1
      have hrb := rb_mem (n := n) (i := wy n - 1) (by omega) h1n (by omega)
      refine xj_aload_n dX7_wayUp_24 rfl rfl ?_
      refine xj_dV dX7_wayUp_25 q2418 kV_X7_climbs (M_climbs hv ha hf3 hg h68 h69 h70 hX0 hF0 hW0 hn5) (kG_a (by decide) hO) rfl rfl rfl rfl (Nat.le_of_ble_eq_true rfl) ⟨(Nat.le_of_ble_eq_true rfl), (Nat.le_of_ble_eq_true rfl)⟩ (Nat.le_of_ble_eq_true rfl) (Nat.le_of_ble_eq_true rfl) ?_
      rintro _ _ ⟨rfl, b, rfl, hfr, X, hX, hb68, hb69, hb70⟩
      have hv2 : kV c n b := hv.u ((hfr 54 (by decide)).trans hO) rfl (hfr 63 (by decide)) (hfr 64 (by decide))
      have ha2 : kA n b := ha.u (hfr 59 (by decide)) (hfr 60 (by decide)) (hfr 61 (by decide))
      have hO2 := hv2.1
      have hgm := gos_mem' (g := g) (t := true) (by omega) hrb
      have hrg := f_rk5 n hn5 _ hgm
      have hl1 := clA_len (n := n) (g := g)
      refine xj_aload_n dX7_wayUp_28 rfl rfl ?_
      refine xj_aload_n dX7_wayUp_29 rfl rfl ?_
      refine xj_aload_n dX7_wayUp_30 rfl rfl ?_
      refine xj_aload_n dX7_wayUp_31 rfl rfl ?_
      refine xj_get dX7_wayUp_32 K7 19 (by decide) q1948 (kG_a (by decide) hO2) rfl ?_
      refine xj_aload_n dX7_wayUp_35 rfl rfl ?_
      refine xj_get dX7_wayUp_36 K7 0 (by decide) q1929 (kG_a (by decide) hO2) (congrArg some hf0) ?_
      refine xj_iald dX7_wayUp_39 (kG_a (by decide) hv2.2.2.2.2.2) rfl (by omega) (wayL_at hn6) ?_
      refine xj_ic1 dX7_wayUp_40 ?_
      refine xj_isub dX7_wayUp_41 ?_
      refine xj_top (nI_sub1 (by omega)) ?_
      refine xj_cV dX7_wayUp_42 q2120 kV_X7_rowBy (M_rowBy hv2.V (by omega)) (kG_a (by decide) hO2) rfl rfl rfl rfl (Nat.le_of_ble_eq_true rfl) ⟨(Nat.le_of_ble_eq_true rfl), (Nat.le_of_ble_eq_true rfl)⟩ (Nat.le_of_ble_eq_true rfl) (Nat.le_of_ble_eq_true rfl) ?_
      refine xj_cV dX7_wayUp_45 q2358 kV_X7_leastOf (M_leastOf hv2.V ha2.A hf3 hg hrb) (kG_a (by decide) hO2) rfl rfl rfl rfl (Nat.le_of_ble_eq_true rfl) ⟨(Nat.le_of_ble_eq_true rfl), (Nat.le_of_ble_eq_true rfl)⟩ (Nat.le_of_ble_eq_true rfl) (Nat.le_of_ble_eq_true rfl) ?_
      refine xj_cV dX7_wayUp_48 q2148 kV_X7_rank (M_rank hv2.V (R31 (by omega) hgm)) (kG_a (by decide) hO2) rfl rfl rfl rfl (Nat.le_of_ble_eq_true rfl) ⟨(Nat.le_of_ble_eq_true rfl), (Nat.le_of_ble_eq_true rfl)⟩ (Nat.le_of_ble_eq_true rfl) (Nat.le_of_ble_eq_true rfl) ?_
      refine xj_istn2 dX7_wayUp_51 rfl ?_
      refine xj_iload_n dX7_wayUp_52 rfl ?_
      refine xj_if_ne (tgt := 65) dX7_wayUp_53 rfl (fun c53 => ?_) (fun c53 => ?_)
      · refine xj_aload_n dX7_wayUp_65 rfl rfl ?_
        refine xj_get dX7_wayUp_66 K7 31 (by decide) q1960 (kG_a (by decide) hO2) rfl ?_
        refine xj_iload_n dX7_wayUp_69 rfl ?_
        refine xj_iald dX7_wayUp_70 (kG_a (by decide) hb70) rfl (by omega) (gD_at (by omega)) ?_
        exact xj_ireturn dX7_wayUp_71 rfl rfl (kR_i (by unfold o_wayUp; rw [if_pos hb1, if_neg (by omega)]; first | rw [if_pos c53] | rw [if_neg c53]) ⟨hfr, X, _, _, hb68, hb69, hb70, hX, hl1.1, hl1.2⟩)
      · refine xj_aload_n dX7_wayUp_56 rfl rfl ?_
        refine xj_get dX7_wayUp_57 K7 30 (by decide) q1959 (kG_a (by decide) hO2) rfl ?_
        refine xj_iload_n dX7_wayUp_60 rfl ?_
        refine xj_iald dX7_wayUp_61 (kG_a (by decide) hb69) rfl (by omega) (gD_at (by omega)) ?_
        refine xj_goto (tgt := 71) dX7_wayUp_62 rfl ?_
        exact xj_ireturn dX7_wayUp_71 rfl rfl (kR_i (by unfold o_wayUp; rw [if_pos hb1, if_neg (by omega)]; first | rw [if_pos c53] | rw [if_neg c53]) ⟨hfr, X, _, _, hb68, hb69, hb70, hX, hl1.1, hl1.2⟩)
    · refine xj_bipush (v := -4) dX7_wayUp_21 rfl ?_
      exact xj_ireturn dX7_wayUp_23 rfl rfl (kR_i (by unfold o_wayUp; rw [if_pos hb1, if_pos ((nI_eq (by omega) (by decide)).mp (show nI n = nI 6 from c18))]) ⟨kfr.refl _ _, X0, F0, W0, h68, h69, h70, hX0, hF0, hW0⟩)
  · refine xj_icm1 dX7_wayUp_10 ?_
    exact xj_ireturn dX7_wayUp_11 rfl rfl (kR_i (by unfold o_wayUp; rw [b1_z c7]; rfl) ⟨kfr.refl _ _, X0, F0, W0, h68, h69, h70, hX0, hF0, hW0⟩)
theorem M_nearest {r v g : Nat} {u : Bool} (hv : kV c n a) (ha : kA n a) (hf3 : c 3 = .long (lN g)) (hg : g < 2 ^ 57) (hr : r ∈ rws n) (hv1 : 1 ≤ v) (hvn : v ≤ n) : xMet E yX7_nearest cX7_nearest 6 (some FieldType.int) 4 0 0 [.ref 54, .int (nI r), .int (nI v), .int (sg u)] (kG a T) (xrv (some (.int (nrs n g r v u))) (kG a T)) := by
  obtain ⟨hO, hf0, h1n, hn6, h63, h64⟩ := id hv
  have hpl : plc n r v n 0 < n := by have := (f_plc n (by omega) r hr (v - 1) (by omega)).1; rwa [show v - 1 + 1 = v by omega] at this
  refine xMet.of (lv := [some (.ref 54), some (.int (nI r)), some (.int (nI v)), some (.int (sg u)), none, none]) rfl rfl (Nat.le_of_ble_eq_true rfl) ?_
  refine xj_iload_n dX7_nearest_0 rfl ?_
  refine xj_ist4 dX7_nearest_1 rfl ?_
  have lp : ∀ (K : Nat) (f : Nat) (d : Int32), f < K → (f ≤ 8) → (d.toInt = (if u then 1 else -1) * (9 - (f : Int))) → (nrF n g r v (sg u) f d = nrs n g r v u) → xJ E (yX7_nearest, cX7_nearest, 6, (some FieldType.int), []) (xR 4 0 0) (xrv (some (.int (nrs n g r v u))) (kG a T)) 0 0 3 [some (.ref 54), some (.int (nI r)), some (.int (nI v)), some (.int (sg u)), some (.int d), none] [] (kG a T) := by
    intro K
    induction K with
    | zero => intro f d h; exact absurd h (Nat.not_lt_zero _)
    | succ K ih_lp =>
      intro f d hK hf hd hs
      refine xj_aload_n dX7_nearest_3 rfl rfl ?_
      refine xj_iload_n dX7_nearest_4 rfl ?_
      refine xj_iload_n dX7_nearest_5 rfl ?_
      refine xj_iload dX7_nearest_6 rfl ?_
      refine xj_cV dX7_nearest_8 q2164 kV_X7_jumped (M_jumped hv.V hr hv1 hvn) (kG_a (by decide) hO) rfl rfl rfl rfl (Nat.le_of_ble_eq_true rfl) ⟨(Nat.le_of_ble_eq_true rfl), (Nat.le_of_ble_eq_true rfl)⟩ (Nat.le_of_ble_eq_true rfl) (Nat.le_of_ble_eq_true rfl) ?_
      refine xj_ist5 dX7_nearest_11 rfl ?_
      refine xj_iload dX7_nearest_13 rfl ?_
      refine xj_bipush (v := -3) dX7_nearest_15 rfl ?_
      refine xj_icmp_eq (tgt := 29) dX7_nearest_17 rfl (fun c17 => ?_) (fun c17 => ?_)
      · refine xj_iload dX7_nearest_29 rfl ?_
        exact xj_ireturn dX7_nearest_31 rfl rfl (xrv_i (by first | (rw [if_pos (Or.inr (by rw [hjq, htq]; exact b1_nz c26))] at hs; rw [← hjq]; exact hs) | (rw [c17]; rw [← hs]; cases f with | zero => rfl | succ f => exact (show nrF n g r v (sg u) (f + 1) d = -3 by show (if o_jumped n r v d = -3 ∨ _ then o_jumped n r v d else _) = -3; rw [if_pos (Or.inl c17)]; exact c17).symm)))
      · obtain ⟨q, hq, hjq⟩ : ∃ q ∈ rws n, o_jumped n r v d = nI q := (jumped_row (by omega) hr hpl).resolve_left c17
        obtain ⟨f, rfl⟩ : ∃ f0, f = f0 + 1 := ⟨f - 1, by
          have : f ≠ 0 := fun h => c17 (jumped_far (by omega) hpl (by subst h; cases u with
            | true => right; rw [hd]; decide
            | false => left; rw [hd]; decide))
          omega⟩
        have hs : (if o_jumped n r v d = -3 ∨ lst n g (tn (o_jumped n r v d)) = true then o_jumped n r v d else nrF n g r v (sg u) f (d + sg u)) = nrs n g r v u := hs
        have htq := tn_nI (by omega) hq
        refine xj_aload_n dX7_nearest_20 rfl rfl ?_
        refine xj_iload dX7_nearest_21 rfl ?_
        rw [hjq]
        refine xj_cV dX7_nearest_23 q2382 kV_X7_isLeast (M_isLeast hv.V ha.A hf3 hg hq) (kG_a (by decide) hO) rfl rfl rfl rfl (Nat.le_of_ble_eq_true rfl) ⟨(Nat.le_of_ble_eq_true rfl), (Nat.le_of_ble_eq_true rfl)⟩ (Nat.le_of_ble_eq_true rfl) (Nat.le_of_ble_eq_true rfl) ?_
        refine xj_if_eq (tgt := 32) dX7_nearest_26 rfl (fun c26 => ?_) (fun c26 => ?_)
        · refine xj_iload dX7_nearest_32 rfl ?_
          refine xj_iload_n dX7_nearest_34 rfl ?_
          refine xj_iadd dX7_nearest_35 ?_
          refine xj_ist4 dX7_nearest_36 rfl ?_
          rw [if_neg (fun h => h.elim c17 (fun h2 => by rw [hjq, htq, b1_z c26] at h2; cases h2))] at hs
          refine xj_goto (tgt := 3) dX7_nearest_38 rfl ?_
          exact xj_fg5 (ih_lp f (d + sg u) (by omega) (by omega) (sg_add hf hd) hs)
        · refine xj_iload dX7_nearest_29 rfl ?_
          exact xj_ireturn dX7_nearest_31 rfl rfl (xrv_i (by first | (rw [if_pos (Or.inr (by rw [hjq, htq]; exact b1_nz c26))] at hs; rw [← hjq]; exact hs) | (rw [c17]; rw [← hs]; cases f with | zero => rfl | succ f => exact (show nrF n g r v (sg u) (f + 1) d = -3 by show (if o_jumped n r v d = -3 ∨ _ then o_jumped n r v d else _) = -3; rw [if_pos (Or.inl c17)]; exact c17).symm)))
  exact lp 9 8 (sg u) (by omega) (by omega) (by rw [sg_int]; cases u <;> decide) rfl
end M22
