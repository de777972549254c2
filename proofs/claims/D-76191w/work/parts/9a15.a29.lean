/-! ===== the class: alike ===== -/
set_option maxRecDepth 100000
theorem kV_X0_manyAlike : xsV yX0_manyAlike cX0_manyAlike 5 (some FieldType.int) 0 := ⟨q1237, qs53, q151, q1238, by decide, by decide, by decide +kernel⟩
theorem kV_X0_toldEnd : xsV yX0_toldEnd cX0_toldEnd 2 (some FieldType.int) 1 := ⟨q1229, qs51, q151, q1230, by decide, by decide, by decide +kernel⟩
theorem andn0 {a b : Nat} (ha : a < 2 ^ 64) : andn a b = 0 ↔ sbs a b := by
  constructor
  · intro h i hi
    have := congrArg (fun x => Nat.testBit x i) h
    simp only [andn_bit ha, Nat.zero_testBit, hi, Bool.true_and] at this
    cases hb : b.testBit i with
    | true => rfl
    | false => rw [hb] at this; cases this
  · intro h
    apply Nat.eq_of_testBit_eq
    intro i
    rw [andn_bit ha, Nat.zero_testBit]
    cases hi : a.testBit i with
    | false => rfl
    | true => rw [h i hi]; rfl
theorem btB_iff {n a b c : Nat} (hn : n < 7) (ha : a ∈ rws n) (hb : b ∈ rws n) (hc : c ∈ rws n) : btB (iv6 n a) (iv6 n b) (iv6 n c) = true ↔ (subB n a b = true ∧ subB n b c = true) := by
  unfold btB
  rw [Bool.and_eq_true, decide_eq_true_eq, decide_eq_true_eq, andn0 (Nat.lt_trans (iv6_lt hn ha) (by decide)), andn0 (Nat.lt_trans (iv6_lt hn hb) (by decide)), iv_sbs hn ha hb, iv_sbs hn hb hc, subB_iff, subB_iff]
theorem mnA_law {n g R : Nat} (hn : n < 7) (h1 : 1 ≤ n) (hc : cls n g) (hR : R ∈ rws n) : lpN (fun i s => s + (if btB (iv6 n (gos n true g R)) (iv6 n (rb n i)) (iv6 n (gos n false g R)) then 1 else 0)) 0 (wy n) 0 = mnA n g R := by
  refine lp_shift (fun i => if btB (iv6 n (gos n true g R)) (iv6 n (rb n i)) (iv6 n (gos n false g R)) then 1 else 0) (fun i => if gos n true g (rb n i) = gos n true g R then 1 else 0) (wy n) 0 0 0 (fun k hk => ?_)
  rw [Nat.zero_add]
  have hw := rb_mem hn h1 hk
  have h := cls_iff hn hc hR hw
  rw [← btB_iff hn (gos_mem' hn hR) hw (gos_mem' hn hR)] at h
  by_cases e : gos n true g (rb n k) = gos n true g R
  · rw [if_pos e, if_pos (h.mpr e)]
  · rw [if_neg e, if_neg (fun q => e (h.mp q))]
theorem alk_1 {n g R : Nat} {w : Int32} (h : inI w 3 = true) (h2 : ¬ 2 ≤ w) : some (Value.int (nI (gos n (decide (w = 0)) g R))) = some (Value.int (if (true && true) = true then (if w = 0 then nI (gos n true g R) else if w = 1 then nI (gos n false g R) else nI (mnA n g R)) else -1)) := by
  obtain ⟨k, hk, -, rfl⟩ := inI_t h
  match k, hk with
  | 0, _ => rfl
  | 1, _ => rfl
  | 2, _ => exact absurd (by decide) h2
theorem alk_2 {n g R : Nat} {w : Int32} (h : inI w 3 = true) (h2 : 2 ≤ w) : some (Value.int (nI (mnA n g R))) = some (Value.int (if (true && true) = true then (if w = 0 then nI (gos n true g R) else if w = 1 then nI (gos n false g R) else nI (mnA n g R)) else -1)) := by
  obtain ⟨k, hk, -, rfl⟩ := inI_t h
  match k, hk with
  | 0, _ => exact absurd h2 (by decide)
  | 1, _ => exact absurd h2 (by decide)
  | 2, _ => rfl
theorem cPo.rows {d : Nat → Value} {G H K : xH} {M N : List Int32} (h : cPo d G H) (hf : gfa [11, 12] H K) (hM : M.length = 6) (hN : N.length = 6) (h11 : K[11]? = some (cI 1 M)) (h12 : K[12]? = some (cI 1 N)) : cPo d G K := by
  obtain ⟨d', p1, p2, p3, p4, p5⟩ := h
  have hl : ∀ {i : Nat} {x : xC}, H[i]? = some x → i < H.length := fun h => (List.getElem?_eq_some_iff.mp h).1
  have kp : ∀ {i : Nat} {x : xC}, i ≠ 11 → i ≠ 12 → H[i]? = some x → K[i]? = some x := fun h1 h2 hx => (hf.2 _ (hl hx) (by simp only [List.mem_cons, List.not_mem_nil, or_false]; omega)).trans hx
  obtain ⟨⟨q1, q1'⟩, q2, q3, q4⟩ := p4
  refine ⟨d', p1, p2, kp (by decide) (by decide) p3, ⟨⟨fun i i1 i2 => ?_, ?_⟩, fun i i1 i2 => ?_, ?_, ?_⟩, p5.trans (hf.mono (by decide))⟩
  · by_cases e : i = 11
    · subst e; exact ⟨M, hM, h11⟩
    · by_cases e2 : i = 12
      · subst e2; exact ⟨N, hN, h12⟩
      · obtain ⟨L, l1, l2⟩ := q1 i i1 i2; exact ⟨L, l1, kp e e2 l2⟩
  · obtain ⟨F, f1, f2⟩ := q1'; exact ⟨F, f1, kp (by decide) (by decide) f2⟩
  · obtain ⟨A, a1, a2⟩ := q2 i i1 i2; exact ⟨A, a1, kp (by omega) (by omega) a2⟩
  · obtain ⟨A, a1, a2⟩ := q3; exact ⟨A, a1, kp (by decide) (by decide) a2⟩
  · obtain ⟨A, a1, a2⟩ := q4; exact ⟨A, a1, kp (by decide) (by decide) a2⟩
section A29
variable {E : xE} {G : xH} {d e : Nat → Value} {n : Nat}
theorem A_alike {x w : Int32} {g : Nat}  (hv : cV d e n G) (hn3 : e 3 = .long (lN g)) (hg : g < 2 ^ 57) (hs : sIn d) (hc : scr G) (hl83 : 83 ≤ G.length) (hcl : cls n g) : xMet E yX0_alike cX0_alike 3 (some FieldType.int) 7 3 14 [.ref 0, .int x, .int w] G (xre (fun v_ G' => v_ = some (.int (o_alike n g x w)) ∧ cPo d G G')) := by
  obtain ⟨hO, hN, hn0, h1n, hn6⟩ := id hv
  have hP := cPo.refl hv hs hc
  obtain ⟨L1, hl1, h11⟩ := hc.at (r := 11) (by decide) (by decide)
  obtain ⟨L2, hl2, h12⟩ := hc.at (r := 12) (by decide) (by decide)
  obtain ⟨L3, hl3, h13⟩ := hc.at (r := 13) (by decide) (by decide)
  refine xMet.of (lv := [some (.ref 0), some (.int x), some (.int w)]) rfl rfl (Nat.le_of_ble_eq_true rfl) ?_
  refine xj_aload_n dX0_alike_0 rfl rfl ?_
  refine xj_iload_n dX0_alike_1 rfl ?_
  refine xj_aload_n dX0_alike_2 rfl rfl ?_
  refine xj_get dX0_alike_3 K0 8 (by decide) q477 hO rfl ?_
  refine xj_dV dX0_alike_6 q596 kV_X0_read (A_read hv h11 (by decide) (by decide) (by omega) (by omega)) hO rfl rfl rfl rfl (Nat.le_of_ble_eq_true rfl) ⟨(Nat.le_of_ble_eq_true rfl), (Nat.le_of_ble_eq_true rfl)⟩ (Nat.le_of_ble_eq_true rfl) (Nat.le_of_ble_eq_true rfl) ?_
  rintro _ _ ⟨rfl, M, hM, hRx, rfl⟩
  have hv2 : cV d e n (G.set 11 (cI 1 M)) := hv.set (by decide) (by decide)
  obtain ⟨hO2, hN2, -⟩ := id hv2
  have hP2 : cPo d G (G.set 11 (cI 1 M)) := hP.row (by decide) (by decide) (by omega)
  refine xj_if_eq (tgt := 21) dX0_alike_9 rfl (fun c9 => ?_) (fun c9 => ?_)
  · refine xj_icm1 dX0_alike_21 ?_
    exact xj_ireturn dX0_alike_22 rfl rfl (by first | exact ⟨by unfold o_alike; rw [b1_z c9]; rfl, hP2⟩ | exact ⟨by unfold o_alike; rw [b1_z c18, Bool.and_false]; rfl, hP2⟩)
  · refine xj_iload_n dX0_alike_12 rfl ?_
    refine xj_ic0 dX0_alike_13 ?_
    refine xj_ic2 dX0_alike_14 ?_
    refine xj_cS dX0_alike_15 q585 kS_X0_isIn A_isIn rfl rfl (Nat.le_of_ble_eq_true rfl) ⟨(Nat.le_of_ble_eq_true rfl), (Nat.le_of_ble_eq_true rfl)⟩ (Nat.le_of_ble_eq_true rfl) (Nat.le_of_ble_eq_true rfl) ?_
    rw [show inC w 0 2 = inI w 3 from inC_inI (m := 3) (by decide)]
    refine xj_if_ne (tgt := 23) dX0_alike_18 rfl (fun c18 => ?_) (fun c18 => ?_)
    · have hbb := b1_nz c9
      obtain ⟨R, hR, rfl⟩ := rowB_t (by omega) h1n hbb
      have hRM := hRx R hR rfl
      have tR := tn_nI (by omega) hR
      have hw3 := b1_nz c18
      refine xj_iload_n dX0_alike_23 rfl ?_
      refine xj_ic2 dX0_alike_24 ?_
      refine xj_icmp_ge (tgt := 44) dX0_alike_25 rfl (fun c25 => ?_) (fun c25 => ?_)
      · refine xj_aload_n dX0_alike_44 rfl rfl ?_
        refine xj_dV dX0_alike_45 q1235 kV_X0_manyAlike (A_manyAlike (L1 := M) hv2 hn3 hg (by rw [List.length_set]; exact hl83) (gset_self h11) (by omega) hRM hR (show (G.set 11 (cI 1 M))[12]? = some (cI 1 L2) by rw [gset (by decide)]; exact h12) hl2) hO2 rfl rfl rfl rfl (Nat.le_of_ble_eq_true rfl) ⟨(Nat.le_of_ble_eq_true rfl), (Nat.le_of_ble_eq_true rfl)⟩ (Nat.le_of_ble_eq_true rfl) (Nat.le_of_ble_eq_true rfl) ?_
        rintro _ H ⟨rfl, M5, M6, hM5, hM6, hf, k11, k12⟩
        exact xj_ireturn dX0_alike_48 rfl rfl (by first | exact ⟨by unfold o_alike; rw [hbb, hw3, tR]; rw [mnA_law (by omega) h1n hcl hR]; exact alk_2 hw3 c25, hP2.rows hf hM5 hM6 k11 k12⟩ | exact ⟨by unfold o_alike; rw [hbb, hw3, tR]; exact alk_1 hw3 c25, hP.row (by decide) (by decide) (by omega)⟩)
      · refine xj_aload_n dX0_alike_28 rfl rfl ?_
        refine xj_iload_n dX0_alike_29 rfl ?_
        refine xj_sI_if_ne (tgt := 37) (M := 38) dX0_alike_30 rfl (fun c30 k => by
            refine xj_ic0 dX0_alike_37 ?_
            exact k) (fun c30 k => by
            refine xj_ic1 dX0_alike_33 ?_
            refine xj_goto (tgt := 38) dX0_alike_34 rfl ?_
            exact k) ?_
        refine xj_top (y := b1 (decide (w = 0))) (by by_cases h : w = 0 <;> simp [h, b1]) ?_
        refine xj_dV dX0_alike_38 q1227 kV_X0_toldEnd (A_toldEnd (t := decide (w = 0)) hv2 hn3 (Nat.lt_trans hg (by decide)) (gset_self h11) hRM hR (by omega)) hO2 rfl rfl rfl rfl (Nat.le_of_ble_eq_true rfl) ⟨(Nat.le_of_ble_eq_true rfl), (Nat.le_of_ble_eq_true rfl)⟩ (Nat.le_of_ble_eq_true rfl) (Nat.le_of_ble_eq_true rfl) ?_
        rintro _ _ ⟨rfl, M3, hM3, hM3R, rfl⟩
        rw [gset_set]
        refine xj_goto (tgt := 48) dX0_alike_41 rfl ?_
        exact xj_ireturn dX0_alike_48 rfl rfl (by first | exact ⟨by unfold o_alike; rw [hbb, hw3, tR]; rw [mnA_law (by omega) h1n hcl hR]; exact alk_2 hw3 c25, hP2.rows hf hM5 hM6 k11 k12⟩ | exact ⟨by unfold o_alike; rw [hbb, hw3, tR]; exact alk_1 hw3 c25, hP.row (by decide) (by decide) (by omega)⟩)
    · refine xj_icm1 dX0_alike_21 ?_
      exact xj_ireturn dX0_alike_22 rfl rfl (by first | exact ⟨by unfold o_alike; rw [b1_z c9]; rfl, hP2⟩ | exact ⟨by unfold o_alike; rw [b1_z c18, Bool.and_false]; rfl, hP2⟩)
end A29
