/-! ===== the class: facts written, conditions held for an arc ===== -/
set_option maxRecDepth 100000

theorem cdC_I {t : Nat} {L : List Int32} : ¬ cdC (cI t L) := by
  rintro (⟨a, h⟩ | ⟨v, h⟩ | ⟨a, b, s, h⟩ | ⟨a, b, h⟩ | ⟨a, b, h⟩) <;> cases h
theorem hld_b {n k : Nat} {c : List Int32} {b : Bool} (h : ∀ st, ev n k c st = b1 b :: st) : hldB n k c = b := by
  unfold hldB; rw [h]; cases b <;> rfl
section A57
variable {E : xE} {G : xH} {d e : Nat → Value} {n : Nat}
theorem A_holdsFor {a b k kk : Nat} {c : List Int32} {u : Nat → Value} {x0 x1 x2 x3 x4 : Int32}  (hv : cV d e n G) (h6 : G[b]? = some (cO 6 (aFs n k u))) (hn7 : n < 7) (hk : k < na n) (h20 : G[20]? = some (cI 0 [x0, x1, x2, x3, x4])) (hc : cnd G kk a c) (hkk : kk ≤ 200) : xMet E yX0_holdsFor cX0_holdsFor 3 (some FieldType.boolean) 210 0 0 [.ref 0, .ref a, .ref b] G (xrv (some (.int (b1 (hldB n k c)))) (G.set 20 (cI 0 [nI (aL n k), nI (aH n k), nI (lf n k), nI (bw n k - lf n k), nI n]))) := by
  obtain ⟨hO, hN, hn0, h1n, hn6⟩ := id hv
  have hb20 : 20 ≠ b := fun q => by rw [← q, h20] at h6; cases h6
  refine xMet.of (lv := [some (.ref 0), some (.ref a), some (.ref b)]) rfl rfl (Nat.le_of_ble_eq_true rfl) ?_
  refine xj_aload_n dX0_holdsFor_0 rfl rfl ?_
  refine xj_get dX0_holdsFor_1 K0 20 (by decide) q489 hO rfl ?_
  refine xj_ic0 dX0_holdsFor_4 ?_
  refine xj_aload_n dX0_holdsFor_5 rfl rfl ?_
  refine xj_getN dX0_holdsFor_6 K6 1 (by decide) q406 h6 rfl ?_
  refine xj_iast dX0_holdsFor_9 h20 (show (0 : Int32) = nI 0 from rfl) (by decide) (by show 0 < 5; decide) ?_
  refine xj_eq rfl rfl (show _ = (G.set 20 (cI 0 [nI (aL n k), x1, x2, x3, x4])) from rfl) ?_
  have o1 : (G.set 20 (cI 0 [nI (aL n k), x1, x2, x3, x4]))[0]? = some (cO 0 (cFs d)) := by rw [gset (by decide)]; exact hO
  have w1 : (G.set 20 (cI 0 [nI (aL n k), x1, x2, x3, x4]))[20]? = some (cI 0 [nI (aL n k), x1, x2, x3, x4]) := gset_self h20
  have s1 : (G.set 20 (cI 0 [nI (aL n k), x1, x2, x3, x4]))[b]? = some (cO 6 (aFs n k u)) := by rw [gset hb20]; exact h6
  have n1 : (G.set 20 (cI 0 [nI (aL n k), x1, x2, x3, x4]))[4]? = some (cO 3 (oFs e)) := by rw [gset (by decide)]; exact hN
  refine xj_aload_n dX0_holdsFor_10 rfl rfl ?_
  refine xj_get dX0_holdsFor_11 K0 20 (by decide) q489 o1 rfl ?_
  refine xj_ic1 dX0_holdsFor_14 ?_
  refine xj_aload_n dX0_holdsFor_15 rfl rfl ?_
  refine xj_getN dX0_holdsFor_16 K6 2 (by decide) q410 s1 rfl ?_
  refine xj_iast dX0_holdsFor_19 w1 (show (1 : Int32) = nI 1 from rfl) (by decide) (by show 1 < 5; decide) ?_
  refine xj_eq rfl rfl (show _ = (G.set 20 (cI 0 [nI (aL n k), nI (aH n k), x2, x3, x4])) from by rw [gset_set]; rfl) ?_
  have o2 : (G.set 20 (cI 0 [nI (aL n k), nI (aH n k), x2, x3, x4]))[0]? = some (cO 0 (cFs d)) := by rw [gset (by decide)]; exact hO
  have w2 : (G.set 20 (cI 0 [nI (aL n k), nI (aH n k), x2, x3, x4]))[20]? = some (cI 0 [nI (aL n k), nI (aH n k), x2, x3, x4]) := gset_self h20
  have s2 : (G.set 20 (cI 0 [nI (aL n k), nI (aH n k), x2, x3, x4]))[b]? = some (cO 6 (aFs n k u)) := by rw [gset hb20]; exact h6
  have n2 : (G.set 20 (cI 0 [nI (aL n k), nI (aH n k), x2, x3, x4]))[4]? = some (cO 3 (oFs e)) := by rw [gset (by decide)]; exact hN
  refine xj_aload_n dX0_holdsFor_20 rfl rfl ?_
  refine xj_get dX0_holdsFor_21 K0 20 (by decide) q489 o2 rfl ?_
  refine xj_ic2 dX0_holdsFor_24 ?_
  refine xj_aload_n dX0_holdsFor_25 rfl rfl ?_
  refine xj_cV dX0_holdsFor_26 q1199 kV_X6_lefts (A_lefts s2 hn7 hk) s2 rfl rfl rfl rfl (Nat.le_of_ble_eq_true rfl) (xR_ok (by decide) (by decide)) (Nat.le_of_ble_eq_true rfl) (Nat.le_of_ble_eq_true rfl) ?_
  refine xj_iast dX0_holdsFor_29 w2 (show (2 : Int32) = nI 2 from rfl) (by decide) (by show 2 < 5; decide) ?_
  refine xj_eq rfl rfl (show _ = (G.set 20 (cI 0 [nI (aL n k), nI (aH n k), nI (lf n k), x3, x4])) from by rw [gset_set]; rfl) ?_
  have o3 : (G.set 20 (cI 0 [nI (aL n k), nI (aH n k), nI (lf n k), x3, x4]))[0]? = some (cO 0 (cFs d)) := by rw [gset (by decide)]; exact hO
  have w3 : (G.set 20 (cI 0 [nI (aL n k), nI (aH n k), nI (lf n k), x3, x4]))[20]? = some (cI 0 [nI (aL n k), nI (aH n k), nI (lf n k), x3, x4]) := gset_self h20
  have s3 : (G.set 20 (cI 0 [nI (aL n k), nI (aH n k), nI (lf n k), x3, x4]))[b]? = some (cO 6 (aFs n k u)) := by rw [gset hb20]; exact h6
  have n3 : (G.set 20 (cI 0 [nI (aL n k), nI (aH n k), nI (lf n k), x3, x4]))[4]? = some (cO 3 (oFs e)) := by rw [gset (by decide)]; exact hN
  refine xj_aload_n dX0_holdsFor_30 rfl rfl ?_
  refine xj_get dX0_holdsFor_31 K0 20 (by decide) q489 o3 rfl ?_
  refine xj_ic3 dX0_holdsFor_34 ?_
  refine xj_aload_n dX0_holdsFor_35 rfl rfl ?_
  refine xj_cV dX0_holdsFor_36 q1200 kV_X6_rights (A_rights s3 hn7 hk) s3 rfl rfl rfl rfl (Nat.le_of_ble_eq_true rfl) (xR_ok (by decide) (by decide)) (Nat.le_of_ble_eq_true rfl) (Nat.le_of_ble_eq_true rfl) ?_
  refine xj_iast dX0_holdsFor_39 w3 (show (3 : Int32) = nI 3 from rfl) (by decide) (by show 3 < 5; decide) ?_
  refine xj_eq rfl rfl (show _ = (G.set 20 (cI 0 [nI (aL n k), nI (aH n k), nI (lf n k), nI (bw n k - lf n k), x4])) from by rw [gset_set]; rfl) ?_
  have o4 : (G.set 20 (cI 0 [nI (aL n k), nI (aH n k), nI (lf n k), nI (bw n k - lf n k), x4]))[0]? = some (cO 0 (cFs d)) := by rw [gset (by decide)]; exact hO
  have w4 : (G.set 20 (cI 0 [nI (aL n k), nI (aH n k), nI (lf n k), nI (bw n k - lf n k), x4]))[20]? = some (cI 0 [nI (aL n k), nI (aH n k), nI (lf n k), nI (bw n k - lf n k), x4]) := gset_self h20
  have s4 : (G.set 20 (cI 0 [nI (aL n k), nI (aH n k), nI (lf n k), nI (bw n k - lf n k), x4]))[b]? = some (cO 6 (aFs n k u)) := by rw [gset hb20]; exact h6
  have n4 : (G.set 20 (cI 0 [nI (aL n k), nI (aH n k), nI (lf n k), nI (bw n k - lf n k), x4]))[4]? = some (cO 3 (oFs e)) := by rw [gset (by decide)]; exact hN
  refine xj_aload_n dX0_holdsFor_40 rfl rfl ?_
  refine xj_get dX0_holdsFor_41 K0 20 (by decide) q489 o4 rfl ?_
  refine xj_ic4 dX0_holdsFor_44 ?_
  refine xj_aload_n dX0_holdsFor_45 rfl rfl ?_
  refine xj_get dX0_holdsFor_46 K0 4 (by decide) q473 o4 rfl ?_
  refine xj_getN dX0_holdsFor_49 K3 0 (by decide) q321 n4 (congrArg some hn0) ?_
  refine xj_iast dX0_holdsFor_52 w4 (show (4 : Int32) = nI 4 from rfl) (by decide) (by show 4 < 5; decide) ?_
  refine xj_eq rfl rfl (show _ = (G.set 20 (cI 0 [nI (aL n k), nI (aH n k), nI (lf n k), nI (bw n k - lf n k), nI n])) from by rw [gset_set]; rfl) ?_
  have o5 : (G.set 20 (cI 0 [nI (aL n k), nI (aH n k), nI (lf n k), nI (bw n k - lf n k), nI n]))[0]? = some (cO 0 (cFs d)) := by rw [gset (by decide)]; exact hO
  have w5 : (G.set 20 (cI 0 [nI (aL n k), nI (aH n k), nI (lf n k), nI (bw n k - lf n k), nI n]))[20]? = some (cI 0 [nI (aL n k), nI (aH n k), nI (lf n k), nI (bw n k - lf n k), nI n]) := gset_self h20
  have s5 : (G.set 20 (cI 0 [nI (aL n k), nI (aH n k), nI (lf n k), nI (bw n k - lf n k), nI n]))[b]? = some (cO 6 (aFs n k u)) := by rw [gset hb20]; exact h6
  have n5 : (G.set 20 (cI 0 [nI (aL n k), nI (aH n k), nI (lf n k), nI (bw n k - lf n k), nI n]))[4]? = some (cO 3 (oFs e)) := by rw [gset (by decide)]; exact hN
  obtain ⟨B, hB, hM⟩ := A_holds (E := E) w5 kk a c (hc.put h20 cdC_I)
  refine xj_aload_n dX0_holdsFor_53 rfl rfl ?_
  refine xj_aload_n dX0_holdsFor_54 rfl rfl ?_
  refine xj_get dX0_holdsFor_55 K0 20 (by decide) q489 o5 rfl ?_
  refine xj_hold dX0_holdsFor_58 q1201 hM (Nat.le_of_ble_eq_true rfl) (fun mL h => xR_ok (by omega) (by omega)) ?_
  exact xj_ireturn dX0_holdsFor_61 rfl (b1_nar _) ⟨by rw [hld_b hB], rfl⟩
end A57
