/-! ===== the class: acts ===== -/
set_option maxRecDepth 100000

/-- the class's trace -/
def cTr (l : List Int32) (G : xH) : Prop := ∃ LB : List Int32, G[32]? = some (cO 4 [.ref 33, .int (nI l.length)]) ∧ G[33]? = some (cI 0 LB) ∧ trL LB l
section A34
variable {E : xE} {G : xH} {d e : Nat → Value} {n : Nat}
theorem A_ran {l : List Int32} {bd : Int32}  (htr : cTr l G) : xMet E yX4_ran cX4_ran 2 none 0 0 0 [.ref 32, .int bd] G (xre (fun v_ G' => v_ = none ∧ gfa [32, 33] G G' ∧ cTr (rn bd l) G')) := by
  obtain ⟨LB, h32, h33, htl⟩ := id htr
  have hLB := htl.1
  have hl30 := htl.2.1
  refine xMet.of (lv := [some (.ref 32), some (.int bd)]) rfl rfl (Nat.le_of_ble_eq_true rfl) ?_
  refine xj_aload_n dX4_ran_0 rfl rfl ?_
  refine xj_get dX4_ran_1 K4 1 (by decide) q367 h32 rfl ?_
  refine xj_aload_n dX4_ran_4 rfl rfl ?_
  refine xj_get dX4_ran_5 K4 0 (by decide) q365 h32 rfl ?_
  refine xj_alenI dX4_ran_8 h33 rfl ?_
  rw [hLB]
  refine xj_icmp_ne (tgt := 13) dX4_ran_9 rfl (fun c9 => ?_) (fun c9 => ?_)
  · have hlt : l.length < 30 := by
      have : l.length ≠ 30 := fun h => c9 (by rw [h])
      omega
    refine xj_aload_n dX4_ran_13 rfl rfl ?_
    refine xj_get dX4_ran_14 K4 0 (by decide) q365 h32 rfl ?_
    refine xj_aload_n dX4_ran_17 rfl rfl ?_
    refine xj_get dX4_ran_18 K4 1 (by decide) q367 h32 rfl ?_
    refine xj_iload_n dX4_ran_21 rfl ?_
    refine xj_iast dX4_ran_22 h33 rfl (by omega) (by omega) ?_
    have k32 : (G.set 33 (cI 0 (LB.set l.length bd)))[32]? = some (cO 4 [.ref 33, .int (nI l.length)]) := by rw [gset (by decide)]; exact h32
    refine xj_aload_n dX4_ran_23 rfl rfl ?_
    refine xj_dup dX4_ran_24 rfl ?_
    refine xj_get dX4_ran_25 K4 1 (by decide) q367 k32 rfl ?_
    refine xj_ic1 dX4_ran_28 ?_
    refine xj_iadd dX4_ran_29 ?_
    rw [nI_1]
    refine xj_put dX4_ran_30 K4 1 (by decide) q367 rfl rfl k32 (Nat.le_of_ble_eq_true rfl) ?_
    exact xj_return dX4_ran_33 rfl ⟨rfl, (gfa.refl.set (by decide)).set (by decide), by rw [show rn bd l = l ++ [bd] from if_pos hlt]; exact ⟨LB.set l.length bd, by rw [List.length_append]; exact gset_self k32, by rw [gset (by decide)]; exact gset_self h33, trL_push htl hlt⟩⟩
  · exact xj_return dX4_ran_12 rfl ⟨rfl, gfa.refl, by rw [show rn bd l = l from if_neg (by have h := congrArg Int32.toNatClampNeg c9; rw [nI_clamp (by omega), nI_clamp (by omega)] at h; omega)]; exact htr⟩
end A34
