/-! ===== the reference: meet, join ===== -/
set_option maxRecDepth 100000
theorem kS_X7_ones : xsS yX7_ones cX7_ones 4 (some FieldType.int) 1 := ⟨q2125, q161, q2126, by decide, by decide, by decide +kernel⟩
theorem kV_X7_rowBy : xsV yX7_rowBy cX7_rowBy 8 (some FieldType.int) 1 := ⟨q2122, qs88, q161, q2123, by decide, by decide, by decide +kernel⟩
theorem nI_and (a b : Nat) : nI a &&& nI b = nI (a &&& b) := by
  apply Int32.toBitVec_inj.1
  show BitVec.ofNat 32 a &&& BitVec.ofNat 32 b = BitVec.ofNat 32 (a &&& b)
  apply BitVec.eq_of_getLsbD_eq
  intro i hi
  simp [hi]
section M5
variable {E : xE} {G : xH} {c : Nat → Value} {n : Nat}
theorem M_meetOf {r r2 : Nat} (hv : mV c n G) (hr : r ∈ rws n) (hr2 : r2 ∈ rws n) : xMet E yX7_meetOf cX7_meetOf 8 (some FieldType.int) 2 0 0 [.ref 54, .int (nI r), .int (nI r2)] G (xrv (some (.int (nI (mtS n (inv n r &&& inv n r2))))) G) := by
  obtain ⟨hO, hf0, h1n, hn6, hPw, hWy⟩ := id hv
  have hw31 := wayN hn6
  refine xMet.of (lv := [some (.ref 54), some (.int (nI r)), some (.int (nI r2)), none, none, none, none, none]) rfl rfl (Nat.le_of_ble_eq_true rfl) ?_
  refine xj_aload_n dX7_meetOf_0 rfl rfl ?_
  refine xj_iload_n dX7_meetOf_1 rfl ?_
  refine xj_cV dX7_meetOf_2 q2108 kV_X7_swapped (M_swapped hv hr) hO rfl rfl rfl rfl (Nat.le_of_ble_eq_true rfl) ⟨(Nat.le_of_ble_eq_true rfl), (Nat.le_of_ble_eq_true rfl)⟩ (Nat.le_of_ble_eq_true rfl) (Nat.le_of_ble_eq_true rfl) ?_
  refine xj_aload_n dX7_meetOf_5 rfl rfl ?_
  refine xj_iload_n dX7_meetOf_6 rfl ?_
  refine xj_cV dX7_meetOf_7 q2108 kV_X7_swapped (M_swapped hv hr2) hO rfl rfl rfl rfl (Nat.le_of_ble_eq_true rfl) ⟨(Nat.le_of_ble_eq_true rfl), (Nat.le_of_ble_eq_true rfl)⟩ (Nat.le_of_ble_eq_true rfl) (Nat.le_of_ble_eq_true rfl) ?_
  refine xj_iand dX7_meetOf_10 ?_
  rw [nI_and]
  refine xj_istn3 dX7_meetOf_11 rfl ?_
  refine xj_ic0 dX7_meetOf_12 ?_
  refine xj_ist4 dX7_meetOf_13 rfl ?_
  refine xj_icm1 dX7_meetOf_15 ?_
  refine xj_ist5 dX7_meetOf_16 rfl ?_
  refine xj_ic0 dX7_meetOf_18 ?_
  refine xj_ist6 dX7_meetOf_19 rfl ?_
  have lp : ∀ (K : Nat) (i : Nat) (b : Nat) (k : Nat), wy n - i < K → i ≤ wy n → k < 100 → (lpN (mtF n (inv n r &&& inv n r2)) i (wy n - i) (b, k)).1 = mtS n (inv n r &&& inv n r2) → xJ E (yX7_meetOf, cX7_meetOf, 8, (some FieldType.int), []) (xR 2 0 0) (xrv (some (.int (nI (mtS n (inv n r &&& inv n r2))))) G) 0 0 21 [some (.ref 54), some (.int (nI r)), some (.int (nI r2)), some (.int (nI (inv n r &&& inv n r2))), some (.int (nI b)), some (.int (nI k - 1)), some (.int (nI i)), none] [] G := by
    intro K
    induction K with
    | zero => intro i b k h; exact absurd h (Nat.not_lt_zero _)
    | succ K ih_lp =>
      intro i b k hK hi hk hs
      refine xj_iload dX7_meetOf_21 rfl ?_
      refine xj_aload_n dX7_meetOf_23 rfl rfl ?_
      refine xj_get dX7_meetOf_24 K7 19 (by decide) q1948 hO rfl ?_
      refine xj_aload_n dX7_meetOf_27 rfl rfl ?_
      refine xj_get dX7_meetOf_28 K7 0 (by decide) q1929 hO (congrArg some hf0) ?_
      refine xj_iald dX7_meetOf_31 hWy rfl (by omega) (wayL_at hn6) ?_
      refine xj_icmp_ge (tgt := 89) dX7_meetOf_32 rfl (fun c32 => ?_) (fun c32 => ?_)
      · have hin : wy n ≤ i := Nat.le_of_not_lt fun h => absurd c32 (nI_ge h (by omega))
        refine xj_iload dX7_meetOf_89 rfl ?_
        exact xj_ireturn dX7_meetOf_91 rfl rfl (xrv_i (by rw [← hs, lp_end _ hin]))
      · have hin : i < wy n := Nat.lt_of_not_le fun h => c32 (nI_le h (by omega))
        have hrb := rb_mem (by omega) h1n hin
        have hiv := inv_lt (by omega) hrb
        have hpc := pc64_le (inv n (rb n i))
        have hst := lp_step (mtF n (inv n r &&& inv n r2)) hin (b, k)
        unfold mtF at hst
        refine xj_aload_n dX7_meetOf_35 rfl rfl ?_
        refine xj_aload_n dX7_meetOf_36 rfl rfl ?_
        refine xj_iload dX7_meetOf_37 rfl ?_
        refine xj_cV dX7_meetOf_39 q2120 kV_X7_rowBy (M_rowBy hv hin) hO rfl rfl rfl rfl (Nat.le_of_ble_eq_true rfl) ⟨(Nat.le_of_ble_eq_true rfl), (Nat.le_of_ble_eq_true rfl)⟩ (Nat.le_of_ble_eq_true rfl) (Nat.le_of_ble_eq_true rfl) ?_
        refine xj_cV dX7_meetOf_42 q2108 kV_X7_swapped (M_swapped hv hrb) hO rfl rfl rfl rfl (Nat.le_of_ble_eq_true rfl) ⟨(Nat.le_of_ble_eq_true rfl), (Nat.le_of_ble_eq_true rfl)⟩ (Nat.le_of_ble_eq_true rfl) (Nat.le_of_ble_eq_true rfl) ?_
        refine xj_ist7 dX7_meetOf_45 rfl ?_
        refine xj_iload dX7_meetOf_47 rfl ?_
        refine xj_iload_n dX7_meetOf_49 rfl ?_
        refine xj_icm1 dX7_meetOf_50 ?_
        refine xj_ixor dX7_meetOf_51 ?_
        refine xj_iand dX7_meetOf_52 ?_
        refine xj_if_ne (tgt := 83) dX7_meetOf_53 rfl (fun c53 => ?_) (fun c53 => ?_)
        · rw [if_neg (fun q => c53 ((c_subI (Nat.lt_trans hiv (by decide))).mpr q.1))] at hst
          refine xj_iinc6 (cst := 1) dX7_meetOf_83 rfl rfl ?_
          refine xj_goto (tgt := 21) dX7_meetOf_86 rfl ?_
          refine xj_fg7 ?_
          rw [nI_1]
          exact ih_lp (i + 1) b k (by omega) (by omega) (by omega) ((congrArg Prod.fst hst).symm.trans hs)
        · refine xj_iload dX7_meetOf_56 rfl ?_
          refine xj_i2l dX7_meetOf_58 ?_
          refine xj_topl (nI_l (Nat.lt_trans hiv (by decide))) ?_
          refine xj_cS dX7_meetOf_59 q2124 kS_X7_ones (M_ones (Nat.lt_trans hiv (by decide))) rfl rfl (Nat.le_of_ble_eq_true rfl) ⟨(Nat.le_of_ble_eq_true rfl), (Nat.le_of_ble_eq_true rfl)⟩ (Nat.le_of_ble_eq_true rfl) (Nat.le_of_ble_eq_true rfl) ?_
          refine xj_iload dX7_meetOf_62 rfl ?_
          refine xj_icmp_le (tgt := 83) dX7_meetOf_64 rfl (fun c64 => ?_) (fun c64 => ?_)
          · rw [if_neg (fun q => absurd ((c_most (by omega) (by omega)).mp c64) (by omega))] at hst
            refine xj_iinc6 (cst := 1) dX7_meetOf_83 rfl rfl ?_
            refine xj_goto (tgt := 21) dX7_meetOf_86 rfl ?_
            refine xj_fg7 ?_
            rw [nI_1]
            exact ih_lp (i + 1) b k (by omega) (by omega) (by omega) ((congrArg Prod.fst hst).symm.trans hs)
          · refine xj_iload dX7_meetOf_67 rfl ?_
            refine xj_i2l dX7_meetOf_69 ?_
            refine xj_topl (nI_l (Nat.lt_trans hiv (by decide))) ?_
            refine xj_cS dX7_meetOf_70 q2124 kS_X7_ones (M_ones (Nat.lt_trans hiv (by decide))) rfl rfl (Nat.le_of_ble_eq_true rfl) ⟨(Nat.le_of_ble_eq_true rfl), (Nat.le_of_ble_eq_true rfl)⟩ (Nat.le_of_ble_eq_true rfl) (Nat.le_of_ble_eq_true rfl) ?_
            refine xj_ist5 dX7_meetOf_73 rfl ?_
            refine xj_aload_n dX7_meetOf_75 rfl rfl ?_
            refine xj_iload dX7_meetOf_76 rfl ?_
            refine xj_cV dX7_meetOf_78 q2120 kV_X7_rowBy (M_rowBy hv hin) hO rfl rfl rfl rfl (Nat.le_of_ble_eq_true rfl) ⟨(Nat.le_of_ble_eq_true rfl), (Nat.le_of_ble_eq_true rfl)⟩ (Nat.le_of_ble_eq_true rfl) (Nat.le_of_ble_eq_true rfl) ?_
            refine xj_ist4 dX7_meetOf_81 rfl ?_
            rw [if_pos ⟨(c_subI (Nat.lt_trans hiv (by decide))).mp c53, Nat.lt_of_not_le fun h => c64 ((c_most (by omega) (by omega)).mpr h)⟩] at hst
            rw [show nI (pc64 (inv n (rb n i))) = nI (pc64 (inv n (rb n i)) + 1) - 1 from (nI_pred _).symm]
            refine xj_iinc6 (cst := 1) dX7_meetOf_83 rfl rfl ?_
            refine xj_goto (tgt := 21) dX7_meetOf_86 rfl ?_
            refine xj_fg7 ?_
            rw [nI_1]
            exact ih_lp (i + 1) _ _ (by omega) (by omega) (by omega) ((congrArg Prod.fst hst).symm.trans hs)
  exact lp (wy n + 1) 0 0 0 (by omega) (by omega) (by omega) rfl
theorem M_joinOf {r r2 : Nat} (hv : mV c n G) (hr : r ∈ rws n) (hr2 : r2 ∈ rws n) : xMet E yX7_joinOf cX7_joinOf 8 (some FieldType.int) 2 0 0 [.ref 54, .int (nI r), .int (nI r2)] G (xrv (some (.int (nI (jnS n (inv n r ||| inv n r2))))) G) := by
  obtain ⟨hO, hf0, h1n, hn6, hPw, hWy⟩ := id hv
  have hw31 := wayN hn6
  have hor : inv n r ||| inv n r2 < 2 ^ 15 := Nat.or_lt_two_pow (inv_lt (by omega) hr) (inv_lt (by omega) hr2)
  refine xMet.of (lv := [some (.ref 54), some (.int (nI r)), some (.int (nI r2)), none, none, none, none, none]) rfl rfl (Nat.le_of_ble_eq_true rfl) ?_
  refine xj_aload_n dX7_joinOf_0 rfl rfl ?_
  refine xj_iload_n dX7_joinOf_1 rfl ?_
  refine xj_cV dX7_joinOf_2 q2108 kV_X7_swapped (M_swapped hv hr) hO rfl rfl rfl rfl (Nat.le_of_ble_eq_true rfl) ⟨(Nat.le_of_ble_eq_true rfl), (Nat.le_of_ble_eq_true rfl)⟩ (Nat.le_of_ble_eq_true rfl) (Nat.le_of_ble_eq_true rfl) ?_
  refine xj_aload_n dX7_joinOf_5 rfl rfl ?_
  refine xj_iload_n dX7_joinOf_6 rfl ?_
  refine xj_cV dX7_joinOf_7 q2108 kV_X7_swapped (M_swapped hv hr2) hO rfl rfl rfl rfl (Nat.le_of_ble_eq_true rfl) ⟨(Nat.le_of_ble_eq_true rfl), (Nat.le_of_ble_eq_true rfl)⟩ (Nat.le_of_ble_eq_true rfl) (Nat.le_of_ble_eq_true rfl) ?_
  refine xj_ior dX7_joinOf_10 ?_
  rw [nI_or]
  refine xj_istn3 dX7_joinOf_11 rfl ?_
  refine xj_ic0 dX7_joinOf_12 ?_
  refine xj_ist4 dX7_joinOf_13 rfl ?_
  refine xj_bipush (v := 99) dX7_joinOf_15 rfl ?_
  refine xj_ist5 dX7_joinOf_17 rfl ?_
  refine xj_ic0 dX7_joinOf_19 ?_
  refine xj_ist6 dX7_joinOf_20 rfl ?_
  have lp : ∀ (K : Nat) (i : Nat) (b : Nat) (k : Nat), wy n - i < K → i ≤ wy n → k < 100 → (lpN (jnF n (inv n r ||| inv n r2)) i (wy n - i) (b, k)).1 = jnS n (inv n r ||| inv n r2) → xJ E (yX7_joinOf, cX7_joinOf, 8, (some FieldType.int), []) (xR 2 0 0) (xrv (some (.int (nI (jnS n (inv n r ||| inv n r2))))) G) 0 0 22 [some (.ref 54), some (.int (nI r)), some (.int (nI r2)), some (.int (nI (inv n r ||| inv n r2))), some (.int (nI b)), some (.int (nI k)), some (.int (nI i)), none] [] G := by
    intro K
    induction K with
    | zero => intro i b k h; exact absurd h (Nat.not_lt_zero _)
    | succ K ih_lp =>
      intro i b k hK hi hk hs
      refine xj_iload dX7_joinOf_22 rfl ?_
      refine xj_aload_n dX7_joinOf_24 rfl rfl ?_
      refine xj_get dX7_joinOf_25 K7 19 (by decide) q1948 hO rfl ?_
      refine xj_aload_n dX7_joinOf_28 rfl rfl ?_
      refine xj_get dX7_joinOf_29 K7 0 (by decide) q1929 hO (congrArg some hf0) ?_
      refine xj_iald dX7_joinOf_32 hWy rfl (by omega) (wayL_at hn6) ?_
      refine xj_icmp_ge (tgt := 90) dX7_joinOf_33 rfl (fun c33 => ?_) (fun c33 => ?_)
      · have hin : wy n ≤ i := Nat.le_of_not_lt fun h => absurd c33 (nI_ge h (by omega))
        refine xj_iload dX7_joinOf_90 rfl ?_
        exact xj_ireturn dX7_joinOf_92 rfl rfl (xrv_i (by rw [← hs, lp_end _ hin]))
      · have hin : i < wy n := Nat.lt_of_not_le fun h => c33 (nI_le h (by omega))
        have hrb := rb_mem (by omega) h1n hin
        have hiv := inv_lt (by omega) hrb
        have hpc := pc64_le (inv n (rb n i))
        have hst := lp_step (jnF n (inv n r ||| inv n r2)) hin (b, k)
        unfold jnF at hst
        refine xj_aload_n dX7_joinOf_36 rfl rfl ?_
        refine xj_aload_n dX7_joinOf_37 rfl rfl ?_
        refine xj_iload dX7_joinOf_38 rfl ?_
        refine xj_cV dX7_joinOf_40 q2120 kV_X7_rowBy (M_rowBy hv hin) hO rfl rfl rfl rfl (Nat.le_of_ble_eq_true rfl) ⟨(Nat.le_of_ble_eq_true rfl), (Nat.le_of_ble_eq_true rfl)⟩ (Nat.le_of_ble_eq_true rfl) (Nat.le_of_ble_eq_true rfl) ?_
        refine xj_cV dX7_joinOf_43 q2108 kV_X7_swapped (M_swapped hv hrb) hO rfl rfl rfl rfl (Nat.le_of_ble_eq_true rfl) ⟨(Nat.le_of_ble_eq_true rfl), (Nat.le_of_ble_eq_true rfl)⟩ (Nat.le_of_ble_eq_true rfl) (Nat.le_of_ble_eq_true rfl) ?_
        refine xj_ist7 dX7_joinOf_46 rfl ?_
        refine xj_iload_n dX7_joinOf_48 rfl ?_
        refine xj_iload dX7_joinOf_49 rfl ?_
        refine xj_icm1 dX7_joinOf_51 ?_
        refine xj_ixor dX7_joinOf_52 ?_
        refine xj_iand dX7_joinOf_53 ?_
        refine xj_if_ne (tgt := 84) dX7_joinOf_54 rfl (fun c54 => ?_) (fun c54 => ?_)
        · rw [if_neg (fun q => c54 ((c_subI (Nat.lt_trans hor (by decide))).mpr q.1))] at hst
          refine xj_iinc6 (cst := 1) dX7_joinOf_84 rfl rfl ?_
          refine xj_goto (tgt := 22) dX7_joinOf_87 rfl ?_
          refine xj_fg7 ?_
          rw [nI_1]
          exact ih_lp (i + 1) b k (by omega) (by omega) (by omega) ((congrArg Prod.fst hst).symm.trans hs)
        · refine xj_iload dX7_joinOf_57 rfl ?_
          refine xj_i2l dX7_joinOf_59 ?_
          refine xj_topl (nI_l (Nat.lt_trans hiv (by decide))) ?_
          refine xj_cS dX7_joinOf_60 q2124 kS_X7_ones (M_ones (Nat.lt_trans hiv (by decide))) rfl rfl (Nat.le_of_ble_eq_true rfl) ⟨(Nat.le_of_ble_eq_true rfl), (Nat.le_of_ble_eq_true rfl)⟩ (Nat.le_of_ble_eq_true rfl) (Nat.le_of_ble_eq_true rfl) ?_
          refine xj_iload dX7_joinOf_63 rfl ?_
          refine xj_icmp_ge (tgt := 84) dX7_joinOf_65 rfl (fun c65 => ?_) (fun c65 => ?_)
          · rw [if_neg (fun q => absurd ((nI_leI (by omega) (by omega)).mp c65) (by omega))] at hst
            refine xj_iinc6 (cst := 1) dX7_joinOf_84 rfl rfl ?_
            refine xj_goto (tgt := 22) dX7_joinOf_87 rfl ?_
            refine xj_fg7 ?_
            rw [nI_1]
            exact ih_lp (i + 1) b k (by omega) (by omega) (by omega) ((congrArg Prod.fst hst).symm.trans hs)
          · refine xj_iload dX7_joinOf_68 rfl ?_
            refine xj_i2l dX7_joinOf_70 ?_
            refine xj_topl (nI_l (Nat.lt_trans hiv (by decide))) ?_
            refine xj_cS dX7_joinOf_71 q2124 kS_X7_ones (M_ones (Nat.lt_trans hiv (by decide))) rfl rfl (Nat.le_of_ble_eq_true rfl) ⟨(Nat.le_of_ble_eq_true rfl), (Nat.le_of_ble_eq_true rfl)⟩ (Nat.le_of_ble_eq_true rfl) (Nat.le_of_ble_eq_true rfl) ?_
            refine xj_ist5 dX7_joinOf_74 rfl ?_
            refine xj_aload_n dX7_joinOf_76 rfl rfl ?_
            refine xj_iload dX7_joinOf_77 rfl ?_
            refine xj_cV dX7_joinOf_79 q2120 kV_X7_rowBy (M_rowBy hv hin) hO rfl rfl rfl rfl (Nat.le_of_ble_eq_true rfl) ⟨(Nat.le_of_ble_eq_true rfl), (Nat.le_of_ble_eq_true rfl)⟩ (Nat.le_of_ble_eq_true rfl) (Nat.le_of_ble_eq_true rfl) ?_
            refine xj_ist4 dX7_joinOf_82 rfl ?_
            rw [if_pos ⟨(c_subI (Nat.lt_trans hor (by decide))).mp c54, Nat.lt_of_not_le fun h => c65 ((nI_leI (by omega) (by omega)).mpr h)⟩] at hst
            refine xj_iinc6 (cst := 1) dX7_joinOf_84 rfl rfl ?_
            refine xj_goto (tgt := 22) dX7_joinOf_87 rfl ?_
            refine xj_fg7 ?_
            rw [nI_1]
            exact ih_lp (i + 1) _ _ (by omega) (by omega) (by omega) ((congrArg Prod.fst hst).symm.trans hs)
  exact lp (wy n + 1) 0 0 99 (by omega) (by omega) (by omega) rfl
end M5
