/-! ===== the reference: arcs ===== -/
set_option maxRecDepth 100000
theorem kV_X7_arcAt : xsV yX7_arcAt cX7_arcAt 10 (some FieldType.int) 2 := ⟨q2182, qs97, q161, q2183, by decide, by decide, by decide +kernel⟩
theorem kS_X7_in : xsS yX7_in cX7_in 6 (some FieldType.boolean) 3 := ⟨q2086, q161, q2087, by decide, by decide, by decide +kernel⟩
theorem kV_X7_isLeft : xsV yX7_isLeft cX7_isLeft 3 (some FieldType.boolean) 2 := ⟨q1924, qs81, q161, q1925, by decide, by decide, by decide +kernel⟩
/-- the tables of arcs stand -/
def mA (n : Nat) (G : xH) : Prop := ∃ L1 L2 L3 : List Int32, G[59]? = some (cI 0 L1) ∧ G[60]? = some (cI 0 L2) ∧ G[61]? = some (cI 0 L3) ∧ ∀ k, k < na n → L1[k]? = some (nI (aL n k)) ∧ L2[k]? = some (nI (aH n k)) ∧ L3[k]? = some (nI (aF n k))
/-- .. and what they force -/
def mF (c : Nat → Value) (n : Nat) (G : xH) : Prop := c 17 = .int (nI (na n)) ∧ ∃ L4 : List Int64, G[62]? = some (cL 4 L4) ∧ ∀ k, k < na n → L4[k]? = some (lN (fo n k))
section M6
variable {E : xE} {G : xH} {c : Nat → Value} {n : Nat}
theorem M_isLeft {x e : Nat} (hv : mV c n G) (ha : mA n G) (hx : x < na n) (he : aL n x < e) (he2 : e < 60) : xMet E yX7_isLeft cX7_isLeft 3 (some FieldType.boolean) 1 0 0 [.ref 54, .int (nI x), .int (nI e)] G (xrv (some (.int (b1 (lft n x e)))) G) := by
  obtain ⟨hO, hf0, h1n, hn6, hPw, hWy⟩ := id hv
  obtain ⟨L1, L2, L3, hL1, hL2, hL3, hAr⟩ := id ha
  have hna := na_lt n (by omega)
  have hac := f_ac n (by omega) x hx
  refine xMet.of (lv := [some (.ref 54), some (.int (nI x)), some (.int (nI e))]) rfl rfl (Nat.le_of_ble_eq_true rfl) ?_
  refine xj_aload_n dX7_isLeft_0 rfl rfl ?_
  refine xj_get dX7_isLeft_1 K7 15 (by decide) q1944 hO rfl ?_
  refine xj_iload_n dX7_isLeft_4 rfl ?_
  refine xj_iald dX7_isLeft_5 hL3 rfl (by omega) (hAr x hx).2.2 ?_
  refine xj_i2l dX7_isLeft_6 ?_
  refine xj_topl (nI_l (by omega)) ?_
  refine xj_iload_n dX7_isLeft_7 rfl ?_
  refine xj_aload_n dX7_isLeft_8 rfl rfl ?_
  refine xj_get dX7_isLeft_9 K7 13 (by decide) q1942 hO rfl ?_
  refine xj_iload_n dX7_isLeft_12 rfl ?_
  refine xj_iald dX7_isLeft_13 hL1 rfl (by omega) (hAr x hx).1 ?_
  refine xj_isub dX7_isLeft_14 ?_
  refine xj_ic1 dX7_isLeft_15 ?_
  refine xj_isub dX7_isLeft_16 ?_
  refine xj_top (by rw [pk_sub (Nat.le_of_lt he), nI_sub1 (by omega)]) ?_
  refine xj_cS dX7_isLeft_17 q1926 kS_X7_has (M_has (by omega) (by omega)) rfl rfl (Nat.le_of_ble_eq_true rfl) ⟨(Nat.le_of_ble_eq_true rfl), (Nat.le_of_ble_eq_true rfl)⟩ (Nat.le_of_ble_eq_true rfl) (Nat.le_of_ble_eq_true rfl) ?_
  exact xj_ireturn dX7_isLeft_20 rfl (b1_nar _) (xrv_i rfl)
theorem M_isArc {x : Int32} (hv : mV c n G) (hf17 : c 17 = .int (nI (na n))) : xMet E yX7_isArc cX7_isArc 2 (some FieldType.boolean) 1 0 0 [.ref 54, .int x] G (xrv (some (.int (b1 (inB x.toInt64 0 (nI (na n) - 1).toInt64)))) G) := by
  obtain ⟨hO, hf0, h1n, hn6, hPw, hWy⟩ := id hv
  refine xMet.of (lv := [some (.ref 54), some (.int x)]) rfl rfl (Nat.le_of_ble_eq_true rfl) ?_
  refine xj_iload_n dX7_isArc_0 rfl ?_
  refine xj_i2l dX7_isArc_1 ?_
  refine xj_lc0 dX7_isArc_2 ?_
  refine xj_aload_n dX7_isArc_3 rfl rfl ?_
  refine xj_get dX7_isArc_4 K7 17 (by decide) q1946 hO (congrArg some hf17) ?_
  refine xj_ic1 dX7_isArc_7 ?_
  refine xj_isub dX7_isArc_8 ?_
  refine xj_i2l dX7_isArc_9 ?_
  refine xj_cS dX7_isArc_10 q2085 kS_X7_in M_in rfl rfl (Nat.le_of_ble_eq_true rfl) ⟨(Nat.le_of_ble_eq_true rfl), (Nat.le_of_ble_eq_true rfl)⟩ (Nat.le_of_ble_eq_true rfl) (Nat.le_of_ble_eq_true rfl) ?_
  exact xj_ireturn dX7_isArc_13 rfl (b1_nar _) (xrv_i rfl)
theorem M_isForcing {x y : Nat} (hv : mV c n G) (ha : mA n G) (hx : x < na n) (hy : y < na n) : xMet E yX7_isForcing cX7_isForcing 5 (some FieldType.boolean) 2 0 0 [.ref 54, .int (nI x), .int (nI y)] G (xrv (some (.int (b1 (frcB n x y)))) G) := by
  obtain ⟨hO, hf0, h1n, hn6, hPw, hWy⟩ := id hv
  obtain ⟨L1, L2, L3, hL1, hL2, hL3, hAr⟩ := id ha
  have hna := na_lt n (by omega)
  have hac := f_ac n (by omega) x hx
  have hac2 := f_ac n (by omega) y hy
  refine xMet.of (lv := [some (.ref 54), some (.int (nI x)), some (.int (nI y)), none, none]) rfl rfl (Nat.le_of_ble_eq_true rfl) ?_
  refine xj_aload_n dX7_isForcing_0 rfl rfl ?_
  refine xj_get dX7_isForcing_1 K7 13 (by decide) q1942 hO rfl ?_
  refine xj_iload_n dX7_isForcing_4 rfl ?_
  refine xj_iald dX7_isForcing_5 hL1 rfl (by omega) (hAr y hy).1 ?_
  refine xj_aload_n dX7_isForcing_6 rfl rfl ?_
  refine xj_get dX7_isForcing_7 K7 13 (by decide) q1942 hO rfl ?_
  refine xj_iload_n dX7_isForcing_10 rfl ?_
  refine xj_iald dX7_isForcing_11 hL1 rfl (by omega) (hAr x hx).1 ?_
  refine xj_sI_icmp_gt (tgt := 34) (M := 35) dX7_isForcing_12 rfl (fun c12 k => by
      refine xj_ic0 dX7_isForcing_34 ?_
      exact k) (fun c12 k => by
      refine xj_aload_n dX7_isForcing_15 rfl rfl ?_
      refine xj_get dX7_isForcing_16 K7 14 (by decide) q1943 hO rfl ?_
      refine xj_iload_n dX7_isForcing_19 rfl ?_
      refine xj_iald dX7_isForcing_20 hL2 rfl (by omega) (hAr y hy).2.1 ?_
      refine xj_aload_n dX7_isForcing_21 rfl rfl ?_
      refine xj_get dX7_isForcing_22 K7 14 (by decide) q1943 hO rfl ?_
      refine xj_iload_n dX7_isForcing_25 rfl ?_
      refine xj_iald dX7_isForcing_26 hL2 rfl (by omega) (hAr x hx).2.1 ?_
      refine xj_sI_icmp_lt (tgt := 34) (M := 35) dX7_isForcing_27 rfl (fun c27 k => by
          refine xj_ic0 dX7_isForcing_34 ?_
          exact k) (fun c27 k => by
          refine xj_ic1 dX7_isForcing_30 ?_
          refine xj_goto (tgt := 35) dX7_isForcing_31 rfl ?_
          exact k) ?_
      exact k) ?_
  refine xj_top (y := b1 (decide (aL n y ≤ aL n x) && decide (aH n x ≤ aH n y))) (by rw [c_lt (by omega) (by omega), c_lt (by omega) (by omega)]; by_cases q1 : aL n y ≤ aL n x <;> by_cases q2 : aH n x ≤ aH n y <;> simp [q1, q2, b1, Nat.not_lt.mpr, Nat.lt_of_not_le]) ?_
  refine xj_istn3 dX7_isForcing_35 rfl ?_
  refine xj_aload_n dX7_isForcing_36 rfl rfl ?_
  refine xj_get dX7_isForcing_37 K7 13 (by decide) q1942 hO rfl ?_
  refine xj_iload_n dX7_isForcing_40 rfl ?_
  refine xj_iald dX7_isForcing_41 hL1 rfl (by omega) (hAr x hx).1 ?_
  refine xj_ic1 dX7_isForcing_42 ?_
  refine xj_iadd dX7_isForcing_43 ?_
  rw [nI_1]
  refine xj_ist4 dX7_isForcing_44 rfl ?_
  have lp : ∀ (K : Nat) (e : Nat) (t : Bool), aH n x - e < K → (aL n x < e ∧ e ≤ aH n x) → (t = true → aL n y ≤ aL n x) → (frL n x y (aH n x - e) e t = frcB n x y) → xJ E (yX7_isForcing, cX7_isForcing, 5, (some FieldType.boolean), []) (xR 2 0 0) (xrv (some (.int (b1 (frcB n x y)))) G) 0 0 46 [some (.ref 54), some (.int (nI x)), some (.int (nI y)), some (.int (b1 t)), some (.int (nI e))] [] G := by
    intro K
    induction K with
    | zero => intro e t h; exact absurd h (Nat.not_lt_zero _)
    | succ K ih_lp =>
      intro e t hK he ht hs
      refine xj_iload dX7_isForcing_46 rfl ?_
      refine xj_aload_n dX7_isForcing_48 rfl rfl ?_
      refine xj_get dX7_isForcing_49 K7 14 (by decide) q1943 hO rfl ?_
      refine xj_iload_n dX7_isForcing_52 rfl ?_
      refine xj_iald dX7_isForcing_53 hL2 rfl (by omega) (hAr x hx).2.1 ?_
      refine xj_icmp_ge (tgt := 90) dX7_isForcing_54 rfl (fun c54 => ?_) (fun c54 => ?_)
      · have hend : t = frcB n x y := by
          first
            | (have h0 : aH n x - e = 0 := Nat.sub_eq_zero_of_le (Nat.le_of_not_lt fun h => absurd c54 (nI_ge h (by omega)))
               rw [h0] at hs; exact hs)
            | (have hf : t = false := by cases t with
                 | false => rfl
                 | true => exact absurd c58 (by decide)
               rw [hf] at hs ⊢; exact hs)
        refine xj_iload_n dX7_isForcing_90 rfl ?_
        exact xj_ireturn dX7_isForcing_91 rfl (b1_nar _) (xrv_i (by rw [hend]))
      · have hen : e < aH n x := Nat.lt_of_not_le fun h => c54 (nI_le h (by omega))
        rw [show aH n x - e = (aH n x - (e + 1)) + 1 by omega] at hs
        have hs : (if t then frL n x y (aH n x - (e + 1)) (e + 1) (lft n x e == lft n y e) else t) = frcB n x y := hs
        refine xj_iload_n dX7_isForcing_57 rfl ?_
        refine xj_if_eq (tgt := 90) dX7_isForcing_58 rfl (fun c58 => ?_) (fun c58 => ?_)
        · have hend : t = frcB n x y := by
            first
              | (have h0 : aH n x - e = 0 := Nat.sub_eq_zero_of_le (Nat.le_of_not_lt fun h => absurd c54 (nI_ge h (by omega)))
                 rw [h0] at hs; exact hs)
              | (have hf : t = false := by cases t with
                   | false => rfl
                   | true => exact absurd c58 (by decide)
                 rw [hf] at hs ⊢; exact hs)
          refine xj_iload_n dX7_isForcing_90 rfl ?_
          exact xj_ireturn dX7_isForcing_91 rfl (b1_nar _) (xrv_i (by rw [hend]))
        · have htt : t = true := by cases t with
            | true => rfl
            | false => exact absurd rfl c58
          rw [if_pos htt] at hs
          have hly := ht htt
          refine xj_aload_n dX7_isForcing_61 rfl rfl ?_
          refine xj_iload_n dX7_isForcing_62 rfl ?_
          refine xj_iload dX7_isForcing_63 rfl ?_
          refine xj_cV dX7_isForcing_65 q1922 kV_X7_isLeft (M_isLeft hv ha hx he.1 (by omega)) hO rfl rfl rfl rfl (Nat.le_of_ble_eq_true rfl) ⟨(Nat.le_of_ble_eq_true rfl), (Nat.le_of_ble_eq_true rfl)⟩ (Nat.le_of_ble_eq_true rfl) (Nat.le_of_ble_eq_true rfl) ?_
          refine xj_aload_n dX7_isForcing_68 rfl rfl ?_
          refine xj_iload_n dX7_isForcing_69 rfl ?_
          refine xj_iload dX7_isForcing_70 rfl ?_
          refine xj_cV dX7_isForcing_72 q1922 kV_X7_isLeft (M_isLeft hv ha hy (by omega) (by omega)) hO rfl rfl rfl rfl (Nat.le_of_ble_eq_true rfl) ⟨(Nat.le_of_ble_eq_true rfl), (Nat.le_of_ble_eq_true rfl)⟩ (Nat.le_of_ble_eq_true rfl) (Nat.le_of_ble_eq_true rfl) ?_
          refine xj_sI_icmp_ne (tgt := 82) (M := 83) dX7_isForcing_75 rfl (fun c75 k => by
              refine xj_ic0 dX7_isForcing_82 ?_
              exact k) (fun c75 k => by
              refine xj_ic1 dX7_isForcing_78 ?_
              refine xj_goto (tgt := 83) dX7_isForcing_79 rfl ?_
              exact k) ?_
          refine xj_top (y := b1 (lft n x e == lft n y e)) (by cases lft n x e <;> cases lft n y e <;> rfl) ?_
          refine xj_istn3 dX7_isForcing_83 rfl ?_
          refine xj_iinc4 (cst := 1) dX7_isForcing_84 rfl rfl ?_
          rw [nI_1]
          refine xj_goto (tgt := 46) dX7_isForcing_87 rfl ?_
          exact ih_lp (e + 1) _ (by omega) (by omega) (fun _ => hly) hs
  exact lp (aH n x + 1) (aL n x + 1) _ (by omega) (by omega) (fun q => by simp only [Bool.and_eq_true, decide_eq_true_eq] at q; exact q.1) rfl
theorem M_arcAt {r p : Nat} (hv : mV c n G) (ha : mA n G) (hr : r ∈ rws n) (hp : p < n - 1) : xMet E yX7_arcAt cX7_arcAt 10 (some FieldType.int) 1 0 0 [.ref 54, .int (nI r), .int (nI p)] G (xrv (some (.int (nI (aa n r p)))) G) := by
  obtain ⟨hO, hf0, h1n, hn6, hPw, hWy⟩ := id hv
  obtain ⟨L1, L2, L3, hL1, hL2, hL3, hAr⟩ := id ha
  have hna := na_lt n (by omega)
  have hr31 := R31 (by omega) hr
  have h1 := f_dig n (by omega) r hr p (by omega)
  have h2 := f_dig n (by omega) r hr (p + 1) (by omega)
  have haa := f_aa n (by omega) r hr p hp
  have hA7 : (amn (dgt n r p) (dgt n r (p + 1))) < 7 := by unfold amn; split <;> omega
  have hB7 : (amx (dgt n r p) (dgt n r (p + 1))) < 7 := by unfold amx; split <;> omega
  have hA31 : (amn (dgt n r p) (dgt n r (p + 1))) < 2 ^ 31 := by omega
  have hB31 : (amx (dgt n r p) (dgt n r (p + 1))) < 2 ^ 31 := by omega
  refine xMet.of (lv := [some (.ref 54), some (.int (nI r)), some (.int (nI p)), none, none, none, none, none, none, none]) rfl rfl (Nat.le_of_ble_eq_true rfl) ?_
  refine xj_aload_n dX7_arcAt_0 rfl rfl ?_
  refine xj_iload_n dX7_arcAt_1 rfl ?_
  refine xj_iload_n dX7_arcAt_2 rfl ?_
  refine xj_cV dX7_arcAt_3 q2100 kV_X7_digit (M_digit hv hr31 (by omega)) hO rfl rfl rfl rfl (Nat.le_of_ble_eq_true rfl) ⟨(Nat.le_of_ble_eq_true rfl), (Nat.le_of_ble_eq_true rfl)⟩ (Nat.le_of_ble_eq_true rfl) (Nat.le_of_ble_eq_true rfl) ?_
  refine xj_istn3 dX7_arcAt_6 rfl ?_
  refine xj_aload_n dX7_arcAt_7 rfl rfl ?_
  refine xj_iload_n dX7_arcAt_8 rfl ?_
  refine xj_iload_n dX7_arcAt_9 rfl ?_
  refine xj_ic1 dX7_arcAt_10 ?_
  refine xj_iadd dX7_arcAt_11 ?_
  rw [nI_1]
  refine xj_cV dX7_arcAt_12 q2100 kV_X7_digit (M_digit hv hr31 (by omega)) hO rfl rfl rfl rfl (Nat.le_of_ble_eq_true rfl) ⟨(Nat.le_of_ble_eq_true rfl), (Nat.le_of_ble_eq_true rfl)⟩ (Nat.le_of_ble_eq_true rfl) (Nat.le_of_ble_eq_true rfl) ?_
  refine xj_ist4 dX7_arcAt_15 rfl ?_
  refine xj_iload_n dX7_arcAt_17 rfl ?_
  refine xj_iload dX7_arcAt_18 rfl ?_
  refine xj_sI_icmp_ge (tgt := 27) (M := 29) dX7_arcAt_20 rfl (fun c20 k => by
      refine xj_iload dX7_arcAt_27 rfl ?_
      exact k) (fun c20 k => by
      refine xj_iload_n dX7_arcAt_23 rfl ?_
      refine xj_goto (tgt := 29) dX7_arcAt_24 rfl ?_
      exact k) ?_
  refine xj_top (y := nI (amn (dgt n r p) (dgt n r (p + 1)))) (by unfold amn; rw [c_le (by omega) (by omega)]; split <;> rfl) ?_
  refine xj_ist5 dX7_arcAt_29 rfl ?_
  refine xj_iload_n dX7_arcAt_31 rfl ?_
  refine xj_iload dX7_arcAt_32 rfl ?_
  refine xj_sI_icmp_ge (tgt := 42) (M := 43) dX7_arcAt_34 rfl (fun c34 k => by
      refine xj_iload_n dX7_arcAt_42 rfl ?_
      exact k) (fun c34 k => by
      refine xj_iload dX7_arcAt_37 rfl ?_
      refine xj_goto (tgt := 43) dX7_arcAt_39 rfl ?_
      exact k) ?_
  refine xj_top (y := nI (amx (dgt n r p) (dgt n r (p + 1)))) (by unfold amx; rw [c_le (by omega) (by omega)]; split <;> rfl) ?_
  refine xj_ist6 dX7_arcAt_43 rfl ?_
  refine xj_ic0 dX7_arcAt_45 ?_
  refine xj_ist7 dX7_arcAt_46 rfl ?_
  refine xj_ic0 dX7_arcAt_48 ?_
  refine xj_ist8 dX7_arcAt_49 rfl ?_
  have l1 : ∀ (K : Nat) (q : Nat) (s : Nat), p - q < K → (q ≤ p) → (lpN (fun q s => s ||| abt (amn (dgt n r p) (dgt n r (p + 1))) (amx (dgt n r p) (dgt n r (p + 1))) (dgt n r q)) q (p - q) s = alf n r p) → xJ E (yX7_arcAt, cX7_arcAt, 10, (some FieldType.int), []) (xR 1 0 0) (xrv (some (.int (nI (aa n r p)))) G) 0 0 51 [some (.ref 54), some (.int (nI r)), some (.int (nI p)), some (.int (nI (dgt n r p))), some (.int (nI (dgt n r (p + 1)))), some (.int (nI (amn (dgt n r p) (dgt n r (p + 1))))), some (.int (nI (amx (dgt n r p) (dgt n r (p + 1))))), some (.int (nI s)), some (.int (nI q)), none] [] G := by
    intro K
    induction K with
    | zero => intro q s h; exact absurd h (Nat.not_lt_zero _)
    | succ K ih_l1 =>
      intro q s hK hq hs
      refine xj_iload dX7_arcAt_51 rfl ?_
      refine xj_iload_n dX7_arcAt_53 rfl ?_
      refine xj_icmp_ge (tgt := 104) dX7_arcAt_54 rfl (fun c54 => ?_) (fun c54 => ?_)
      · have hqp : p ≤ q := Nat.le_of_not_lt fun h => absurd c54 (nI_ge h (by omega))
        rw [lp_end _ hqp] at hs
        subst hs
        refine xj_ic0 dX7_arcAt_104 ?_
        refine xj_ist8 dX7_arcAt_105 rfl ?_
        have l2 : ∀ (K : Nat) (k : Nat) (i : Nat), k < K → (i + k = na n) → (fdA n (amn (dgt n r p) (dgt n r (p + 1))) (amx (dgt n r p) (dgt n r (p + 1))) (alf n r p) k i = aa n r p) → xJ E (yX7_arcAt, cX7_arcAt, 10, (some FieldType.int), []) (xR 1 0 0) (xrv (some (.int (nI (aa n r p)))) G) 0 0 107 [some (.ref 54), some (.int (nI r)), some (.int (nI p)), some (.int (nI (dgt n r p))), some (.int (nI (dgt n r (p + 1)))), some (.int (nI (amn (dgt n r p) (dgt n r (p + 1))))), some (.int (nI (amx (dgt n r p) (dgt n r (p + 1))))), some (.int (nI (alf n r p))), some (.int (nI i)), none] [] G := by
          intro K
          induction K with
          | zero => intro k i h; exact absurd h (Nat.not_lt_zero _)
          | succ K ih_l2 =>
            intro k i hK hk hs2
            have hin : i < na n := Nat.lt_of_le_of_lt (by rw [← hs2]; exact fdA_ge _ _ _ _ k i) haa.1
            obtain ⟨k, rfl⟩ : ∃ k0, k = k0 + 1 := ⟨k - 1, by omega⟩
            have hs2 : (if aL n i = (amn (dgt n r p) (dgt n r (p + 1))) ∧ aH n i = (amx (dgt n r p) (dgt n r (p + 1))) ∧ aF n i = alf n r p then i else fdA n (amn (dgt n r p) (dgt n r (p + 1))) (amx (dgt n r p) (dgt n r (p + 1))) (alf n r p) k (i + 1)) = aa n r p := hs2
            have hai := f_ac n (by omega) i hin
            refine xj_aload_n dX7_arcAt_107 rfl rfl ?_
            refine xj_get dX7_arcAt_108 K7 13 (by decide) q1942 hO rfl ?_
            refine xj_iload dX7_arcAt_111 rfl ?_
            refine xj_iald dX7_arcAt_113 hL1 rfl (by omega) (hAr i hin).1 ?_
            refine xj_iload dX7_arcAt_114 rfl ?_
            refine xj_icmp_ne (tgt := 143) dX7_arcAt_116 rfl (fun c116 => ?_) (fun c116 => ?_)
            · refine xj_iinc8 (cst := 1) dX7_arcAt_143 rfl rfl ?_
              rw [nI_1]
              refine xj_goto (tgt := 107) dX7_arcAt_146 rfl ?_
              exact ih_l2 k (i + 1) (by omega) (by omega) (by rw [if_neg (by first | exact fun q => c116 (by rw [q.1]) | exact fun q => c128 (by rw [q.2.1]) | exact fun q => c140 (by rw [q.2.2]))] at hs2; exact hs2)
            · refine xj_aload_n dX7_arcAt_119 rfl rfl ?_
              refine xj_get dX7_arcAt_120 K7 14 (by decide) q1943 hO rfl ?_
              refine xj_iload dX7_arcAt_123 rfl ?_
              refine xj_iald dX7_arcAt_125 hL2 rfl (by omega) (hAr i hin).2.1 ?_
              refine xj_iload dX7_arcAt_126 rfl ?_
              refine xj_icmp_ne (tgt := 143) dX7_arcAt_128 rfl (fun c128 => ?_) (fun c128 => ?_)
              · refine xj_iinc8 (cst := 1) dX7_arcAt_143 rfl rfl ?_
                rw [nI_1]
                refine xj_goto (tgt := 107) dX7_arcAt_146 rfl ?_
                exact ih_l2 k (i + 1) (by omega) (by omega) (by rw [if_neg (by first | exact fun q => c116 (by rw [q.1]) | exact fun q => c128 (by rw [q.2.1]) | exact fun q => c140 (by rw [q.2.2]))] at hs2; exact hs2)
              · refine xj_aload_n dX7_arcAt_131 rfl rfl ?_
                refine xj_get dX7_arcAt_132 K7 15 (by decide) q1944 hO rfl ?_
                refine xj_iload dX7_arcAt_135 rfl ?_
                refine xj_iald dX7_arcAt_137 hL3 rfl (by omega) (hAr i hin).2.2 ?_
                refine xj_iload dX7_arcAt_138 rfl ?_
                refine xj_icmp_eq (tgt := 149) dX7_arcAt_140 rfl (fun c140 => ?_) (fun c140 => ?_)
                · rw [if_pos ⟨(nI_eq (by omega) hA31).mp c116, (nI_eq (by omega) hB31).mp c128, (nI_eq (by omega) (by omega)).mp c140⟩] at hs2
                  refine xj_iload dX7_arcAt_149 rfl ?_
                  exact xj_ireturn dX7_arcAt_151 rfl rfl (xrv_i (by rw [← hs2]))
                · refine xj_iinc8 (cst := 1) dX7_arcAt_143 rfl rfl ?_
                  rw [nI_1]
                  refine xj_goto (tgt := 107) dX7_arcAt_146 rfl ?_
                  exact ih_l2 k (i + 1) (by omega) (by omega) (by rw [if_neg (by first | exact fun q => c116 (by rw [q.1]) | exact fun q => c128 (by rw [q.2.1]) | exact fun q => c140 (by rw [q.2.2]))] at hs2; exact hs2)
        exact l2 (na n + 1) (na n) 0 (by omega) (by omega) rfl
      · have hqp : q < p := Nat.lt_of_not_le fun h => c54 (nI_le h (by omega))
        have hdq := f_dig n (by omega) r hr q (by omega)
        refine xj_aload_n dX7_arcAt_57 rfl rfl ?_
        refine xj_iload_n dX7_arcAt_58 rfl ?_
        refine xj_iload dX7_arcAt_59 rfl ?_
        refine xj_cV dX7_arcAt_61 q2100 kV_X7_digit (M_digit hv hr31 (by omega)) hO rfl rfl rfl rfl (Nat.le_of_ble_eq_true rfl) ⟨(Nat.le_of_ble_eq_true rfl), (Nat.le_of_ble_eq_true rfl)⟩ (Nat.le_of_ble_eq_true rfl) (Nat.le_of_ble_eq_true rfl) ?_
        refine xj_ist9 dX7_arcAt_64 rfl ?_
        refine xj_iload dX7_arcAt_66 rfl ?_
        refine xj_iload dX7_arcAt_68 rfl ?_
        refine xj_iload dX7_arcAt_70 rfl ?_
        refine xj_sI_icmp_le (tgt := 94) (M := 95) dX7_arcAt_72 rfl (fun c72 k => by
            refine xj_ic0 dX7_arcAt_94 ?_
            exact k) (fun c72 k => by
            refine xj_iload dX7_arcAt_75 rfl ?_
            refine xj_iload dX7_arcAt_77 rfl ?_
            refine xj_sI_icmp_ge (tgt := 94) (M := 95) dX7_arcAt_79 rfl (fun c79 k => by
                refine xj_ic0 dX7_arcAt_94 ?_
                exact k) (fun c79 k => by
                refine xj_ic1 dX7_arcAt_82 ?_
                refine xj_iload dX7_arcAt_83 rfl ?_
                refine xj_iload dX7_arcAt_85 rfl ?_
                refine xj_isub dX7_arcAt_87 ?_
                refine xj_ic1 dX7_arcAt_88 ?_
                refine xj_isub dX7_arcAt_89 ?_
                refine xj_ishl dX7_arcAt_90 ?_
                refine xj_goto (tgt := 95) dX7_arcAt_91 rfl ?_
                exact k) ?_
            exact k) ?_
        refine xj_top (c_abt _ (by omega) _ (by omega) _ (by omega)) ?_
        refine xj_ior dX7_arcAt_95 ?_
        rw [nI_or]
        refine xj_ist7 dX7_arcAt_96 rfl ?_
        refine xj_iinc8 (cst := 1) dX7_arcAt_98 rfl rfl ?_
        rw [nI_1]
        refine xj_goto (tgt := 51) dX7_arcAt_101 rfl ?_
        exact xj_fg9 (ih_l1 (q + 1) _ (by omega) (by omega) (by rw [← hs, lp_step _ hqp]))
  exact l1 (p + 1) 0 0 (by omega) (by omega) rfl
theorem M_diagramOf {r : Nat} (hv : mV c n G) (ha : mA n G) (hr : r ∈ rws n) : xMet E yX7_diagramOf cX7_diagramOf 5 (some FieldType.long) 2 0 0 [.ref 54, .int (nI r)] G (xrv (some (.long (lN (dgm n r)))) G) := by
  obtain ⟨hO, hf0, h1n, hn6, hPw, hWy⟩ := id hv
  obtain ⟨L1, L2, L3, hL1, hL2, hL3, hAr⟩ := id ha
  have hna := na_lt n (by omega)
  have hr31 := R31 (by omega) hr
  refine xMet.of (lv := [some (.ref 54), some (.int (nI r)), none, none, none]) rfl rfl (Nat.le_of_ble_eq_true rfl) ?_
  refine xj_lc0 dX7_diagramOf_0 ?_
  refine xj_lstn2 dX7_diagramOf_1 rfl ?_
  refine xj_ic0 dX7_diagramOf_2 ?_
  refine xj_ist4 dX7_diagramOf_3 rfl ?_
  have lp : ∀ (K : Nat) (p : Nat) (s : Nat), n - 1 - p < K → (p ≤ n - 1) → (s < 2 ^ 57) → (lpN (fun p s => s ||| (if dgt n r (p + 1) < dgt n r p then 2 ^ aa n r p else 0)) p (n - 1 - p) s = dgm n r) → xJ E (yX7_diagramOf, cX7_diagramOf, 5, (some FieldType.long), []) (xR 2 0 0) (xrv (some (.long (lN (dgm n r)))) G) 0 0 5 [some (.ref 54), some (.int (nI r)), some (.long (lN s)), none, some (.int (nI p))] [] G := by
    intro K
    induction K with
    | zero => intro p s h; exact absurd h (Nat.not_lt_zero _)
    | succ K ih_lp =>
      intro p s hK hp hs57 hs
      refine xj_iload dX7_diagramOf_5 rfl ?_
      refine xj_aload_n dX7_diagramOf_7 rfl rfl ?_
      refine xj_get dX7_diagramOf_8 K7 0 (by decide) q1929 hO (congrArg some hf0) ?_
      refine xj_ic1 dX7_diagramOf_11 ?_
      refine xj_isub dX7_diagramOf_12 ?_
      refine xj_top (nI_sub1 h1n) ?_
      refine xj_icmp_ge (tgt := 48) dX7_diagramOf_13 rfl (fun c13 => ?_) (fun c13 => ?_)
      · have hpn : n - 1 ≤ p := Nat.le_of_not_lt fun h => absurd c13 (nI_ge h (by omega))
        refine xj_lload_n dX7_diagramOf_48 rfl ?_
        exact xj_lreturn dX7_diagramOf_49 rfl (xrv_l (by rw [← hs, lp_end _ hpn]))
      · have hpn : p < n - 1 := Nat.lt_of_not_le fun h => c13 (nI_le h (by omega))
        have haa := (f_aa n (by omega) r hr p hpn).1
        refine xj_lload_n dX7_diagramOf_16 rfl ?_
        refine xj_aload_n dX7_diagramOf_17 rfl rfl ?_
        refine xj_iload_n dX7_diagramOf_18 rfl ?_
        refine xj_iload dX7_diagramOf_19 rfl ?_
        refine xj_cV dX7_diagramOf_21 q2144 kV_X7_isDrop (M_isDrop hv hr31 (by omega)) hO rfl rfl rfl rfl (Nat.le_of_ble_eq_true rfl) ⟨(Nat.le_of_ble_eq_true rfl), (Nat.le_of_ble_eq_true rfl)⟩ (Nat.le_of_ble_eq_true rfl) (Nat.le_of_ble_eq_true rfl) ?_
        refine xj_sL_if_eq (tgt := 39) (M := 40) dX7_diagramOf_24 rfl (fun c24 k => by
            refine xj_lc0 dX7_diagramOf_39 ?_
            exact k) (fun c24 k => by
            refine xj_lc1 dX7_diagramOf_27 ?_
            refine xj_aload_n dX7_diagramOf_28 rfl rfl ?_
            refine xj_iload_n dX7_diagramOf_29 rfl ?_
            refine xj_iload dX7_diagramOf_30 rfl ?_
            refine xj_cV dX7_diagramOf_32 q2180 kV_X7_arcAt (M_arcAt hv ha hr hpn) hO rfl rfl rfl rfl (Nat.le_of_ble_eq_true rfl) ⟨(Nat.le_of_ble_eq_true rfl), (Nat.le_of_ble_eq_true rfl)⟩ (Nat.le_of_ble_eq_true rfl) (Nat.le_of_ble_eq_true rfl) ?_
            refine xj_lshl dX7_diagramOf_35 ?_
            refine xj_goto (tgt := 40) dX7_diagramOf_36 rfl ?_
            exact k) ?_
        rw [l_one_shl (by omega)]
        refine xj_topl c_selL ?_
        have hlt : (if decide (dgt n r (p + 1) < dgt n r p) = true then 2 ^ aa n r p else 0) < 2 ^ 57 := if_lt_pow (by omega)
        refine xj_lor dX7_diagramOf_40 ?_
        rw [wb_or (Nat.lt_trans hs57 (by decide)) (Nat.lt_trans hlt (by decide))]
        refine xj_lstn2 dX7_diagramOf_41 rfl ?_
        refine xj_iinc4 (cst := 1) dX7_diagramOf_42 rfl rfl ?_
        rw [nI_1]
        refine xj_goto (tgt := 5) dX7_diagramOf_45 rfl ?_
        exact ih_lp (p + 1) _ (by omega) (by omega) (Nat.or_lt_two_pow hs57 hlt) (by rw [← hs, lp_step _ hpn]; simp only [decide_eq_true_eq])
  exact lp n 0 0 (by omega) (by omega) (by decide) rfl
theorem M_closedBy {S : Nat} (hv : mV c n G) (hf : mF c n G) (hS : S < 2 ^ 64) : xMet E yX7_closedBy cX7_closedBy 6 (some FieldType.long) 1 0 0 [.ref 54, .long (lN S)] G (xrv (some (.long (lN (clo n S)))) G) := by
  obtain ⟨hO, hf0, h1n, hn6, hPw, hWy⟩ := id hv
  obtain ⟨hf17, L4, hL4, hFo⟩ := id hf
  have hna := na_lt n (by omega)
  refine xMet.of (lv := [some (.ref 54), some (.long (lN S)), none, none, none, none]) rfl rfl (Nat.le_of_ble_eq_true rfl) ?_
  refine xj_lc0 dX7_closedBy_0 ?_
  refine xj_lstn3 dX7_closedBy_1 rfl ?_
  refine xj_ic0 dX7_closedBy_2 ?_
  refine xj_ist5 dX7_closedBy_3 rfl ?_
  have lp : ∀ (K : Nat) (x : Nat) (s : Nat), na n - x < K → (x ≤ na n) → (s < 2 ^ 57) → (lpN (fun x s => s ||| (if S.testBit x then fo n x else 0)) x (na n - x) s = clo n S) → xJ E (yX7_closedBy, cX7_closedBy, 6, (some FieldType.long), []) (xR 1 0 0) (xrv (some (.long (lN (clo n S)))) G) 0 0 5 [some (.ref 54), some (.long (lN S)), none, some (.long (lN s)), none, some (.int (nI x))] [] G := by
    intro K
    induction K with
    | zero => intro x s h; exact absurd h (Nat.not_lt_zero _)
    | succ K ih_lp =>
      intro x s hK hp hs57 hs
      refine xj_iload dX7_closedBy_5 rfl ?_
      refine xj_aload_n dX7_closedBy_7 rfl rfl ?_
      refine xj_get dX7_closedBy_8 K7 17 (by decide) q1946 hO (congrArg some hf17) ?_
      refine xj_icmp_ge (tgt := 43) dX7_closedBy_11 rfl (fun c11 => ?_) (fun c11 => ?_)
      · have hxn : na n ≤ x := Nat.le_of_not_lt fun h => absurd c11 (nI_ge h (by omega))
        refine xj_lload_n dX7_closedBy_43 rfl ?_
        exact xj_lreturn dX7_closedBy_44 rfl (xrv_l (by rw [← hs, lp_end _ hxn]))
      · have hxn : x < na n := Nat.lt_of_not_le fun h => c11 (nI_le h (by omega))
        refine xj_lload_n dX7_closedBy_14 rfl ?_
        refine xj_lload_n dX7_closedBy_15 rfl ?_
        refine xj_iload dX7_closedBy_16 rfl ?_
        refine xj_cS dX7_closedBy_18 q1926 kS_X7_has (M_has hS (by omega)) rfl rfl (Nat.le_of_ble_eq_true rfl) ⟨(Nat.le_of_ble_eq_true rfl), (Nat.le_of_ble_eq_true rfl)⟩ (Nat.le_of_ble_eq_true rfl) (Nat.le_of_ble_eq_true rfl) ?_
        refine xj_sL_if_eq (tgt := 34) (M := 35) dX7_closedBy_21 rfl (fun c21 k => by
            refine xj_lc0 dX7_closedBy_34 ?_
            exact k) (fun c21 k => by
            refine xj_aload_n dX7_closedBy_24 rfl rfl ?_
            refine xj_get dX7_closedBy_25 K7 16 (by decide) q1945 hO rfl ?_
            refine xj_iload dX7_closedBy_28 rfl ?_
            refine xj_lald dX7_closedBy_30 hL4 rfl (by omega) (hFo x hxn) ?_
            refine xj_goto (tgt := 35) dX7_closedBy_31 rfl ?_
            exact k) ?_
        refine xj_topl c_selL ?_
        have hlt : (if S.testBit x = true then fo n x else 0) < 2 ^ 57 := by split; exact fo_lt (by omega) x; decide
        refine xj_lor dX7_closedBy_35 ?_
        rw [wb_or (Nat.lt_trans hs57 (by decide)) (Nat.lt_trans hlt (by decide))]
        refine xj_lstn3 dX7_closedBy_36 rfl ?_
        refine xj_iinc5 (cst := 1) dX7_closedBy_37 rfl rfl ?_
        rw [nI_1]
        refine xj_goto (tgt := 5) dX7_closedBy_40 rfl ?_
        exact ih_lp (x + 1) _ (by omega) (by omega) (Nat.or_lt_two_pow hs57 hlt) (by rw [← hs, lp_step _ hxn])
  exact lp (na n + 1) 0 0 (by omega) (by omega) (by decide) rfl
theorem M_forcers {a : Nat} (hv : mV c n G) (hf : mF c n G) (ha64 : a < 64) : xMet E yX7_forcers cX7_forcers 5 (some FieldType.long) 1 0 0 [.ref 54, .int (nI a)] G (xrv (some (.long (lN (fcr n a)))) G) := by
  obtain ⟨hO, hf0, h1n, hn6, hPw, hWy⟩ := id hv
  obtain ⟨hf17, L4, hL4, hFo⟩ := id hf
  have hna := na_lt n (by omega)
  refine xMet.of (lv := [some (.ref 54), some (.int (nI a)), none, none, none]) rfl rfl (Nat.le_of_ble_eq_true rfl) ?_
  refine xj_lc0 dX7_forcers_0 ?_
  refine xj_lstn2 dX7_forcers_1 rfl ?_
  refine xj_ic0 dX7_forcers_2 ?_
  refine xj_ist4 dX7_forcers_3 rfl ?_
  have lp : ∀ (K : Nat) (x : Nat) (s : Nat), na n - x < K → (x ≤ na n) → (s < 2 ^ 57) → (lpN (fun x s => s ||| (if (fo n x).testBit a then 2 ^ x else 0)) x (na n - x) s = fcr n a) → xJ E (yX7_forcers, cX7_forcers, 5, (some FieldType.long), []) (xR 1 0 0) (xrv (some (.long (lN (fcr n a)))) G) 0 0 5 [some (.ref 54), some (.int (nI a)), some (.long (lN s)), none, some (.int (nI x))] [] G := by
    intro K
    induction K with
    | zero => intro x s h; exact absurd h (Nat.not_lt_zero _)
    | succ K ih_lp =>
      intro x s hK hp hs57 hs
      refine xj_iload dX7_forcers_5 rfl ?_
      refine xj_aload_n dX7_forcers_7 rfl rfl ?_
      refine xj_get dX7_forcers_8 K7 17 (by decide) q1946 hO (congrArg some hf17) ?_
      refine xj_icmp_ge (tgt := 45) dX7_forcers_11 rfl (fun c11 => ?_) (fun c11 => ?_)
      · have hxn : na n ≤ x := Nat.le_of_not_lt fun h => absurd c11 (nI_ge h (by omega))
        refine xj_lload_n dX7_forcers_45 rfl ?_
        exact xj_lreturn dX7_forcers_46 rfl (xrv_l (by rw [← hs, lp_end _ hxn]))
      · have hxn : x < na n := Nat.lt_of_not_le fun h => c11 (nI_le h (by omega))
        refine xj_lload_n dX7_forcers_14 rfl ?_
        refine xj_aload_n dX7_forcers_15 rfl rfl ?_
        refine xj_get dX7_forcers_16 K7 16 (by decide) q1945 hO rfl ?_
        refine xj_iload dX7_forcers_19 rfl ?_
        refine xj_lald dX7_forcers_21 hL4 rfl (by omega) (hFo x hxn) ?_
        refine xj_iload_n dX7_forcers_22 rfl ?_
        refine xj_cS dX7_forcers_23 q1926 kS_X7_has (M_has (Nat.lt_trans (fo_lt (by omega) x) (by decide)) ha64) rfl rfl (Nat.le_of_ble_eq_true rfl) ⟨(Nat.le_of_ble_eq_true rfl), (Nat.le_of_ble_eq_true rfl)⟩ (Nat.le_of_ble_eq_true rfl) (Nat.le_of_ble_eq_true rfl) ?_
        refine xj_sL_if_eq (tgt := 36) (M := 37) dX7_forcers_26 rfl (fun c26 k => by
            refine xj_lc0 dX7_forcers_36 ?_
            exact k) (fun c26 k => by
            refine xj_lc1 dX7_forcers_29 ?_
            refine xj_iload dX7_forcers_30 rfl ?_
            refine xj_lshl dX7_forcers_32 ?_
            refine xj_goto (tgt := 37) dX7_forcers_33 rfl ?_
            exact k) ?_
        rw [l_one_shl (by omega)]
        refine xj_topl c_selL ?_
        have hlt : (if (fo n x).testBit a = true then 2 ^ x else 0) < 2 ^ 57 := if_lt_pow (by omega)
        refine xj_lor dX7_forcers_37 ?_
        rw [wb_or (Nat.lt_trans hs57 (by decide)) (Nat.lt_trans hlt (by decide))]
        refine xj_lstn2 dX7_forcers_38 rfl ?_
        refine xj_iinc4 (cst := 1) dX7_forcers_39 rfl rfl ?_
        rw [nI_1]
        refine xj_goto (tgt := 5) dX7_forcers_42 rfl ?_
        exact ih_lp (x + 1) _ (by omega) (by omega) (Nat.or_lt_two_pow hs57 hlt) (by rw [← hs, lp_step _ hxn])
  exact lp (na n + 1) 0 0 (by omega) (by omega) (by decide) rfl
end M6
