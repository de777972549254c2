/-! ===== the reference: going down and up ===== -/
set_option maxRecDepth 100000
theorem kV_X7_diagramOf : xsV yX7_diagramOf cX7_diagramOf 5 (some FieldType.long) 1 := ⟨q2202, qs101, q161, q2203, by decide, by decide, by decide +kernel⟩
theorem kV_X7_goes : xsV yX7_goes cX7_goes 7 (some FieldType.int) 3 := ⟨q2364, qs120, q161, q2365, by decide, by decide, by decide +kernel⟩
theorem kV_X7_leastOf : xsV yX7_leastOf cX7_leastOf 2 (some FieldType.int) 1 := ⟨q2360, qs119, q161, q2361, by decide, by decide, by decide +kernel⟩
theorem kV_X7_placeIn : xsV yX7_placeIn cX7_placeIn 6 (some FieldType.int) 3 := ⟨q2368, qs121, q161, q2369, by decide, by decide, by decide +kernel⟩
theorem kV_X7_swapAt : xsV yX7_swapAt cX7_swapAt 3 (some FieldType.int) 2 := ⟨q2174, qs96, q161, q2175, by decide, by decide, by decide +kernel⟩
def lst (n g r : Nat) : Bool := (pin n r true g (n - 1) 0).isNone
theorem lst_if {n g r : Nat} (hn : n ≤ 6) : (if 0 ≤ plI (pin n r true g (n - 1) 0) then (0 : Int32) else 1) = b1 (lst n g r) := by
  unfold lst
  cases h : pin n r true g (n - 1) 0 with
  | none => rfl
  | some p =>
    obtain ⟨-, h2, -, -⟩ := pin_some _ _ _ h
    rw [show plI (some p) = nI p from rfl, if_pos (nI_pos' (by omega))]
    rfl
theorem c_eq01 {a b : Nat} (ha : a < 2 ^ 31) (hb : b < 2 ^ 31) : (if nI a = nI b then (1 : Int32) else 0) = nI (if a = b then 1 else 0) := by
  by_cases h : a = b
  · subst h; rw [if_pos rfl, if_pos rfl]; rfl
  · rw [if_neg (fun q => h ((nI_eq ha hb).mp q)), if_neg h]; rfl
def mnA (n g r : Nat) : Nat := lpN (fun i k => k + (if gos n true g (rb n i) = gos n true g r then 1 else 0)) 0 (wy n) 0
def lwF (n a : Nat) : Nat → Nat × Nat → Nat × Nat := fun i s => if (dgm n (rb n i)).testBit a = true ∧ pc64 (inv n (rb n i)) < s.2 then (rb n i, pc64 (inv n (rb n i))) else s
def lwS (n a : Nat) : Nat := (lpN (lwF n a) 0 (wy n) (0, 99)).1
section M7
variable {E : xE} {G : xH} {c : Nat → Value} {n : Nat}
theorem M_placeIn {r S : Nat} {t : Bool} (hv : mV c n G) (ha : mA n G) (hr : r ∈ rws n) (hS : S < 2 ^ 64) : xMet E yX7_placeIn cX7_placeIn 6 (some FieldType.int) 2 0 0 [.ref 54, .int (nI r), .int (b1 t), .long (lN S)] G (xrv (some (.int (plI (pin n r t S (n - 1) 0)))) G) := by
  obtain ⟨hO, hf0, h1n, hn6, hPw, hWy⟩ := id hv
  have hr31 := R31 (by omega) hr
  refine xMet.of (lv := [some (.ref 54), some (.int (nI r)), some (.int (b1 t)), some (.long (lN S)), none, none]) rfl rfl (Nat.le_of_ble_eq_true rfl) ?_
  refine xj_ic0 dX7_placeIn_0 ?_
  refine xj_ist5 dX7_placeIn_1 rfl ?_
  have lp : ∀ (K : Nat) (k : Nat) (p : Nat), k < K → (p + k = n - 1) → (pin n r t S k p = pin n r t S (n - 1) 0) → xJ E (yX7_placeIn, cX7_placeIn, 6, (some FieldType.int), []) (xR 2 0 0) (xrv (some (.int (plI (pin n r t S (n - 1) 0)))) G) 0 0 3 [some (.ref 54), some (.int (nI r)), some (.int (b1 t)), some (.long (lN S)), none, some (.int (nI p))] [] G := by
    intro K
    induction K with
    | zero => intro k p h; exact absurd h (Nat.not_lt_zero _)
    | succ K ih_lp =>
      intro k p hK hk hs
      refine xj_iload dX7_placeIn_3 rfl ?_
      refine xj_aload_n dX7_placeIn_5 rfl rfl ?_
      refine xj_get dX7_placeIn_6 K7 0 (by decide) q1929 hO (congrArg some hf0) ?_
      refine xj_ic1 dX7_placeIn_9 ?_
      refine xj_isub dX7_placeIn_10 ?_
      refine xj_top (nI_sub1 h1n) ?_
      refine xj_icmp_ge (tgt := 48) dX7_placeIn_11 rfl (fun c11 => ?_) (fun c11 => ?_)
      · have hk0 : k = 0 := by have := Nat.le_of_not_lt fun h => absurd c11 (nI_ge (a := p) (b := n - 1) h (by omega)); omega
        subst hk0
        refine xj_icm1 dX7_placeIn_48 ?_
        exact xj_ireturn dX7_placeIn_49 rfl rfl (xrv_i (by rw [← hs]; rfl))
      · have hpn : p < n - 1 := Nat.lt_of_not_le fun h => c11 (nI_le h (by omega))
        obtain ⟨k, rfl⟩ : ∃ k0, k = k0 + 1 := ⟨k - 1, by omega⟩
        have hs : (if isD n r p == t && S.testBit (aa n r p) then some p else pin n r t S k (p + 1)) = pin n r t S (n - 1) 0 := hs
        have haa := (f_aa n (by omega) r hr p hpn).1
        have hna := na_lt n (by omega)
        refine xj_aload_n dX7_placeIn_14 rfl rfl ?_
        refine xj_iload_n dX7_placeIn_15 rfl ?_
        refine xj_iload dX7_placeIn_16 rfl ?_
        refine xj_cV dX7_placeIn_18 q2144 kV_X7_isDrop (M_isDrop hv hr31 (by omega)) hO rfl rfl rfl rfl (Nat.le_of_ble_eq_true rfl) ⟨(Nat.le_of_ble_eq_true rfl), (Nat.le_of_ble_eq_true rfl)⟩ (Nat.le_of_ble_eq_true rfl) (Nat.le_of_ble_eq_true rfl) ?_
        refine xj_iload_n dX7_placeIn_21 rfl ?_
        refine xj_icmp_ne (tgt := 42) dX7_placeIn_22 rfl (fun c22 => ?_) (fun c22 => ?_)
        · refine xj_iinc5 (cst := 1) dX7_placeIn_42 rfl rfl ?_
          rw [nI_1]
          refine xj_goto (tgt := 3) dX7_placeIn_45 rfl ?_
          exact ih_lp k (p + 1) (by omega) (by omega) (by rw [if_neg (by first | exact fun q => c22 (by rw [Bool.and_eq_true, beq_iff_eq] at q; rw [← q.1]; rfl) | exact fun q => by rw [Bool.and_eq_true] at q; rw [q.2] at c36; exact absurd c36 (by decide))] at hs; exact hs)
        · refine xj_lload_n dX7_placeIn_25 rfl ?_
          refine xj_aload_n dX7_placeIn_26 rfl rfl ?_
          refine xj_iload_n dX7_placeIn_27 rfl ?_
          refine xj_iload dX7_placeIn_28 rfl ?_
          refine xj_cV dX7_placeIn_30 q2180 kV_X7_arcAt (M_arcAt hv ha hr hpn) hO rfl rfl rfl rfl (Nat.le_of_ble_eq_true rfl) ⟨(Nat.le_of_ble_eq_true rfl), (Nat.le_of_ble_eq_true rfl)⟩ (Nat.le_of_ble_eq_true rfl) (Nat.le_of_ble_eq_true rfl) ?_
          refine xj_cS dX7_placeIn_33 q1926 kS_X7_has (M_has hS (by omega)) rfl rfl (Nat.le_of_ble_eq_true rfl) ⟨(Nat.le_of_ble_eq_true rfl), (Nat.le_of_ble_eq_true rfl)⟩ (Nat.le_of_ble_eq_true rfl) (Nat.le_of_ble_eq_true rfl) ?_
          refine xj_if_eq (tgt := 42) dX7_placeIn_36 rfl (fun c36 => ?_) (fun c36 => ?_)
          · refine xj_iinc5 (cst := 1) dX7_placeIn_42 rfl rfl ?_
            rw [nI_1]
            refine xj_goto (tgt := 3) dX7_placeIn_45 rfl ?_
            exact ih_lp k (p + 1) (by omega) (by omega) (by rw [if_neg (by first | exact fun q => c22 (by rw [Bool.and_eq_true, beq_iff_eq] at q; rw [← q.1]; rfl) | exact fun q => by rw [Bool.and_eq_true] at q; rw [q.2] at c36; exact absurd c36 (by decide))] at hs; exact hs)
          · have hc : (isD n r p == t && S.testBit (aa n r p)) = true := by
              have e1 : isD n r p = t := by
                have c22 : b1 (isD n r p) = b1 t := c22
                cases h1 : isD n r p <;> cases t <;> rw [h1] at c22 <;> first | rfl | exact absurd c22 (by decide)
              have e2 : S.testBit (aa n r p) = true := by
                cases h1 : S.testBit (aa n r p) with
                | true => rfl
                | false => rw [h1] at c36; exact absurd rfl c36
              rw [e1, e2, beq_self_eq_true]; rfl
            rw [if_pos hc] at hs
            refine xj_iload dX7_placeIn_39 rfl ?_
            exact xj_ireturn dX7_placeIn_41 rfl rfl (xrv_i (by rw [← hs]; rfl))
  exact lp n (n - 1) 0 (by omega) (by omega) rfl
theorem M_goes {r S : Nat} {t : Bool} (hv : mV c n G) (ha : mA n G) (hr : r ∈ rws n) (hS : S < 2 ^ 64) : xMet E yX7_goes cX7_goes 7 (some FieldType.int) 3 0 0 [.ref 54, .int (nI r), .int (b1 t), .long (lN S)] G (xrv (some (.int (nI (gos n t S r)))) G) := by
  obtain ⟨hO, hf0, h1n, hn6, hPw, hWy⟩ := id hv
  refine xMet.of (lv := [some (.ref 54), some (.int (nI r)), some (.int (b1 t)), some (.long (lN S)), none, none, none]) rfl rfl (Nat.le_of_ble_eq_true rfl) ?_
  refine xj_iload_n dX7_goes_0 rfl ?_
  refine xj_ist5 dX7_goes_1 rfl ?_
  refine xj_aload_n dX7_goes_3 rfl rfl ?_
  refine xj_iload dX7_goes_4 rfl ?_
  refine xj_iload_n dX7_goes_6 rfl ?_
  refine xj_lload_n dX7_goes_7 rfl ?_
  refine xj_cV dX7_goes_8 q2366 kV_X7_placeIn (M_placeIn hv ha hr hS) hO rfl rfl rfl rfl (Nat.le_of_ble_eq_true rfl) ⟨(Nat.le_of_ble_eq_true rfl), (Nat.le_of_ble_eq_true rfl)⟩ (Nat.le_of_ble_eq_true rfl) (Nat.le_of_ble_eq_true rfl) ?_
  refine xj_ist6 dX7_goes_11 rfl ?_
  have lp : ∀ (K : Nat) (q : Nat), gmu n t q < K → (q ∈ rws n) → (gos n t S q = gos n t S r) → xJ E (yX7_goes, cX7_goes, 7, (some FieldType.int), []) (xR 3 0 0) (xrv (some (.int (nI (gos n t S r)))) G) 0 0 13 [some (.ref 54), some (.int (nI r)), some (.int (b1 t)), some (.long (lN S)), none, some (.int (nI q)), some (.int (plI (pin n q t S (n - 1) 0)))] [] G := by
    intro K
    induction K with
    | zero => intro q h; exact absurd h (Nat.not_lt_zero _)
    | succ K ih_lp =>
      intro q hK hq hs
      refine xj_iload dX7_goes_13 rfl ?_
      refine xj_if_lt (tgt := 41) dX7_goes_15 rfl (fun c15 => ?_) (fun c15 => ?_)
      · have hp : pin n q t S (n - 1) 0 = none := by
          cases h : pin n q t S (n - 1) 0 with
          | none => rfl
          | some p =>
            obtain ⟨-, h2, -, -⟩ := pin_some _ _ _ h
            rw [h] at c15; exact absurd c15 (nI_pos (by omega))
        refine xj_iload dX7_goes_41 rfl ?_
        exact xj_ireturn dX7_goes_43 rfl rfl (xrv_i (by rw [← hs, gos_none hp]))
      · obtain ⟨p, hp⟩ : ∃ p, pin n q t S (n - 1) 0 = some p := by
          cases h : pin n q t S (n - 1) 0 with
          | none => rw [h] at c15; exact absurd (by decide) c15
          | some p => exact ⟨p, rfl⟩
        obtain ⟨-, h2, h3, -⟩ := pin_some _ _ _ hp
        have hlt := gmu_step (by omega) hq (by omega) h3
        have hq2 := f_sw (by omega) hq (p := p) (by omega)
        rw [show plI (pin n q t S (n - 1) 0) = nI p by rw [hp]; rfl]
        refine xj_aload_n dX7_goes_18 rfl rfl ?_
        refine xj_iload dX7_goes_19 rfl ?_
        refine xj_iload dX7_goes_21 rfl ?_
        refine xj_cV dX7_goes_23 q2172 kV_X7_swapAt (M_swapAt hv hq (by omega)) hO rfl rfl rfl rfl (Nat.le_of_ble_eq_true rfl) ⟨(Nat.le_of_ble_eq_true rfl), (Nat.le_of_ble_eq_true rfl)⟩ (Nat.le_of_ble_eq_true rfl) (Nat.le_of_ble_eq_true rfl) ?_
        refine xj_ist5 dX7_goes_26 rfl ?_
        refine xj_aload_n dX7_goes_28 rfl rfl ?_
        refine xj_iload dX7_goes_29 rfl ?_
        refine xj_iload_n dX7_goes_31 rfl ?_
        refine xj_lload_n dX7_goes_32 rfl ?_
        refine xj_cV dX7_goes_33 q2366 kV_X7_placeIn (M_placeIn hv ha hq2 hS) hO rfl rfl rfl rfl (Nat.le_of_ble_eq_true rfl) ⟨(Nat.le_of_ble_eq_true rfl), (Nat.le_of_ble_eq_true rfl)⟩ (Nat.le_of_ble_eq_true rfl) (Nat.le_of_ble_eq_true rfl) ?_
        refine xj_ist6 dX7_goes_36 rfl ?_
        refine xj_goto (tgt := 13) dX7_goes_38 rfl ?_
        exact ih_lp (sw n q p) (by omega) hq2 (by rw [← hs, gos_some (by omega) hq hp])
  exact lp 16 r (gmu_lt (by omega) hr) hr rfl
theorem M_leastOf {r g : Nat} (hv : mV c n G) (ha : mA n G) (hf3 : c 3 = .long (lN g)) (hg : g < 2 ^ 57) (hr : r ∈ rws n) : xMet E yX7_leastOf cX7_leastOf 2 (some FieldType.int) 4 0 0 [.ref 54, .int (nI r)] G (xrv (some (.int (nI (gos n true g r)))) G) := by
  obtain ⟨hO, hf0, h1n, hn6, hPw, hWy⟩ := id hv
  refine xMet.of (lv := [some (.ref 54), some (.int (nI r))]) rfl rfl (Nat.le_of_ble_eq_true rfl) ?_
  refine xj_aload_n dX7_leastOf_0 rfl rfl ?_
  refine xj_iload_n dX7_leastOf_1 rfl ?_
  refine xj_ic1 dX7_leastOf_2 ?_
  refine xj_aload_n dX7_leastOf_3 rfl rfl ?_
  refine xj_get dX7_leastOf_4 K7 3 (by decide) q1932 hO (congrArg some hf3) ?_
  refine xj_cV dX7_leastOf_7 q2362 kV_X7_goes (M_goes (t := true) hv ha hr (Nat.lt_trans hg (by decide))) hO rfl rfl rfl rfl (Nat.le_of_ble_eq_true rfl) ⟨(Nat.le_of_ble_eq_true rfl), (Nat.le_of_ble_eq_true rfl)⟩ (Nat.le_of_ble_eq_true rfl) (Nat.le_of_ble_eq_true rfl) ?_
  exact xj_ireturn dX7_leastOf_10 rfl rfl (xrv_i rfl)
theorem M_greatestOf {r g : Nat} (hv : mV c n G) (ha : mA n G) (hf3 : c 3 = .long (lN g)) (hg : g < 2 ^ 57) (hr : r ∈ rws n) : xMet E yX7_greatestOf cX7_greatestOf 2 (some FieldType.int) 4 0 0 [.ref 54, .int (nI r)] G (xrv (some (.int (nI (gos n false g r)))) G) := by
  obtain ⟨hO, hf0, h1n, hn6, hPw, hWy⟩ := id hv
  refine xMet.of (lv := [some (.ref 54), some (.int (nI r))]) rfl rfl (Nat.le_of_ble_eq_true rfl) ?_
  refine xj_aload_n dX7_greatestOf_0 rfl rfl ?_
  refine xj_iload_n dX7_greatestOf_1 rfl ?_
  refine xj_ic0 dX7_greatestOf_2 ?_
  refine xj_aload_n dX7_greatestOf_3 rfl rfl ?_
  refine xj_get dX7_greatestOf_4 K7 3 (by decide) q1932 hO (congrArg some hf3) ?_
  refine xj_cV dX7_greatestOf_7 q2362 kV_X7_goes (M_goes (t := false) hv ha hr (Nat.lt_trans hg (by decide))) hO rfl rfl rfl rfl (Nat.le_of_ble_eq_true rfl) ⟨(Nat.le_of_ble_eq_true rfl), (Nat.le_of_ble_eq_true rfl)⟩ (Nat.le_of_ble_eq_true rfl) (Nat.le_of_ble_eq_true rfl) ?_
  exact xj_ireturn dX7_greatestOf_10 rfl rfl (xrv_i rfl)
theorem M_isLeast {r g : Nat} (hv : mV c n G) (ha : mA n G) (hf3 : c 3 = .long (lN g)) (hg : g < 2 ^ 57) (hr : r ∈ rws n) : xMet E yX7_isLeast cX7_isLeast 2 (some FieldType.boolean) 3 0 0 [.ref 54, .int (nI r)] G (xrv (some (.int (b1 (lst n g r)))) G) := by
  obtain ⟨hO, hf0, h1n, hn6, hPw, hWy⟩ := id hv
  refine xMet.of (lv := [some (.ref 54), some (.int (nI r))]) rfl rfl (Nat.le_of_ble_eq_true rfl) ?_
  refine xj_aload_n dX7_isLeast_0 rfl rfl ?_
  refine xj_iload_n dX7_isLeast_1 rfl ?_
  refine xj_ic1 dX7_isLeast_2 ?_
  refine xj_aload_n dX7_isLeast_3 rfl rfl ?_
  refine xj_get dX7_isLeast_4 K7 3 (by decide) q1932 hO (congrArg some hf3) ?_
  refine xj_cV dX7_isLeast_7 q2366 kV_X7_placeIn (M_placeIn (t := true) hv ha hr (Nat.lt_trans hg (by decide))) hO rfl rfl rfl rfl (Nat.le_of_ble_eq_true rfl) ⟨(Nat.le_of_ble_eq_true rfl), (Nat.le_of_ble_eq_true rfl)⟩ (Nat.le_of_ble_eq_true rfl) (Nat.le_of_ble_eq_true rfl) ?_
  refine xj_sI_if_ge (tgt := 17) (M := 18) dX7_isLeast_10 rfl (fun c10 k => by
      refine xj_ic0 dX7_isLeast_17 ?_
      exact k) (fun c10 k => by
      refine xj_ic1 dX7_isLeast_13 ?_
      refine xj_goto (tgt := 18) dX7_isLeast_14 rfl ?_
      exact k) ?_
  exact xj_ireturn dX7_isLeast_18 rfl (by rw [lst_if hn6]; exact b1_nar _) (xrv_i (lst_if hn6))
theorem M_manyAlike {r g : Nat} (hv : mV c n G) (ha : mA n G) (hf3 : c 3 = .long (lN g)) (hg : g < 2 ^ 57) (hr : r ∈ rws n) : xMet E yX7_manyAlike cX7_manyAlike 5 (some FieldType.int) 5 0 0 [.ref 54, .int (nI r)] G (xrv (some (.int (nI (mnA n g r)))) G) := by
  obtain ⟨hO, hf0, h1n, hn6, hPw, hWy⟩ := id hv
  have hw31 := wayN hn6
  refine xMet.of (lv := [some (.ref 54), some (.int (nI r)), none, none, none]) rfl rfl (Nat.le_of_ble_eq_true rfl) ?_
  refine xj_aload_n dX7_manyAlike_0 rfl rfl ?_
  refine xj_iload_n dX7_manyAlike_1 rfl ?_
  refine xj_cV dX7_manyAlike_2 q2358 kV_X7_leastOf (M_leastOf hv ha hf3 hg hr) hO rfl rfl rfl rfl (Nat.le_of_ble_eq_true rfl) ⟨(Nat.le_of_ble_eq_true rfl), (Nat.le_of_ble_eq_true rfl)⟩ (Nat.le_of_ble_eq_true rfl) (Nat.le_of_ble_eq_true rfl) ?_
  refine xj_istn2 dX7_manyAlike_5 rfl ?_
  refine xj_ic0 dX7_manyAlike_6 ?_
  refine xj_istn3 dX7_manyAlike_7 rfl ?_
  refine xj_ic0 dX7_manyAlike_8 ?_
  refine xj_ist4 dX7_manyAlike_9 rfl ?_
  have lp : ∀ (K : Nat) (i : Nat) (k : Nat), wy n - i < K → (i ≤ wy n) → (lpN (fun i k => k + (if gos n true g (rb n i) = gos n true g r then 1 else 0)) i (wy n - i) k = mnA n g r) → xJ E (yX7_manyAlike, cX7_manyAlike, 5, (some FieldType.int), []) (xR 5 0 0) (xrv (some (.int (nI (mnA n g r)))) G) 0 0 11 [some (.ref 54), some (.int (nI r)), some (.int (nI (gos n true g r))), some (.int (nI k)), some (.int (nI i))] [] G := by
    intro K
    induction K with
    | zero => intro i k h; exact absurd h (Nat.not_lt_zero _)
    | succ K ih_lp =>
      intro i k hK hi hs
      refine xj_iload dX7_manyAlike_11 rfl ?_
      refine xj_aload_n dX7_manyAlike_13 rfl rfl ?_
      refine xj_get dX7_manyAlike_14 K7 19 (by decide) q1948 hO rfl ?_
      refine xj_aload_n dX7_manyAlike_17 rfl rfl ?_
      refine xj_get dX7_manyAlike_18 K7 0 (by decide) q1929 hO (congrArg some hf0) ?_
      refine xj_iald dX7_manyAlike_21 hWy rfl (by omega) (wayL_at hn6) ?_
      refine xj_icmp_ge (tgt := 53) dX7_manyAlike_22 rfl (fun c22 => ?_) (fun c22 => ?_)
      · have hin : wy n ≤ i := Nat.le_of_not_lt fun h => absurd c22 (nI_ge h (by omega))
        refine xj_iload_n dX7_manyAlike_53 rfl ?_
        exact xj_ireturn dX7_manyAlike_54 rfl rfl (xrv_i (by rw [← hs, lp_end _ hin]))
      · have hin : i < wy n := Nat.lt_of_not_le fun h => c22 (nI_le h (by omega))
        have hrb := rb_mem (by omega) h1n hin
        refine xj_iload_n dX7_manyAlike_25 rfl ?_
        refine xj_aload_n dX7_manyAlike_26 rfl rfl ?_
        refine xj_aload_n dX7_manyAlike_27 rfl rfl ?_
        refine xj_iload dX7_manyAlike_28 rfl ?_
        refine xj_cV dX7_manyAlike_30 q2120 kV_X7_rowBy (M_rowBy hv hin) hO rfl rfl rfl rfl (Nat.le_of_ble_eq_true rfl) ⟨(Nat.le_of_ble_eq_true rfl), (Nat.le_of_ble_eq_true rfl)⟩ (Nat.le_of_ble_eq_true rfl) (Nat.le_of_ble_eq_true rfl) ?_
        refine xj_cV dX7_manyAlike_33 q2358 kV_X7_leastOf (M_leastOf hv ha hf3 hg hrb) hO rfl rfl rfl rfl (Nat.le_of_ble_eq_true rfl) ⟨(Nat.le_of_ble_eq_true rfl), (Nat.le_of_ble_eq_true rfl)⟩ (Nat.le_of_ble_eq_true rfl) (Nat.le_of_ble_eq_true rfl) ?_
        refine xj_iload_n dX7_manyAlike_36 rfl ?_
        refine xj_sI_icmp_ne (tgt := 44) (M := 45) dX7_manyAlike_37 rfl (fun c37 k => by
            refine xj_ic0 dX7_manyAlike_44 ?_
            exact k) (fun c37 k => by
            refine xj_ic1 dX7_manyAlike_40 ?_
            refine xj_goto (tgt := 45) dX7_manyAlike_41 rfl ?_
            exact k) ?_
        refine xj_top (c_eq01 (R31 (by omega) (gos_mem (by omega) 16 _ (gmu_lt (by omega) hrb) hrb)) (R31 (by omega) (gos_mem (by omega) 16 _ (gmu_lt (by omega) hr) hr))) ?_
        refine xj_iadd dX7_manyAlike_45 ?_
        rw [nI_add]
        refine xj_istn3 dX7_manyAlike_46 rfl ?_
        refine xj_iinc4 (cst := 1) dX7_manyAlike_47 rfl rfl ?_
        rw [nI_1]
        refine xj_goto (tgt := 11) dX7_manyAlike_50 rfl ?_
        exact ih_lp (i + 1) _ (by omega) (by omega) (by rw [← hs, lp_step _ hin])
  exact lp (wy n + 1) 0 0 (by omega) (by omega) rfl
theorem M_leastWith {a : Nat} (hv : mV c n G) (ha : mA n G) (ha64 : a < 64) : xMet E yX7_leastWith cX7_leastWith 6 (some FieldType.int) 3 0 0 [.ref 54, .int (nI a)] G (xrv (some (.int (nI (lwS n a)))) G) := by
  obtain ⟨hO, hf0, h1n, hn6, hPw, hWy⟩ := id hv
  have hw31 := wayN hn6
  refine xMet.of (lv := [some (.ref 54), some (.int (nI a)), none, none, none, none]) rfl rfl (Nat.le_of_ble_eq_true rfl) ?_
  refine xj_ic0 dX7_leastWith_0 ?_
  refine xj_istn2 dX7_leastWith_1 rfl ?_
  refine xj_bipush (v := 99) dX7_leastWith_2 rfl ?_
  refine xj_istn3 dX7_leastWith_4 rfl ?_
  refine xj_ic0 dX7_leastWith_5 ?_
  refine xj_ist4 dX7_leastWith_6 rfl ?_
  have lp : ∀ (K : Nat) (i : Nat) (b : Nat) (k : Nat), wy n - i < K → (i ≤ wy n) → (k < 100) → ((lpN (lwF n a) i (wy n - i) (b, k)).1 = lwS n a) → xJ E (yX7_leastWith, cX7_leastWith, 6, (some FieldType.int), []) (xR 3 0 0) (xrv (some (.int (nI (lwS n a)))) G) 0 0 8 [some (.ref 54), some (.int (nI a)), some (.int (nI b)), some (.int (nI k)), some (.int (nI i)), none] [] G := by
    intro K
    induction K with
    | zero => intro i b k h; exact absurd h (Nat.not_lt_zero _)
    | succ K ih_lp =>
      intro i b k hK hi hk hs
      refine xj_iload dX7_leastWith_8 rfl ?_
      refine xj_aload_n dX7_leastWith_10 rfl rfl ?_
      refine xj_get dX7_leastWith_11 K7 19 (by decide) q1948 hO rfl ?_
      refine xj_aload_n dX7_leastWith_14 rfl rfl ?_
      refine xj_get dX7_leastWith_15 K7 0 (by decide) q1929 hO (congrArg some hf0) ?_
      refine xj_iald dX7_leastWith_18 hWy rfl (by omega) (wayL_at hn6) ?_
      refine xj_icmp_ge (tgt := 77) dX7_leastWith_19 rfl (fun c19 => ?_) (fun c19 => ?_)
      · have hin : wy n ≤ i := Nat.le_of_not_lt fun h => absurd c19 (nI_ge h (by omega))
        refine xj_iload_n dX7_leastWith_77 rfl ?_
        exact xj_ireturn dX7_leastWith_78 rfl rfl (xrv_i (by rw [← hs, lp_end _ hin]))
      · have hin : i < wy n := Nat.lt_of_not_le fun h => c19 (nI_le h (by omega))
        have hrb := rb_mem (by omega) h1n hin
        have hiv := inv_lt (by omega) hrb
        have hpc := pc64_le (inv n (rb n i))
        have hst : lpN (lwF n a) i (wy n - i) (b, k) = lpN (lwF n a) (i + 1) (wy n - (i + 1)) (if (dgm n (rb n i)).testBit a = true ∧ pc64 (inv n (rb n i)) < k then (rb n i, pc64 (inv n (rb n i))) else (b, k)) := lp_step (lwF n a) hin (b, k)
        refine xj_aload_n dX7_leastWith_22 rfl rfl ?_
        refine xj_iload dX7_leastWith_23 rfl ?_
        refine xj_cV dX7_leastWith_25 q2120 kV_X7_rowBy (M_rowBy hv hin) hO rfl rfl rfl rfl (Nat.le_of_ble_eq_true rfl) ⟨(Nat.le_of_ble_eq_true rfl), (Nat.le_of_ble_eq_true rfl)⟩ (Nat.le_of_ble_eq_true rfl) (Nat.le_of_ble_eq_true rfl) ?_
        refine xj_ist5 dX7_leastWith_28 rfl ?_
        refine xj_aload_n dX7_leastWith_30 rfl rfl ?_
        refine xj_iload dX7_leastWith_31 rfl ?_
        refine xj_cV dX7_leastWith_33 q2200 kV_X7_diagramOf (M_diagramOf hv ha hrb) hO rfl rfl rfl rfl (Nat.le_of_ble_eq_true rfl) ⟨(Nat.le_of_ble_eq_true rfl), (Nat.le_of_ble_eq_true rfl)⟩ (Nat.le_of_ble_eq_true rfl) (Nat.le_of_ble_eq_true rfl) ?_
        refine xj_iload_n dX7_leastWith_36 rfl ?_
        refine xj_cS dX7_leastWith_37 q1926 kS_X7_has (M_has (Nat.lt_trans (dgm_lt (by omega) hrb) (by decide)) ha64) rfl rfl (Nat.le_of_ble_eq_true rfl) ⟨(Nat.le_of_ble_eq_true rfl), (Nat.le_of_ble_eq_true rfl)⟩ (Nat.le_of_ble_eq_true rfl) (Nat.le_of_ble_eq_true rfl) ?_
        refine xj_if_eq (tgt := 71) dX7_leastWith_40 rfl (fun c40 => ?_) (fun c40 => ?_)
        · refine xj_iinc4 (cst := 1) dX7_leastWith_71 rfl rfl ?_
          rw [nI_1]
          refine xj_goto (tgt := 8) dX7_leastWith_74 rfl ?_
          first
            | exact xj_fg5 (ih_lp (i + 1) b k (by omega) (by omega) (by omega) (by
                rw [if_neg (by first | exact fun q => by rw [q.1] at c40; exact absurd c40 (by decide) | exact fun q => absurd ((nI_leI (by omega) (by omega)).mp c54) (by omega))] at hst
                exact (congrArg Prod.fst hst).symm.trans hs))
            | exact xj_fg5 (ih_lp (i + 1) _ _ (by omega) (by omega) (by omega) ((congrArg Prod.fst hst).symm.trans hs))
        · refine xj_aload_n dX7_leastWith_43 rfl rfl ?_
          refine xj_iload dX7_leastWith_44 rfl ?_
          refine xj_cV dX7_leastWith_46 q2108 kV_X7_swapped (M_swapped hv hrb) hO rfl rfl rfl rfl (Nat.le_of_ble_eq_true rfl) ⟨(Nat.le_of_ble_eq_true rfl), (Nat.le_of_ble_eq_true rfl)⟩ (Nat.le_of_ble_eq_true rfl) (Nat.le_of_ble_eq_true rfl) ?_
          refine xj_i2l dX7_leastWith_49 ?_
          refine xj_topl (nI_l (Nat.lt_trans hiv (by decide))) ?_
          refine xj_cS dX7_leastWith_50 q2124 kS_X7_ones (M_ones (Nat.lt_trans hiv (by decide))) rfl rfl (Nat.le_of_ble_eq_true rfl) ⟨(Nat.le_of_ble_eq_true rfl), (Nat.le_of_ble_eq_true rfl)⟩ (Nat.le_of_ble_eq_true rfl) (Nat.le_of_ble_eq_true rfl) ?_
          refine xj_iload_n dX7_leastWith_53 rfl ?_
          refine xj_icmp_ge (tgt := 71) dX7_leastWith_54 rfl (fun c54 => ?_) (fun c54 => ?_)
          · refine xj_iinc4 (cst := 1) dX7_leastWith_71 rfl rfl ?_
            rw [nI_1]
            refine xj_goto (tgt := 8) dX7_leastWith_74 rfl ?_
            first
              | exact xj_fg5 (ih_lp (i + 1) b k (by omega) (by omega) (by omega) (by
                  rw [if_neg (by first | exact fun q => by rw [q.1] at c40; exact absurd c40 (by decide) | exact fun q => absurd ((nI_leI (by omega) (by omega)).mp c54) (by omega))] at hst
                  exact (congrArg Prod.fst hst).symm.trans hs))
              | exact xj_fg5 (ih_lp (i + 1) _ _ (by omega) (by omega) (by omega) ((congrArg Prod.fst hst).symm.trans hs))
          · rw [if_pos ⟨by cases h : (dgm n (rb n i)).testBit a with
              | true => rfl
              | false => rw [h] at c40; exact absurd rfl c40, Nat.lt_of_not_le fun h => c54 ((nI_leI (by omega) (by omega)).mpr h)⟩] at hst
            refine xj_aload_n dX7_leastWith_57 rfl rfl ?_
            refine xj_iload dX7_leastWith_58 rfl ?_
            refine xj_cV dX7_leastWith_60 q2108 kV_X7_swapped (M_swapped hv hrb) hO rfl rfl rfl rfl (Nat.le_of_ble_eq_true rfl) ⟨(Nat.le_of_ble_eq_true rfl), (Nat.le_of_ble_eq_true rfl)⟩ (Nat.le_of_ble_eq_true rfl) (Nat.le_of_ble_eq_true rfl) ?_
            refine xj_i2l dX7_leastWith_63 ?_
            refine xj_topl (nI_l (Nat.lt_trans hiv (by decide))) ?_
            refine xj_cS dX7_leastWith_64 q2124 kS_X7_ones (M_ones (Nat.lt_trans hiv (by decide))) rfl rfl (Nat.le_of_ble_eq_true rfl) ⟨(Nat.le_of_ble_eq_true rfl), (Nat.le_of_ble_eq_true rfl)⟩ (Nat.le_of_ble_eq_true rfl) (Nat.le_of_ble_eq_true rfl) ?_
            refine xj_istn3 dX7_leastWith_67 rfl ?_
            refine xj_iload dX7_leastWith_68 rfl ?_
            refine xj_istn2 dX7_leastWith_70 rfl ?_
            refine xj_iinc4 (cst := 1) dX7_leastWith_71 rfl rfl ?_
            rw [nI_1]
            refine xj_goto (tgt := 8) dX7_leastWith_74 rfl ?_
            first
              | exact xj_fg5 (ih_lp (i + 1) b k (by omega) (by omega) (by omega) (by
                  rw [if_neg (by first | exact fun q => by rw [q.1] at c40; exact absurd c40 (by decide) | exact fun q => absurd ((nI_leI (by omega) (by omega)).mp c54) (by omega))] at hst
                  exact (congrArg Prod.fst hst).symm.trans hs))
              | exact xj_fg5 (ih_lp (i + 1) _ _ (by omega) (by omega) (by omega) ((congrArg Prod.fst hst).symm.trans hs))
  exact lp (wy n + 1) 0 0 99 (by omega) (by omega) (by omega) rfl
end M7
