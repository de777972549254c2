/-! ===== the class: closed sets counted; the trace ===== -/
set_option maxRecDepth 100000
theorem kV_X0_closedFrom : xsV yX0_closedFrom cX0_closedFrom 4 (some FieldType.int) 1 := ⟨q1448, qs65, q151, q1449, by decide, by decide, by decide +kernel⟩
/-- closed sets of what is left -/
def ccf (n : Nat) : Nat → Nat → Int32
  | 0, _ => 1
  | f + 1, x => if x = 0 then 1 else ccf n f (andn x (fo n (lwb x))) + ccf n f (andn x (fcr n (lwb x)))
def rfC (n k : Nat) : Bool := (fo n k).testBit k && (fcr n k).testBit k
theorem f_rfC : ∀ n, n < 7 → ∀ k, k < na n → rfC n k = true := by decide +kernel
theorem f_rf {n k : Nat} (hn : n < 7) (hk : k < na n) : (fo n k).testBit k = true ∧ (fcr n k).testBit k = true := by
  have := f_rfC n hn k hk
  unfold rfC at this
  rwa [Bool.and_eq_true] at this
theorem pc_sub {x y k : Nat} (hx : x < 2 ^ 64) (h : sbs y x) (hk : x.testBit k = true) (hy : y.testBit k = false) : pc64 y < pc64 x := by
  have hy64 : y < 2 ^ 64 := by
    apply Nat.lt_of_not_le
    intro hc
    obtain ⟨i, hi, hb⟩ := Nat.exists_ge_and_testBit_of_ge_two_pow hc
    have := bit_lt hx (h i hb)
    omega
  obtain ⟨h1, h2⟩ := pc_mono 64 y x hx (Nat.le_refl _) hy64 h
  rcases Nat.lt_or_ge (pc64 y) (pc64 x) with q | q
  · exact q
  · rw [h2 q, hk] at hy; cases hy
theorem ccf_pc {n x : Nat} (hn : n < 7) (hx64 : x < 2 ^ 64) (hx : x < 2 ^ na n) (hl : lwb x < na n) (hb : x.testBit (lwb x) = true) : pc64 (andn x (fo n (lwb x))) < pc64 x ∧ pc64 (andn x (fcr n (lwb x))) < pc64 x := by
  obtain ⟨r1, r2⟩ := f_rf hn hl
  constructor
  · exact pc_sub hx64 (fun i hi => by rw [andn_bit hx64, Bool.and_eq_true] at hi; exact hi.1) hb (by rw [andn_bit hx64, r1, Bool.not_true, Bool.and_false])
  · exact pc_sub hx64 (fun i hi => by rw [andn_bit hx64, Bool.and_eq_true] at hi; exact hi.1) hb (by rw [andn_bit hx64, r2, Bool.not_true, Bool.and_false])
/-- the reference counts the same -/
theorem cfr_ccf {n : Nat} (hn : n < 7) : ∀ (k a i o f x : Nat), a + k = na n → x < 2 ^ na n → pc64 x < f → (∀ b, x.testBit b = true ↔ (a ≤ b ∧ b < na n ∧ (i ||| o).testBit b = false)) → cfr n k a i o = ccf n f x := by
  have hna := na_lt n hn
  intro k
  induction k with
  | zero =>
    intro a i o f x ha hx hf hb
    have h0 : x = 0 := by
      apply Nat.eq_of_testBit_eq
      intro j
      rw [Nat.zero_testBit]
      cases hj : x.testBit j with
      | false => rfl
      | true => have := (hb j).mp hj; omega
    obtain ⟨f, rfl⟩ : ∃ f0, f = f0 + 1 := ⟨f - 1, by omega⟩
    show 1 = (if x = 0 then 1 else _)
    rw [if_pos h0]
  | succ k ih =>
    intro a i o f x ha hx hf hb
    have hx64 : x < 2 ^ 64 := Nat.lt_of_lt_of_le hx (Nat.pow_le_pow_right (by decide) (by omega))
    show (if (i ||| o).testBit a then cfr n k (a + 1) i o else cfr n k (a + 1) (i ||| fo n a) o + cfr n k (a + 1) i (o ||| fcr n a)) = _
    by_cases h : (i ||| o).testBit a = true
    · rw [if_pos h]
      refine ih (a + 1) i o f x (by omega) hx hf (fun b => ?_)
      rw [hb b]
      constructor
      · rintro ⟨q1, q2, q3⟩
        refine ⟨?_, q2, q3⟩
        have : a ≠ b := fun e => by rw [e, q3] at h; cases h
        omega
      · rintro ⟨q1, q2, q3⟩; exact ⟨by omega, q2, q3⟩
    · rw [if_neg h]
      have h : (i ||| o).testBit a = false := by simpa using h
      have hxa : x.testBit a = true := (hb a).mpr ⟨Nat.le_refl _, by omega, h⟩
      have hx0 : 0 < x := by
        rcases Nat.eq_zero_or_pos x with e | e
        · rw [e, Nat.zero_testBit] at hxa; cases hxa
        · exact e
      obtain ⟨l1, l2, l3⟩ := lwb_ok hx0 hx64
      have hla : lwb x = a := by
        have h1 := (hb (lwb x)).mp l2
        rcases Nat.lt_or_ge a (lwb x) with q | q
        · rw [l3 a q] at hxa; cases hxa
        · omega
      have hp := ccf_pc hn hx64 hx (by omega) l2
      obtain ⟨f, rfl⟩ : ∃ f0, f = f0 + 1 := ⟨f - 1, by omega⟩
      show _ = (if x = 0 then 1 else ccf n f (andn x (fo n (lwb x))) + ccf n f (andn x (fcr n (lwb x))))
      rw [if_neg (by omega), hla]
      rw [hla] at hp
      obtain ⟨r1, r2⟩ := f_rf hn (show a < na n by omega)
      have key : ∀ (F : Nat), F.testBit a = true → ∀ b, (andn x F).testBit b = true ↔ (a + 1 ≤ b ∧ b < na n ∧ ((i ||| o) ||| F).testBit b = false) := by
        intro F hF b
        have e : ((i ||| o) ||| F).testBit b = ((i ||| o).testBit b || F.testBit b) := Nat.testBit_or _ _ _
        rw [andn_bit hx64, Bool.and_eq_true, hb b, e, Bool.or_eq_false_iff]
        constructor
        · rintro ⟨⟨q1, q2, q3⟩, q4⟩
          have q4 : F.testBit b = false := by simpa using q4
          refine ⟨?_, q2, q3, q4⟩
          have : a ≠ b := fun e => by rw [← e, hF] at q4; cases q4
          omega
        · rintro ⟨q1, q2, q3, q4⟩; exact ⟨⟨by omega, q2, q3⟩, by rw [q4]; rfl⟩
      rw [ih (a + 1) (i ||| fo n a) o f (andn x (fo n a)) (by omega) (andn_lt hx) (by omega) (fun b => by rw [key _ r1 b, Nat.or_assoc i, Nat.or_comm o, ← Nat.or_assoc]), ih (a + 1) i (o ||| fcr n a) f (andn x (fcr n a)) (by omega) (andn_lt hx) (by omega) (fun b => by rw [key _ r2 b, Nat.or_assoc])]
theorem ccf_all {n : Nat} (hn : n < 7) : ccf n 65 (2 ^ na n - 1) = cfr n (na n) 0 0 0 := by
  refine (cfr_ccf hn (na n) 0 0 0 65 _ (by omega) (Nat.sub_lt (Nat.two_pow_pos _) (by decide)) (Nat.lt_of_le_of_lt (pc64_le _) (by decide)) (fun b => ?_)).symm
  rw [Nat.testBit_two_pow_sub_one, Nat.or_zero, Nat.zero_testBit]
  simp
theorem ccf_gone {n g : Nat} (hn : n < 7) : ccf n 65 (andn (2 ^ na n - 1) g) = cfr n (na n) 0 g 0 := by
  have hna := na_lt n hn
  have hall : 2 ^ na n - 1 < 2 ^ na n := Nat.sub_lt (Nat.two_pow_pos _) (by decide)
  refine (cfr_ccf hn (na n) 0 g 0 65 _ (by omega) (andn_lt hall) (Nat.lt_of_le_of_lt (pc64_le _) (by decide)) (fun b => ?_)).symm
  rw [andn_bit (Nat.lt_of_lt_of_le hall (Nat.pow_le_pow_right (by decide) (by omega))), Nat.testBit_two_pow_sub_one, Nat.or_zero]
  simp
section A31
variable {E : xE} {G : xH} {d e : Nat → Value} {n : Nat}
theorem A_closedFrom (hv : cV d e n G) (hA : cA d n G) : ∀ (f x : Nat), x < 2 ^ na n → pc64 x < f → xMet E yX0_closedFrom cX0_closedFrom 4 (some FieldType.int) f 0 0 [.ref 0, .long (lN x)] G (xrv (some (.int (ccf n f x))) G) := by
  intro f
  induction f with
  | zero => intro x _ h; exact absurd h (Nat.not_lt_zero _)
  | succ f ih =>
    intro x hx hf
    obtain ⟨hO, hN, hn0, h1n, hn6⟩ := id hv
    obtain ⟨ar, hd3, hdy, LA, hAr, hLA, hAk⟩ := id hA
    have hna := na_lt n (by omega)
    have hn7 : n < 7 := by omega
    have hx64 : x < 2 ^ 64 := Nat.lt_of_lt_of_le hx (Nat.pow_le_pow_right (by decide) (by omega))
    refine xMet.of (lv := [some (.ref 0), some (.long (lN x)), none, none]) rfl rfl (Nat.le_of_ble_eq_true rfl) ?_
    refine xj_lload_n dX0_closedFrom_0 rfl ?_
    refine xj_lc0 dX0_closedFrom_1 ?_
    refine xj_lcmp dX0_closedFrom_2 ?_
    refine xj_if_ne (tgt := 8) dX0_closedFrom_3 rfl (fun c3 => ?_) (fun c3 => ?_)
    · have hx0 : 0 < x := Nat.pos_of_ne_zero fun h => c3 (lc_0 h)
      obtain ⟨l1, l2, l3⟩ := lwb_ok hx0 hx64
      have hln : lwb x < na n := bit_lt hx l2
      obtain ⟨a, u, hda, hLi, hGa⟩ := hAk (lwb x) hln
      have hp := ccf_pc hn7 hx64 hx hln l2
      refine xj_aload_n dX0_closedFrom_8 rfl rfl ?_
      refine xj_get dX0_closedFrom_9 K0 3 (by decide) q471 hO (congrArg some hd3) ?_
      refine xj_lload_n dX0_closedFrom_12 rfl ?_
      refine xj_cS dX0_closedFrom_13 q800 kS_X0_lowestOf (A_lowestOf hx0 hx64) rfl rfl (Nat.le_of_ble_eq_true rfl) (xR_ok (by omega) (by decide)) (Nat.le_of_ble_eq_true rfl) (Nat.le_of_ble_eq_true rfl) ?_
      refine xj_aald dX0_closedFrom_16 hAr rfl rfl rfl (by omega) hLi ?_
      refine xj_astn3 dX0_closedFrom_17 rfl rfl ?_
      refine xj_aload_n dX0_closedFrom_18 rfl rfl ?_
      refine xj_lload_n dX0_closedFrom_19 rfl ?_
      refine xj_aload_n dX0_closedFrom_20 rfl rfl ?_
      refine xj_getN dX0_closedFrom_21 K6 10 (by decide) q425 hGa rfl ?_
      refine xj_ldc2 dX0_closedFrom_24 q611 ?_
      refine xj_lxor dX0_closedFrom_27 ?_
      refine xj_land dX0_closedFrom_28 ?_
      rw [wb_andn hx64 (Nat.lt_trans (fo_lt hn7 _) (by decide))]
      refine xj_cV dX0_closedFrom_29 q1446 kV_X0_closedFrom (ih _ (andn_lt hx) (by omega)) hO rfl rfl rfl rfl (Nat.le_of_ble_eq_true rfl) (xR_ok (by omega) (by decide)) (Nat.le_of_ble_eq_true rfl) (Nat.le_of_ble_eq_true rfl) ?_
      refine xj_aload_n dX0_closedFrom_32 rfl rfl ?_
      refine xj_lload_n dX0_closedFrom_33 rfl ?_
      refine xj_aload_n dX0_closedFrom_34 rfl rfl ?_
      refine xj_getN dX0_closedFrom_35 K6 11 (by decide) q426 hGa rfl ?_
      refine xj_ldc2 dX0_closedFrom_38 q611 ?_
      refine xj_lxor dX0_closedFrom_41 ?_
      refine xj_land dX0_closedFrom_42 ?_
      rw [wb_andn hx64 (Nat.lt_trans (fcr_lt hn7 _) (by decide))]
      refine xj_cV dX0_closedFrom_43 q1446 kV_X0_closedFrom (ih _ (andn_lt hx) (by omega)) hO rfl rfl rfl rfl (Nat.le_of_ble_eq_true rfl) (xR_ok (by omega) (by decide)) (Nat.le_of_ble_eq_true rfl) (Nat.le_of_ble_eq_true rfl) ?_
      refine xj_iadd dX0_closedFrom_46 ?_
      exact xj_ireturn dX0_closedFrom_47 rfl rfl (xrv_i (by show _ = (if x = 0 then 1 else _); rw [if_neg (by omega)]))
    · refine xj_ic1 dX0_closedFrom_6 ?_
      exact xj_ireturn dX0_closedFrom_7 rfl rfl (xrv_i (by have hx0 : x = 0 := lc_z hx64 c3; unfold ccf; rw [if_pos hx0]))
theorem A_closed {w : Int32} {g : Nat}  (hv : cV d e n G) (hn3 : e 3 = .long (lN g)) (hg : g < 2 ^ 57) (hA : cA d n G) : xMet E yX0_closed cX0_closed 2 (some FieldType.int) 66 0 0 [.ref 0, .int w] G (xrv (some (.int (o_closed n g w))) G) := by
  obtain ⟨hO, hN, hn0, h1n, hn6⟩ := id hv
  obtain ⟨ar, hd3, hdy, LA, hAr, hLA, hAk⟩ := id hA
  have hna := na_lt n (by omega)
  refine xMet.of (lv := [some (.ref 0), some (.int w)]) rfl rfl (Nat.le_of_ble_eq_true rfl) ?_
  refine xj_iload_n dX0_closed_0 rfl ?_
  refine xj_ic0 dX0_closed_1 ?_
  refine xj_ic1 dX0_closed_2 ?_
  refine xj_cS dX0_closed_3 q585 kS_X0_isIn A_isIn rfl rfl (Nat.le_of_ble_eq_true rfl) ⟨(Nat.le_of_ble_eq_true rfl), (Nat.le_of_ble_eq_true rfl)⟩ (Nat.le_of_ble_eq_true rfl) (Nat.le_of_ble_eq_true rfl) ?_
  rw [show inC w 0 1 = inI w 2 from inC_inI (m := 2) (by decide)]
  refine xj_if_ne (tgt := 11) dX0_closed_6 rfl (fun c6 => ?_) (fun c6 => ?_)
  · have hw2 := b1_nz c6
    have hall : 2 ^ na n - 1 < 2 ^ na n := Nat.sub_lt (Nat.two_pow_pos _) (by decide)
    have hall64 : 2 ^ na n - 1 < 2 ^ 64 := Nat.lt_of_lt_of_le hall (Nat.pow_le_pow_right (by decide) (by omega))
    refine xj_aload_n dX0_closed_11 rfl rfl ?_
    refine xj_get dX0_closed_12 K0 4 (by decide) q473 hO rfl ?_
    refine xj_getN dX0_closed_15 K3 0 (by decide) q321 hN (congrArg some hn0) ?_
    refine xj_ic5 dX0_closed_18 ?_
    refine xj_icmp_le (tgt := 25) dX0_closed_19 rfl (fun c19 => ?_) (fun c19 => ?_)
    · have hn5 : n < 6 := by have : n ≤ 5 := (nI_leI (b := 5) (by omega) (by decide)).mp c19; omega
      refine xj_aload_n dX0_closed_25 rfl rfl ?_
      refine xj_iload_n dX0_closed_26 rfl ?_
      refine xj_if_ne (tgt := 37) dX0_closed_27 rfl (fun c27 => ?_) (fun c27 => ?_)
      · refine xj_aload_n dX0_closed_37 rfl rfl ?_
        refine xj_cV dX0_closed_38 q796 kV_X0_allArcs (A_allArcs hv hA) hO rfl rfl rfl rfl (Nat.le_of_ble_eq_true rfl) ⟨(Nat.le_of_ble_eq_true rfl), (Nat.le_of_ble_eq_true rfl)⟩ (Nat.le_of_ble_eq_true rfl) (Nat.le_of_ble_eq_true rfl) ?_
        refine xj_aload_n dX0_closed_41 rfl rfl ?_
        refine xj_get dX0_closed_42 K0 4 (by decide) q473 hO rfl ?_
        refine xj_getN dX0_closed_45 K3 3 (by decide) q327 hN (congrArg some hn3) ?_
        refine xj_ldc2 dX0_closed_48 q611 ?_
        refine xj_lxor dX0_closed_51 ?_
        refine xj_land dX0_closed_52 ?_
        try rw [wb_andn hall64 (Nat.lt_trans hg (by decide))]
        refine xj_cV dX0_closed_53 q1446 kV_X0_closedFrom (A_closedFrom hv hA 65 _ (by first | exact hall | exact andn_lt hall) (Nat.lt_of_le_of_lt (pc64_le _) (by decide))) hO rfl rfl rfl rfl (Nat.le_of_ble_eq_true rfl) ⟨(Nat.le_of_ble_eq_true rfl), (Nat.le_of_ble_eq_true rfl)⟩ (Nat.le_of_ble_eq_true rfl) (Nat.le_of_ble_eq_true rfl) ?_
        exact xj_ireturn dX0_closed_56 rfl rfl (xrv_i (by unfold o_closed; rw [hw2, if_pos rfl, if_neg (show ¬ n = 6 by omega)]; first | (rw [if_pos (Classical.not_not.mp c27)]; exact ccf_all (by omega)) | (rw [if_pos c27]; exact ccf_all (by omega)) | (rw [if_neg c27]; exact ccf_gone (by omega))))
      · refine xj_aload_n dX0_closed_30 rfl rfl ?_
        refine xj_cV dX0_closed_31 q796 kV_X0_allArcs (A_allArcs hv hA) hO rfl rfl rfl rfl (Nat.le_of_ble_eq_true rfl) ⟨(Nat.le_of_ble_eq_true rfl), (Nat.le_of_ble_eq_true rfl)⟩ (Nat.le_of_ble_eq_true rfl) (Nat.le_of_ble_eq_true rfl) ?_
        refine xj_goto (tgt := 53) dX0_closed_34 rfl ?_
        try rw [wb_andn hall64 (Nat.lt_trans hg (by decide))]
        refine xj_cV dX0_closed_53 q1446 kV_X0_closedFrom (A_closedFrom hv hA 65 _ (by first | exact hall | exact andn_lt hall) (Nat.lt_of_le_of_lt (pc64_le _) (by decide))) hO rfl rfl rfl rfl (Nat.le_of_ble_eq_true rfl) ⟨(Nat.le_of_ble_eq_true rfl), (Nat.le_of_ble_eq_true rfl)⟩ (Nat.le_of_ble_eq_true rfl) (Nat.le_of_ble_eq_true rfl) ?_
        exact xj_ireturn dX0_closed_56 rfl rfl (xrv_i (by unfold o_closed; rw [hw2, if_pos rfl, if_neg (show ¬ n = 6 by omega)]; first | (rw [if_pos (Classical.not_not.mp c27)]; exact ccf_all (by omega)) | (rw [if_pos c27]; exact ccf_all (by omega)) | (rw [if_neg c27]; exact ccf_gone (by omega))))
    · refine xj_bipush (v := -4) dX0_closed_22 rfl ?_
      exact xj_ireturn dX0_closed_24 rfl rfl (xrv_i (by have : 5 < n := Nat.lt_of_not_le fun h => c19 (nI_le (b := 5) h (by decide)); unfold o_closed; rw [hw2, if_pos (show n = 6 by omega)]; rfl))
  · refine xj_icm1 dX0_closed_9 ?_
    exact xj_ireturn dX0_closed_10 rfl rfl (xrv_i (by unfold o_closed; rw [b1_z c6]; rfl))
theorem A_trace {i : Int32} {l LB : List Int32}  (hv : cV d e n G) (h32 : G[32]? = some (cO 4 [.ref 33, .int (nI l.length)])) (h33 : G[33]? = some (cI 0 LB)) (hl30 : l.length ≤ 30) (hLB : ∀ (i : Nat) (v : Int32), l[i]? = some v → LB[i]? = some v) : xMet E yX0_trace cX0_trace 2 (some FieldType.int) 1 0 0 [.ref 0, .int i] G (xrv (some (.int (o_trace l i))) G) := by
  obtain ⟨hO, hN, hn0, h1n, hn6⟩ := id hv
  refine xMet.of (lv := [some (.ref 0), some (.int i)]) rfl rfl (Nat.le_of_ble_eq_true rfl) ?_
  refine xj_iload_n dX0_trace_0 rfl ?_
  refine xj_ic0 dX0_trace_1 ?_
  refine xj_aload_n dX0_trace_2 rfl rfl ?_
  refine xj_get dX0_trace_3 K0 35 (by decide) q507 hO rfl ?_
  refine xj_getN dX0_trace_6 K4 1 (by decide) q368 h32 rfl ?_
  refine xj_ic1 dX0_trace_9 ?_
  refine xj_isub dX0_trace_10 ?_
  refine xj_cS dX0_trace_11 q585 kS_X0_isIn A_isIn rfl rfl (Nat.le_of_ble_eq_true rfl) ⟨(Nat.le_of_ble_eq_true rfl), (Nat.le_of_ble_eq_true rfl)⟩ (Nat.le_of_ble_eq_true rfl) (Nat.le_of_ble_eq_true rfl) ?_
  rw [inC_inI (by omega)]
  refine xj_if_eq (tgt := 29) dX0_trace_14 rfl (fun c14 => ?_) (fun c14 => ?_)
  · refine xj_bipush (v := -3) dX0_trace_29 rfl ?_
    exact xj_ireturn dX0_trace_31 rfl rfl (xrv_i (by unfold o_trace; first | (rw [b1_z c14]; rfl) | (rw [hb, if_pos rfl, tk, List.getD_eq_getElem?_getD, List.getElem?_eq_getElem hk]; rfl)))
  · have hb := b1_nz c14
    obtain ⟨k, hk, hk31, rfl⟩ := inI_t hb
    have tk : tn (nI k) = k := nI_clamp hk31
    refine xj_aload_n dX0_trace_17 rfl rfl ?_
    refine xj_get dX0_trace_18 K0 35 (by decide) q507 hO rfl ?_
    refine xj_getN dX0_trace_21 K4 0 (by decide) q366 h32 rfl ?_
    refine xj_iload_n dX0_trace_24 rfl ?_
    refine xj_iald dX0_trace_25 h33 rfl (by omega) (hLB k _ (List.getElem?_eq_getElem hk)) ?_
    refine xj_goto (tgt := 31) dX0_trace_26 rfl ?_
    exact xj_ireturn dX0_trace_31 rfl rfl (xrv_i (by unfold o_trace; first | (rw [b1_z c14]; rfl) | (rw [hb, if_pos rfl, tk, List.getD_eq_getElem?_getD, List.getElem?_eq_getElem hk]; rfl)))
end A31
