/-! ===== the class: act ===== -/
set_option maxRecDepth 100000

theorem cMk.mv {mk : List (Nat × Nat)} {e : Nat → Value} {G G' : xH} (h : cMk mk e G) (h5 : G'[5]? = G[5]?) (h6 : G'[6]? = G[6]?) (h10 : G'[10]? = G[10]?) (hk : kpt G G') : cMk mk e G' := by
  obtain ⟨q1, ⟨K, M, k5, k6, q2⟩, PL, p1, p2, p3⟩ := h
  refine ⟨q1, ⟨K, M, h5.trans k5, h6.trans k6, q2⟩, PL, h10.trans p1, p2, fun i p hp => ?_⟩
  obtain ⟨a, a1, a2, a3⟩ := p3 i p hp
  exact ⟨a, a1, a2, hk a _ (dyn_82 a2) a3 trivial⟩
theorem nc_aJN {t : Nat} (ht : t < 4) : xnc (snm t) "CoarserOrders$Joins" := by
  rcases sh_cases ht with rfl | rfl | rfl | rfl
  · exact nc_B_JN
  · exact nc_S_JN
  · exact nc_I_JN
  · exact nc_J_JN
theorem cy_JN {k : Nat} (hk : k < 6) : Cond.castable (knm k) "CoarserOrders$Joins" ∈ lw_tbl := by
  rcases k_cases hk with rfl | rfl | rfl | rfl | rfl | rfl
  · exact cy_0_JN
  · exact cy_1_JN
  · exact cy_2_JN
  · exact cy_3_JN
  · exact cy_4_JN
  · exact cy_5_JN
theorem act_n {mk : List (Nat × Nat)} {hl : Nat → Option (Nat ⊕ (Nat × Nat))} {k w x : Int32} (h : actM mk hl k w = none) : o_act mk hl k w x = 0 := by unfold o_act; rw [h]
theorem act_nt {mk : List (Nat × Nat)} {hl : Nat → Option (Nat ⊕ (Nat × Nat))} {k w : Int32} (h : actM mk hl k w = none) : s_act mk hl k w = [] := by unfold s_act; rw [h]
theorem act_hv {mk : List (Nat × Nat)} {o : Option (Nat ⊕ (Nat × Nat))} : mkOn mk o = match hvl mk o with | some (.inl y) => some y | _ => none := by
  match o with
  | none => rfl
  | some (.inr q) => rfl
  | some (.inl y) =>
    unfold mkOn hvl
    by_cases h : y < mk.length
    · simp only [if_pos h]
    · simp only [if_neg h]
theorem act_no {mk : List (Nat × Nat)} {hl : Nat → Option (Nat ⊕ (Nat × Nat))} {x0 : Nat} {w : Int32} (hb : inI (nI x0) 4 = true) (hb2 : inI w 4 = true) (tx : tn (nI x0) = x0) (h : ∀ y, hvl mk (hl x0) ≠ some (.inl y)) : actM mk hl (nI x0) w = none := by
  unfold actM
  rw [hb, hb2, tx, Bool.and_self, if_pos rfl, act_hv]
  match ho : hvl mk (hl x0) with
  | none => rfl
  | some (.inr q) => rfl
  | some (.inl y) => exact absurd ho (h y)
theorem act_yes {mk : List (Nat × Nat)} {hl : Nat → Option (Nat ⊕ (Nat × Nat))} {x0 y : Nat} {w : Int32} (hb : inI (nI x0) 4 = true) (hb2 : inI w 4 = true) (tx : tn (nI x0) = x0) (ho : hvl mk (hl x0) = some (.inl y)) : actM mk hl (nI x0) w = some y := by
  unfold actM
  rw [hb, hb2, tx, Bool.and_self, if_pos rfl, act_hv, ho]
theorem act_w0 {w : Int32} (h : w = Int32.ofInt (0 + ((0 : Nat) : Int))) : w = 0 := h
theorem act_w1 {w : Int32} (h : w = Int32.ofInt (0 + ((1 : Nat) : Int))) : w = 1 := h
theorem act_w2 {w : Int32} (h : w = Int32.ofInt (0 + ((2 : Nat) : Int))) : w = 2 := h
theorem act_w3 {w : Int32} (hb : inI w 4 = true) (h : w.toInt < 0 ∨ 2 < w.toInt) : w = 3 := by
  obtain ⟨k, k1, k2, rfl⟩ := inI_t hb
  rw [nI_toInt (by omega)] at h
  rw [show k = 3 by omega]; rfl
theorem vA_0 {kd nm mk : Nat} {x : Int32} : vA kd nm mk 0 x = vT kd nm x := if_pos rfl
theorem vA_1 {kd nm mk : Nat} {x : Int32} : vA kd nm mk 1 x = vB kd nm mk x := (if_neg (by decide)).trans (if_pos rfl)
theorem vA_2 {kd nm mk : Nat} {x : Int32} (h : mk ≠ nm) : vA kd nm mk 2 x = vP kd nm mk x := (if_neg (by decide)).trans ((if_neg (by decide)).trans ((if_neg h).trans (if_pos rfl)))
theorem vA_3 {kd nm mk : Nat} {x : Int32} (h : mk ≠ nm) : vA kd nm mk 3 x = vJ kd nm mk x := (if_neg (by decide)).trans ((if_neg (by decide)).trans ((if_neg h).trans (if_neg (by decide))))
theorem vA_z2 {kd nm mk : Nat} {x : Int32} (h : mk = nm) : vA kd nm mk 2 x = -15 := (if_neg (by decide)).trans ((if_neg (by decide)).trans (if_pos h))
theorem vA_z3 {kd nm mk : Nat} {x : Int32} (h : mk = nm) : vA kd nm mk 3 x = -15 := (if_neg (by decide)).trans ((if_neg (by decide)).trans (if_pos h))
theorem tA_0 {kd nm mk : Nat} : tA kd nm mk 0 = tT kd [] := if_pos rfl
theorem tA_1 {kd nm mk : Nat} : tA kd nm mk 1 = tB kd [] := (if_neg (by decide)).trans (if_pos rfl)
theorem tA_2 {kd nm mk : Nat} : tA kd nm mk 2 = tP kd nm mk [] := (if_neg (by decide)).trans ((if_neg (by decide)).trans (if_pos rfl))
theorem tA_3 {kd nm mk : Nat} : tA kd nm mk 3 = tJ kd nm mk [] := (if_neg (by decide)).trans ((if_neg (by decide)).trans (if_neg (by decide)))
theorem vturns_0 {y : Nat} {x : Int32} : vT 0 y x = vPT y x := (if_neg (by decide)).trans (if_neg (by decide))
theorem tturns_0 {l : List Int32} : tT 0 l = tPT l := (if_neg (by decide)).trans (if_neg (by decide))
theorem vturns_1 {y : Nat} {x : Int32} : vT 1 y x = vLT y x := (if_neg (by decide)).trans (if_pos (by decide))
theorem tturns_1 {l : List Int32} : tT 1 l = tLT l := (if_neg (by decide)).trans (if_pos (by decide))
theorem vturns_2 {y : Nat} {x : Int32} : vT 2 y x = vPT y x := (if_neg (by decide)).trans (if_neg (by decide))
theorem tturns_2 {l : List Int32} : tT 2 l = tPT l := (if_neg (by decide)).trans (if_neg (by decide))
theorem vturns_3 {y : Nat} {x : Int32} : vT 3 y x = vT 3 y x := rfl
theorem tturns_3 {l : List Int32} : tT 3 l = tT 3 l := rfl
theorem vturns_4 {y : Nat} {x : Int32} : vT 4 y x = vLT y x := (if_neg (by decide)).trans (if_pos (by decide))
theorem tturns_4 {l : List Int32} : tT 4 l = tLT l := (if_neg (by decide)).trans (if_pos (by decide))
theorem vturns_5 {y : Nat} {x : Int32} : vT 5 y x = vPT y x := (if_neg (by decide)).trans (if_neg (by decide))
theorem tturns_5 {l : List Int32} : tT 5 l = tPT l := (if_neg (by decide)).trans (if_neg (by decide))
theorem vbends_0 {y mm : Nat} {x : Int32} : vB 0 y mm x = vPB 0 y mm x := if_neg (by decide)
theorem tbends_0 {l : List Int32} : tB 0 l = tPB 0 l := if_neg (by decide)
theorem vbends_1 {y mm : Nat} {x : Int32} : vB 1 y mm x = vPB 1 y mm x := if_neg (by decide)
theorem tbends_1 {l : List Int32} : tB 1 l = tPB 1 l := if_neg (by decide)
theorem vbends_2 {y mm : Nat} {x : Int32} : vB 2 y mm x = vB 2 y mm x := rfl
theorem tbends_2 {l : List Int32} : tB 2 l = tB 2 l := rfl
theorem vbends_3 {y mm : Nat} {x : Int32} : vB 3 y mm x = vPB 3 y mm x := if_neg (by decide)
theorem tbends_3 {l : List Int32} : tB 3 l = tPB 3 l := if_neg (by decide)
theorem vbends_4 {y mm : Nat} {x : Int32} : vB 4 y mm x = vPB 4 y mm x := if_neg (by decide)
theorem tbends_4 {l : List Int32} : tB 4 l = tPB 4 l := if_neg (by decide)
theorem vbends_5 {y mm : Nat} {x : Int32} : vB 5 y mm x = vB 5 y mm x := rfl
theorem tbends_5 {l : List Int32} : tB 5 l = tB 5 l := rfl
theorem vparts_0 {y mm : Nat} {x : Int32} : vP 0 y mm x = vPP y mm x := (if_neg (by decide)).trans (if_neg (by decide))
theorem tparts_0 {y mm : Nat} {l : List Int32} : tP 0 y mm l = tPP l := (if_neg (by decide)).trans (if_neg (by decide))
theorem vparts_1 {y mm : Nat} {x : Int32} : vP 1 y mm x = vPP y mm x := (if_neg (by decide)).trans (if_neg (by decide))
theorem tparts_1 {y mm : Nat} {l : List Int32} : tP 1 y mm l = tPP l := (if_neg (by decide)).trans (if_neg (by decide))
theorem vparts_2 {y mm : Nat} {x : Int32} : vP 2 y mm x = vLP 2 y mm x := (if_neg (by decide)).trans (if_pos rfl)
theorem tparts_2 {y mm : Nat} {l : List Int32} : tP 2 y mm l = tLP 2 y mm l := (if_neg (by decide)).trans (if_pos rfl)
theorem vparts_3 {y mm : Nat} {x : Int32} : vP 3 y mm x = vPP y mm x := (if_neg (by decide)).trans (if_neg (by decide))
theorem tparts_3 {y mm : Nat} {l : List Int32} : tP 3 y mm l = tPP l := (if_neg (by decide)).trans (if_neg (by decide))
theorem vparts_4 {y mm : Nat} {x : Int32} : vP 4 y mm x = vPP y mm x := (if_neg (by decide)).trans (if_neg (by decide))
theorem tparts_4 {y mm : Nat} {l : List Int32} : tP 4 y mm l = tPP l := (if_neg (by decide)).trans (if_neg (by decide))
theorem vparts_5 {y mm : Nat} {x : Int32} : vP 5 y mm x = vP 5 y mm x := rfl
theorem tparts_5 {y mm : Nat} {l : List Int32} : tP 5 y mm l = tP 5 y mm l := rfl
theorem vjoins_0 {y mm : Nat} {x : Int32} : vJ 0 y mm x = vPJ 0 y mm x := if_neg (by decide)
theorem tjoins_0 {y mm : Nat} {l : List Int32} : tJ 0 y mm l = tPJ 0 y mm l := if_neg (by decide)
theorem vjoins_1 {y mm : Nat} {x : Int32} : vJ 1 y mm x = vPJ 1 y mm x := if_neg (by decide)
theorem tjoins_1 {y mm : Nat} {l : List Int32} : tJ 1 y mm l = tPJ 1 y mm l := if_neg (by decide)
theorem vjoins_2 {y mm : Nat} {x : Int32} : vJ 2 y mm x = vPJ 2 y mm x := if_neg (by decide)
theorem tjoins_2 {y mm : Nat} {l : List Int32} : tJ 2 y mm l = tPJ 2 y mm l := if_neg (by decide)
theorem vjoins_3 {y mm : Nat} {x : Int32} : vJ 3 y mm x = vPJ 3 y mm x := if_neg (by decide)
theorem tjoins_3 {y mm : Nat} {l : List Int32} : tJ 3 y mm l = tPJ 3 y mm l := if_neg (by decide)
theorem vjoins_4 {y mm : Nat} {x : Int32} : vJ 4 y mm x = vJ 4 y mm x := rfl
theorem tjoins_4 {y mm : Nat} {l : List Int32} : tJ 4 y mm l = tJ 4 y mm l := rfl
theorem vjoins_5 {y mm : Nat} {x : Int32} : vJ 5 y mm x = vJ 5 y mm x := rfl
theorem tjoins_5 {y mm : Nat} {l : List Int32} : tJ 5 y mm l = tJ 5 y mm l := rfl
section A40
variable {E : xE} {G : xH} {d e : Nat → Value} {n : Nat}
theorem A_act {k w x : Int32} {l : List Int32} {hl : Nat → Option (Nat ⊕ (Nat × Nat))} {mk : List (Nat × Nat)}  (hv : cV d e n G) (hmk : cMk mk e G) (hHl : cHl hl G) (htr : cTr l G) : xMetW E yX0_act cX0_act 7 (some FieldType.int) [(52, 92, 132, 741), (93, 105, 132, 741), (106, 118, 132, 741), (119, 131, 132, 741)] 8 3 19 [.ref 0, .int k, .int w, .int x] G (xre (fun v_ G' => v_ = some (.int (o_act mk hl k w x)) ∧ gfa [32, 33] G G' ∧ cTr (s_act mk hl k w) G')) := by
  obtain ⟨hO, hN, hn0, h1n, hn6⟩ := id hv
  obtain ⟨LB, h32, h33, htl⟩ := id htr
  refine xMetW.of (lv := [some (.ref 0), some (.int k), some (.int w), some (.int x), none, none, none]) rfl rfl (Nat.le_of_ble_eq_true rfl) ?_
  refine xj_aload_n dX0_act_0 rfl rfl ?_
  refine xj_get dX0_act_1 K0 35 (by decide) q507 hO rfl ?_
  refine xj_ic0 dX0_act_4 ?_
  refine xj_putN dX0_act_5 K4 1 (by decide) q368 rfl rfl h32 (Nat.le_of_ble_eq_true rfl) ?_
  have k32 : (G.set 32 (cO 4 [.ref 33, .int 0]))[32]? = some (cO 4 [.ref 33, .int 0]) := gset_self h32
  have tr0 : cTr [] (G.set 32 (cO 4 [.ref 33, .int 0])) := ⟨LB, k32, by rw [gset (by decide)]; exact h33, htl.1, by decide, fun i v h => by cases h⟩
  have fr0 : gfa [32, 33] G (G.set 32 (cO 4 [.ref 33, .int 0])) := gfa.refl.set (by decide)
  have hv1 : cV d e n (G.set 32 (cO 4 [.ref 33, .int 0])) := hv.set (by decide) (by decide)
  obtain ⟨hO1, hN1, -⟩ := id hv1
  have kp1 : kpt G (G.set 32 (cO 4 [.ref 33, .int 0])) := kpt.refl.set (by decide)
  have hmk1 : cMk mk e (G.set 32 (cO 4 [.ref 33, .int 0])) := hmk.mv (by rw [gset (by decide)]) (by rw [gset (by decide)]) (by rw [gset (by decide)]) kp1
  have hHl1 : cHl hl (G.set 32 (cO 4 [.ref 33, .int 0])) := hHl.mv (by rw [gset (by decide)]) (fun k hk => gset (by omega)) (gsm.refl.oth (ndyn_42 (by decide)))
  refine xj_iload_n dX0_act_8 rfl ?_
  refine xj_cS dX0_act_9 q1468 kS_X0_isShelf A_isShelf rfl rfl (Nat.le_of_ble_eq_true rfl) ⟨(Nat.le_of_ble_eq_true rfl), (Nat.le_of_ble_eq_true rfl)⟩ (Nat.le_of_ble_eq_true rfl) (Nat.le_of_ble_eq_true rfl) ?_
  refine xj_if_eq (tgt := 32) dX0_act_12 rfl (fun c12 => ?_) (fun c12 => ?_)
  · have hno : actM mk hl k w = none := by unfold actM; first | (rw [b1_z c12]; rfl) | (rw [b1_z c21, Bool.and_false]; rfl)
    refine xj_null dX0_act_32 ?_
    refine xj_ast4 dX0_act_33 rfl rfl ?_
    refine xj_aload dX0_act_35 rfl rfl ?_
    refine xj_instN dX0_act_37 ?_
    refine xj_if_ne (tgt := 45) dX0_act_40 rfl (fun c40 => absurd rfl c40) (fun c40 => ?_)
    refine xj_ic0 dX0_act_43 ?_
    exact xj_ireturn dX0_act_44 rfl rfl ⟨by rw [act_n hno], fr0, by rw [act_nt hno]; exact tr0⟩
  · refine xj_iload_n dX0_act_15 rfl ?_
    refine xj_ic0 dX0_act_16 ?_
    refine xj_ic3 dX0_act_17 ?_
    refine xj_cS dX0_act_18 q585 kS_X0_isIn A_isIn rfl rfl (Nat.le_of_ble_eq_true rfl) ⟨(Nat.le_of_ble_eq_true rfl), (Nat.le_of_ble_eq_true rfl)⟩ (Nat.le_of_ble_eq_true rfl) (Nat.le_of_ble_eq_true rfl) ?_
    rw [show inC w 0 3 = inI w 4 from inC_inI (m := 4) (by decide)]
    refine xj_if_eq (tgt := 32) dX0_act_21 rfl (fun c21 => ?_) (fun c21 => ?_)
    · have hno : actM mk hl k w = none := by unfold actM; first | (rw [b1_z c12]; rfl) | (rw [b1_z c21, Bool.and_false]; rfl)
      refine xj_null dX0_act_32 ?_
      refine xj_ast4 dX0_act_33 rfl rfl ?_
      refine xj_aload dX0_act_35 rfl rfl ?_
      refine xj_instN dX0_act_37 ?_
      refine xj_if_ne (tgt := 45) dX0_act_40 rfl (fun c40 => absurd rfl c40) (fun c40 => ?_)
      refine xj_ic0 dX0_act_43 ?_
      exact xj_ireturn dX0_act_44 rfl rfl ⟨by rw [act_n hno], fr0, by rw [act_nt hno]; exact tr0⟩
    · have hb := b1_nz c12
      have hb2 := b1_nz c21
      obtain ⟨x0, hx, hx31, rfl⟩ := inI_t hb
      have tx : tn (nI x0) = x0 := nI_clamp hx31
      refine xj_aload_n dX0_act_24 rfl rfl ?_
      refine xj_iload_n dX0_act_25 rfl ?_
      refine xj_dV dX0_act_26 q1643 kV_X0_held (A_held hv1 hmk1 hHl1 hx) hO1 rfl rfl rfl rfl (Nat.le_of_ble_eq_true rfl) ⟨(Nat.le_of_ble_eq_true rfl), (Nat.le_of_ble_eq_true rfl)⟩ (Nat.le_of_ble_eq_true rfl) (Nat.le_of_ble_eq_true rfl) ?_
      rintro v0 _ ⟨rfl, hh⟩
      unfold heldV at hh
      cases ho : hvl mk (hl x0) with
      | none =>
        rw [ho] at hh
        subst hh
        have hno : actM mk hl (nI x0) w = none := act_no hb hb2 tx (by rw [ho]; intro y q; cases q)
        refine xj_goto (tgt := 33) dX0_act_29 rfl ?_
        refine xj_ast4 dX0_act_33 rfl rfl ?_
        refine xj_aload dX0_act_35 rfl rfl ?_
        refine xj_instN dX0_act_37 ?_
        refine xj_if_ne (tgt := 45) dX0_act_40 rfl (fun c40 => absurd rfl c40) (fun c40 => ?_)
        refine xj_ic0 dX0_act_43 ?_
        exact xj_ireturn dX0_act_44 rfl rfl ⟨by rw [act_n hno], fr0, by rw [act_nt hno]; exact tr0⟩
      | some p =>
        cases p with
        | inr q =>
          rw [ho] at hh
          obtain ⟨a, xs, rfl, a3, a4, a5, a6⟩ := hh
          have hno : actM mk hl (nI x0) w = none := act_no hb hb2 tx (by rw [ho]; intro y q; cases q)
          refine xj_goto (tgt := 33) dX0_act_29 rfl ?_
          refine xj_ast4 dX0_act_33 rfl rfl ?_
          refine xj_aload dX0_act_35 rfl rfl ?_
          refine xj_instNo dX0_act_37 q1685 a3 (xnm_sh a5) (nc_aJN a5) ?_
          refine xj_if_ne (tgt := 45) dX0_act_40 rfl (fun c40 => absurd rfl c40) (fun c40 => ?_)
          refine xj_ic0 dX0_act_43 ?_
          exact xj_ireturn dX0_act_44 rfl rfl ⟨by rw [act_n hno], fr0, by rw [act_nt hno]; exact tr0⟩
        | inl y =>
          rw [ho] at hh
          obtain ⟨hy, a, rfl, a1, a2⟩ := hh
          obtain ⟨hkd, hm16⟩ := mk_bd hmk hy
          have hy6 : mk.length ≤ 6 := by obtain ⟨-, ⟨K, M, -, -, q⟩, -⟩ := id hmk; exact q.2.2.1
          have hyes : actM mk hl (nI x0) w = some y := act_yes hb hb2 tx ho
          have hact : o_act mk hl (nI x0) w x = vA (mkAt mk y).1 y (mkAt mk y).2 w x := by unfold o_act; rw [hyes]
          have hactT : s_act mk hl (nI x0) w = tA (mkAt mk y).1 y (mkAt mk y).2 w := by unfold s_act; rw [hyes]
          have a2 : (G.set 32 (cO 4 [.ref 33, .int 0]))[a]? = some (cO (8 + (mkAt mk y).1) [.int (nI y), .int (nI (mkAt mk y).2)]) := a2
          generalize (mkAt mk y).1 = kd at *
          generalize (mkAt mk y).2 = mm at *
          refine xj_goto (tgt := 33) dX0_act_29 rfl ?_
          refine xj_ast4 dX0_act_33 rfl rfl ?_
          refine xj_aload dX0_act_35 rfl rfl ?_
          refine xj_instY dX0_act_37 q1685 a2 (xnm_k hkd) (cy_JN hkd) ?_
          refine xj_if_ne (tgt := 45) dX0_act_40 rfl (fun c40 => ?_) (fun c40 => absurd c40 (by decide))
          refine xj_aload dX0_act_45 rfl rfl ?_
          refine xj_castY dX0_act_47 q1685 a2 (xnm_k hkd) (cy_JN hkd) ?_
          refine xj_ast5 dX0_act_50 rfl rfl ?_
          refine xj_iload_n dX0_act_52 rfl ?_
          refine xj_tabs (tg := [80, 93, 106]) (tgt := 119) dX0_act_53 rfl rfl rfl ⟨fun c53 => ?_, fun c53 => ?_, fun c53 => ?_, trivial⟩ (fun c53 => ?_)
          · obtain rfl : w = 0 := act_w0 c53
            refine xj_aload dX0_act_80 rfl rfl ?_
            refine xj_iload_n dX0_act_82 rfl ?_
            refine xj_aload_n dX0_act_83 rfl rfl ?_
            refine xj_get dX0_act_84 K0 35 (by decide) q507 hO1 rfl ?_
            rcases k_cases hkd with rfl | rfl | rfl | rfl | rfl | rfl
            · refine xj_callGI dX0_act_87 ⟨qn61, rfl⟩ kG_Joins_turns_0 (A_X27_turns_0 x a2 a1 (by omega) hm16 tr0) a2 rfl rfl rfl (Nat.le_of_ble_eq_true rfl) ⟨(Nat.le_of_ble_eq_true rfl), (Nat.le_of_ble_eq_true rfl)⟩ (Nat.le_of_ble_eq_true rfl) (Nat.le_of_ble_eq_true rfl) (fun _ _ _ h => h.elim) (fun v_ G2 h => ?_)
              obtain ⟨rfl, g2, t2⟩ := h
              exact xj_ireturn dX0_act_92 rfl rfl ⟨by rw [hact, vA_0, vturns_0], fr0.trans g2, by rw [hactT, tA_0, tturns_0]; exact t2⟩
            · refine xj_callH dX0_act_87 ⟨qn61, rfl⟩ kG_Joins_turns_1 (A_X9_turns_1 x a2 a1 (by omega) hm16 tr0) a2 rfl rfl rfl (Nat.le_of_ble_eq_true rfl) ⟨(Nat.le_of_ble_eq_true rfl), (Nat.le_of_ble_eq_true rfl)⟩ (Nat.le_of_ble_eq_true rfl) (Nat.le_of_ble_eq_true rfl) (fun _ _ _ h => h.elim) (fun v_ G2 h => ?_)
              obtain ⟨rfl, g2, t2⟩ := h
              exact xj_ireturn dX0_act_92 rfl rfl ⟨by rw [hact, vA_0, vturns_1], fr0.trans g2, by rw [hactT, tA_0, tturns_1]; exact t2⟩
            · refine xj_callGI dX0_act_87 ⟨qn61, rfl⟩ kG_Joins_turns_2 (A_X27_turns_2 x a2 a1 (by omega) hm16 tr0) a2 rfl rfl rfl (Nat.le_of_ble_eq_true rfl) ⟨(Nat.le_of_ble_eq_true rfl), (Nat.le_of_ble_eq_true rfl)⟩ (Nat.le_of_ble_eq_true rfl) (Nat.le_of_ble_eq_true rfl) (fun _ _ _ h => h.elim) (fun v_ G2 h => ?_)
              obtain ⟨rfl, g2, t2⟩ := h
              exact xj_ireturn dX0_act_92 rfl rfl ⟨by rw [hact, vA_0, vturns_2], fr0.trans g2, by rw [hactT, tA_0, tturns_2]; exact t2⟩
            · refine xj_callH dX0_act_87 ⟨qn61, rfl⟩ kG_Joins_turns_3 (A_X11_turns_3 x a2 a1 (by omega) hm16 tr0) a2 rfl rfl rfl (Nat.le_of_ble_eq_true rfl) ⟨(Nat.le_of_ble_eq_true rfl), (Nat.le_of_ble_eq_true rfl)⟩ (Nat.le_of_ble_eq_true rfl) (Nat.le_of_ble_eq_true rfl) (fun _ _ _ h => h.elim) (fun v_ G2 h => ?_)
              obtain ⟨rfl, g2, t2⟩ := h
              exact xj_ireturn dX0_act_92 rfl rfl ⟨by rw [hact, vA_0, vturns_3], fr0.trans g2, by rw [hactT, tA_0, tturns_3]; exact t2⟩
            · refine xj_callH dX0_act_87 ⟨qn61, rfl⟩ kG_Joins_turns_4 (A_X9_turns_4 x a2 a1 (by omega) hm16 tr0) a2 rfl rfl rfl (Nat.le_of_ble_eq_true rfl) ⟨(Nat.le_of_ble_eq_true rfl), (Nat.le_of_ble_eq_true rfl)⟩ (Nat.le_of_ble_eq_true rfl) (Nat.le_of_ble_eq_true rfl) (fun _ _ _ h => h.elim) (fun v_ G2 h => ?_)
              obtain ⟨rfl, g2, t2⟩ := h
              exact xj_ireturn dX0_act_92 rfl rfl ⟨by rw [hact, vA_0, vturns_4], fr0.trans g2, by rw [hactT, tA_0, tturns_4]; exact t2⟩
            · refine xj_callGI dX0_act_87 ⟨qn61, rfl⟩ kG_Joins_turns_5 (A_X27_turns_5 x a2 a1 (by omega) hm16 tr0) a2 rfl rfl rfl (Nat.le_of_ble_eq_true rfl) ⟨(Nat.le_of_ble_eq_true rfl), (Nat.le_of_ble_eq_true rfl)⟩ (Nat.le_of_ble_eq_true rfl) (Nat.le_of_ble_eq_true rfl) (fun _ _ _ h => h.elim) (fun v_ G2 h => ?_)
              obtain ⟨rfl, g2, t2⟩ := h
              exact xj_ireturn dX0_act_92 rfl rfl ⟨by rw [hact, vA_0, vturns_5], fr0.trans g2, by rw [hactT, tA_0, tturns_5]; exact t2⟩
          · obtain rfl : w = 1 := act_w1 c53
            refine xj_aload dX0_act_93 rfl rfl ?_
            refine xj_iload_n dX0_act_95 rfl ?_
            refine xj_aload_n dX0_act_96 rfl rfl ?_
            refine xj_get dX0_act_97 K0 35 (by decide) q507 hO1 rfl ?_
            rcases k_cases hkd with rfl | rfl | rfl | rfl | rfl | rfl
            · refine xj_callGI dX0_act_100 ⟨qn63, rfl⟩ kG_Joins_bends_0 (A_X28_bends_0 x a2 a1 (by omega) hm16 tr0) a2 rfl rfl rfl (Nat.le_of_ble_eq_true rfl) ⟨(Nat.le_of_ble_eq_true rfl), (Nat.le_of_ble_eq_true rfl)⟩ (Nat.le_of_ble_eq_true rfl) (Nat.le_of_ble_eq_true rfl) (fun _ _ _ h => h.elim) (fun v_ G2 h => ?_)
              obtain ⟨rfl, g2, t2⟩ := h
              exact xj_ireturn dX0_act_105 rfl rfl ⟨by rw [hact, vA_1, vbends_0], fr0.trans g2, by rw [hactT, tA_1, tbends_0]; exact t2⟩
            · refine xj_callGI dX0_act_100 ⟨qn63, rfl⟩ kG_Joins_bends_1 (A_X28_bends_1 x a2 a1 (by omega) hm16 tr0) a2 rfl rfl rfl (Nat.le_of_ble_eq_true rfl) ⟨(Nat.le_of_ble_eq_true rfl), (Nat.le_of_ble_eq_true rfl)⟩ (Nat.le_of_ble_eq_true rfl) (Nat.le_of_ble_eq_true rfl) (fun _ _ _ h => h.elim) (fun v_ G2 h => ?_)
              obtain ⟨rfl, g2, t2⟩ := h
              exact xj_ireturn dX0_act_105 rfl rfl ⟨by rw [hact, vA_1, vbends_1], fr0.trans g2, by rw [hactT, tA_1, tbends_1]; exact t2⟩
            · refine xj_callH dX0_act_100 ⟨qn63, rfl⟩ kG_Joins_bends_2 (A_X10_bends_2 x a2 a1 (by omega) hm16 tr0) a2 rfl rfl rfl (Nat.le_of_ble_eq_true rfl) ⟨(Nat.le_of_ble_eq_true rfl), (Nat.le_of_ble_eq_true rfl)⟩ (Nat.le_of_ble_eq_true rfl) (Nat.le_of_ble_eq_true rfl) (fun _ _ _ h => h.elim) (fun v_ G2 h => ?_)
              obtain ⟨rfl, g2, t2⟩ := h
              exact xj_ireturn dX0_act_105 rfl rfl ⟨by rw [hact, vA_1, vbends_2], fr0.trans g2, by rw [hactT, tA_1, tbends_2]; exact t2⟩
            · refine xj_callGI dX0_act_100 ⟨qn63, rfl⟩ kG_Joins_bends_3 (A_X28_bends_3 x a2 a1 (by omega) hm16 tr0) a2 rfl rfl rfl (Nat.le_of_ble_eq_true rfl) ⟨(Nat.le_of_ble_eq_true rfl), (Nat.le_of_ble_eq_true rfl)⟩ (Nat.le_of_ble_eq_true rfl) (Nat.le_of_ble_eq_true rfl) (fun _ _ _ h => h.elim) (fun v_ G2 h => ?_)
              obtain ⟨rfl, g2, t2⟩ := h
              exact xj_ireturn dX0_act_105 rfl rfl ⟨by rw [hact, vA_1, vbends_3], fr0.trans g2, by rw [hactT, tA_1, tbends_3]; exact t2⟩
            · refine xj_callGI dX0_act_100 ⟨qn63, rfl⟩ kG_Joins_bends_4 (A_X28_bends_4 x a2 a1 (by omega) hm16 tr0) a2 rfl rfl rfl (Nat.le_of_ble_eq_true rfl) ⟨(Nat.le_of_ble_eq_true rfl), (Nat.le_of_ble_eq_true rfl)⟩ (Nat.le_of_ble_eq_true rfl) (Nat.le_of_ble_eq_true rfl) (fun _ _ _ h => h.elim) (fun v_ G2 h => ?_)
              obtain ⟨rfl, g2, t2⟩ := h
              exact xj_ireturn dX0_act_105 rfl rfl ⟨by rw [hact, vA_1, vbends_4], fr0.trans g2, by rw [hactT, tA_1, tbends_4]; exact t2⟩
            · refine xj_callH dX0_act_100 ⟨qn63, rfl⟩ kG_Joins_bends_5 (A_X10_bends_5 x a2 a1 (by omega) hm16 tr0) a2 rfl rfl rfl (Nat.le_of_ble_eq_true rfl) ⟨(Nat.le_of_ble_eq_true rfl), (Nat.le_of_ble_eq_true rfl)⟩ (Nat.le_of_ble_eq_true rfl) (Nat.le_of_ble_eq_true rfl) (fun _ _ _ h => h.elim) (fun v_ G2 h => ?_)
              obtain ⟨rfl, g2, t2⟩ := h
              exact xj_ireturn dX0_act_105 rfl rfl ⟨by rw [hact, vA_1, vbends_5], fr0.trans g2, by rw [hactT, tA_1, tbends_5]; exact t2⟩
          · obtain rfl : w = 2 := act_w2 c53
            refine xj_aload dX0_act_106 rfl rfl ?_
            refine xj_iload_n dX0_act_108 rfl ?_
            refine xj_aload_n dX0_act_109 rfl rfl ?_
            refine xj_get dX0_act_110 K0 35 (by decide) q507 hO1 rfl ?_
            rcases k_cases hkd with rfl | rfl | rfl | rfl | rfl | rfl
            · refine xj_callGI dX0_act_113 ⟨qn69, rfl⟩ kG_Joins_parts_0 (A_X29_parts_0 x a2 a1 (by omega) hm16 tr0) a2 rfl rfl rfl (Nat.le_of_ble_eq_true rfl) ⟨(Nat.le_of_ble_eq_true rfl), (Nat.le_of_ble_eq_true rfl)⟩ (Nat.le_of_ble_eq_true rfl) (Nat.le_of_ble_eq_true rfl) (fun En w_ G2 h => ?_) (fun v_ G2 h => ?_)
              · obtain ⟨hz, hq, g2, t2⟩ := h
                cases hq
                refine xjT_catchV [(52, 92, 132, 741), (93, 105, 132, 741)] (106, 118, 132, 741) [(119, 131, 132, 741)] rfl (fun z hz => by
                  rcases List.mem_cons.mp hz with rfl | hz
                  · exact Or.inl rfl
                  rcases List.mem_cons.mp hz with rfl | hz
                  · exact Or.inl rfl
                  cases hz) rfl (by decide) q1671 (Or.inl rfl) dX0_act_132 (Nat.le_of_ble_eq_true rfl) rfl ?_
                refine xj_bipush (v := -15) dX0_act_134 rfl ?_
                exact xj_ireturn dX0_act_136 rfl rfl ⟨by rw [hact, vA_z2 hz], fr0.trans g2, by rw [hactT, tA_2, tparts_0]; exact t2⟩
              obtain ⟨hz, rfl, g2, t2⟩ := h
              exact xj_ireturn dX0_act_118 rfl rfl ⟨by rw [hact, vA_2 hz, vparts_0], fr0.trans g2, by rw [hactT, tA_2, tparts_0]; exact t2⟩
            · refine xj_callGI dX0_act_113 ⟨qn69, rfl⟩ kG_Joins_parts_1 (A_X29_parts_1 x a2 a1 (by omega) hm16 tr0) a2 rfl rfl rfl (Nat.le_of_ble_eq_true rfl) ⟨(Nat.le_of_ble_eq_true rfl), (Nat.le_of_ble_eq_true rfl)⟩ (Nat.le_of_ble_eq_true rfl) (Nat.le_of_ble_eq_true rfl) (fun En w_ G2 h => ?_) (fun v_ G2 h => ?_)
              · obtain ⟨hz, hq, g2, t2⟩ := h
                cases hq
                refine xjT_catchV [(52, 92, 132, 741), (93, 105, 132, 741)] (106, 118, 132, 741) [(119, 131, 132, 741)] rfl (fun z hz => by
                  rcases List.mem_cons.mp hz with rfl | hz
                  · exact Or.inl rfl
                  rcases List.mem_cons.mp hz with rfl | hz
                  · exact Or.inl rfl
                  cases hz) rfl (by decide) q1671 (Or.inl rfl) dX0_act_132 (Nat.le_of_ble_eq_true rfl) rfl ?_
                refine xj_bipush (v := -15) dX0_act_134 rfl ?_
                exact xj_ireturn dX0_act_136 rfl rfl ⟨by rw [hact, vA_z2 hz], fr0.trans g2, by rw [hactT, tA_2, tparts_1]; exact t2⟩
              obtain ⟨hz, rfl, g2, t2⟩ := h
              exact xj_ireturn dX0_act_118 rfl rfl ⟨by rw [hact, vA_2 hz, vparts_1], fr0.trans g2, by rw [hactT, tA_2, tparts_1]; exact t2⟩
            · refine xj_callH dX0_act_113 ⟨qn69, rfl⟩ kG_Joins_parts_2 (A_X10_parts_2 x a2 a1 (by omega) hm16 tr0) a2 rfl rfl rfl (Nat.le_of_ble_eq_true rfl) ⟨(Nat.le_of_ble_eq_true rfl), (Nat.le_of_ble_eq_true rfl)⟩ (Nat.le_of_ble_eq_true rfl) (Nat.le_of_ble_eq_true rfl) (fun En w_ G2 h => ?_) (fun v_ G2 h => ?_)
              · obtain ⟨hz, hq, g2, t2⟩ := h
                cases hq
                refine xjT_catchV [(52, 92, 132, 741), (93, 105, 132, 741)] (106, 118, 132, 741) [(119, 131, 132, 741)] rfl (fun z hz => by
                  rcases List.mem_cons.mp hz with rfl | hz
                  · exact Or.inl rfl
                  rcases List.mem_cons.mp hz with rfl | hz
                  · exact Or.inl rfl
                  cases hz) rfl (by decide) q1671 (Or.inl rfl) dX0_act_132 (Nat.le_of_ble_eq_true rfl) rfl ?_
                refine xj_bipush (v := -15) dX0_act_134 rfl ?_
                exact xj_ireturn dX0_act_136 rfl rfl ⟨by rw [hact, vA_z2 hz], fr0.trans g2, by rw [hactT, tA_2, tparts_2]; exact t2⟩
              obtain ⟨hz, rfl, g2, t2⟩ := h
              exact xj_ireturn dX0_act_118 rfl rfl ⟨by rw [hact, vA_2 hz, vparts_2], fr0.trans g2, by rw [hactT, tA_2, tparts_2]; exact t2⟩
            · refine xj_callGI dX0_act_113 ⟨qn69, rfl⟩ kG_Joins_parts_3 (A_X29_parts_3 x a2 a1 (by omega) hm16 tr0) a2 rfl rfl rfl (Nat.le_of_ble_eq_true rfl) ⟨(Nat.le_of_ble_eq_true rfl), (Nat.le_of_ble_eq_true rfl)⟩ (Nat.le_of_ble_eq_true rfl) (Nat.le_of_ble_eq_true rfl) (fun En w_ G2 h => ?_) (fun v_ G2 h => ?_)
              · obtain ⟨hz, hq, g2, t2⟩ := h
                cases hq
                refine xjT_catchV [(52, 92, 132, 741), (93, 105, 132, 741)] (106, 118, 132, 741) [(119, 131, 132, 741)] rfl (fun z hz => by
                  rcases List.mem_cons.mp hz with rfl | hz
                  · exact Or.inl rfl
                  rcases List.mem_cons.mp hz with rfl | hz
                  · exact Or.inl rfl
                  cases hz) rfl (by decide) q1671 (Or.inl rfl) dX0_act_132 (Nat.le_of_ble_eq_true rfl) rfl ?_
                refine xj_bipush (v := -15) dX0_act_134 rfl ?_
                exact xj_ireturn dX0_act_136 rfl rfl ⟨by rw [hact, vA_z2 hz], fr0.trans g2, by rw [hactT, tA_2, tparts_3]; exact t2⟩
              obtain ⟨hz, rfl, g2, t2⟩ := h
              exact xj_ireturn dX0_act_118 rfl rfl ⟨by rw [hact, vA_2 hz, vparts_3], fr0.trans g2, by rw [hactT, tA_2, tparts_3]; exact t2⟩
            · refine xj_callGI dX0_act_113 ⟨qn69, rfl⟩ kG_Joins_parts_4 (A_X29_parts_4 x a2 a1 (by omega) hm16 tr0) a2 rfl rfl rfl (Nat.le_of_ble_eq_true rfl) ⟨(Nat.le_of_ble_eq_true rfl), (Nat.le_of_ble_eq_true rfl)⟩ (Nat.le_of_ble_eq_true rfl) (Nat.le_of_ble_eq_true rfl) (fun En w_ G2 h => ?_) (fun v_ G2 h => ?_)
              · obtain ⟨hz, hq, g2, t2⟩ := h
                cases hq
                refine xjT_catchV [(52, 92, 132, 741), (93, 105, 132, 741)] (106, 118, 132, 741) [(119, 131, 132, 741)] rfl (fun z hz => by
                  rcases List.mem_cons.mp hz with rfl | hz
                  · exact Or.inl rfl
                  rcases List.mem_cons.mp hz with rfl | hz
                  · exact Or.inl rfl
                  cases hz) rfl (by decide) q1671 (Or.inl rfl) dX0_act_132 (Nat.le_of_ble_eq_true rfl) rfl ?_
                refine xj_bipush (v := -15) dX0_act_134 rfl ?_
                exact xj_ireturn dX0_act_136 rfl rfl ⟨by rw [hact, vA_z2 hz], fr0.trans g2, by rw [hactT, tA_2, tparts_4]; exact t2⟩
              obtain ⟨hz, rfl, g2, t2⟩ := h
              exact xj_ireturn dX0_act_118 rfl rfl ⟨by rw [hact, vA_2 hz, vparts_4], fr0.trans g2, by rw [hactT, tA_2, tparts_4]; exact t2⟩
            · refine xj_callH dX0_act_113 ⟨qn69, rfl⟩ kG_Joins_parts_5 (A_X13_parts_5 x a2 a1 (by omega) hm16 tr0) a2 rfl rfl rfl (Nat.le_of_ble_eq_true rfl) ⟨(Nat.le_of_ble_eq_true rfl), (Nat.le_of_ble_eq_true rfl)⟩ (Nat.le_of_ble_eq_true rfl) (Nat.le_of_ble_eq_true rfl) (fun En w_ G2 h => ?_) (fun v_ G2 h => ?_)
              · obtain ⟨hz, hq, g2, t2⟩ := h
                cases hq
                refine xjT_catchV [(52, 92, 132, 741), (93, 105, 132, 741)] (106, 118, 132, 741) [(119, 131, 132, 741)] rfl (fun z hz => by
                  rcases List.mem_cons.mp hz with rfl | hz
                  · exact Or.inl rfl
                  rcases List.mem_cons.mp hz with rfl | hz
                  · exact Or.inl rfl
                  cases hz) rfl (by decide) q1671 (Or.inl rfl) dX0_act_132 (Nat.le_of_ble_eq_true rfl) rfl ?_
                refine xj_bipush (v := -15) dX0_act_134 rfl ?_
                exact xj_ireturn dX0_act_136 rfl rfl ⟨by rw [hact, vA_z2 hz], fr0.trans g2, by rw [hactT, tA_2, tparts_5]; exact t2⟩
              obtain ⟨hz, rfl, g2, t2⟩ := h
              exact xj_ireturn dX0_act_118 rfl rfl ⟨by rw [hact, vA_2 hz, vparts_5], fr0.trans g2, by rw [hactT, tA_2, tparts_5]; exact t2⟩
          · obtain rfl : w = 3 := act_w3 hb2 c53
            refine xj_aload dX0_act_119 rfl rfl ?_
            refine xj_iload_n dX0_act_121 rfl ?_
            refine xj_aload_n dX0_act_122 rfl rfl ?_
            refine xj_get dX0_act_123 K0 35 (by decide) q507 hO1 rfl ?_
            rcases k_cases hkd with rfl | rfl | rfl | rfl | rfl | rfl
            · refine xj_callGI dX0_act_126 ⟨qt1821, rfl⟩ kG_Joins_joins_0 (A_X30_joins_0 x a2 a1 (by omega) hm16 tr0) a2 rfl rfl rfl (Nat.le_of_ble_eq_true rfl) ⟨(Nat.le_of_ble_eq_true rfl), (Nat.le_of_ble_eq_true rfl)⟩ (Nat.le_of_ble_eq_true rfl) (Nat.le_of_ble_eq_true rfl) (fun En w_ G2 h => ?_) (fun v_ G2 h => ?_)
              · obtain ⟨hz, hq, g2, t2⟩ := h
                cases hq
                refine xjT_catchV [(52, 92, 132, 741), (93, 105, 132, 741), (106, 118, 132, 741)] (119, 131, 132, 741) [] rfl (fun z hz => by
                  rcases List.mem_cons.mp hz with rfl | hz
                  · exact Or.inl rfl
                  rcases List.mem_cons.mp hz with rfl | hz
                  · exact Or.inl rfl
                  rcases List.mem_cons.mp hz with rfl | hz
                  · exact Or.inl rfl
                  cases hz) rfl (by decide) q1671 (Or.inl rfl) dX0_act_132 (Nat.le_of_ble_eq_true rfl) rfl ?_
                refine xj_bipush (v := -15) dX0_act_134 rfl ?_
                exact xj_ireturn dX0_act_136 rfl rfl ⟨by rw [hact, vA_z3 hz], fr0.trans g2, by rw [hactT, tA_3, tjoins_0]; exact t2⟩
              obtain ⟨hz, rfl, g2, t2⟩ := h
              exact xj_ireturn dX0_act_131 rfl rfl ⟨by rw [hact, vA_3 hz, vjoins_0], fr0.trans g2, by rw [hactT, tA_3, tjoins_0]; exact t2⟩
            · refine xj_callGI dX0_act_126 ⟨qt1821, rfl⟩ kG_Joins_joins_1 (A_X30_joins_1 x a2 a1 (by omega) hm16 tr0) a2 rfl rfl rfl (Nat.le_of_ble_eq_true rfl) ⟨(Nat.le_of_ble_eq_true rfl), (Nat.le_of_ble_eq_true rfl)⟩ (Nat.le_of_ble_eq_true rfl) (Nat.le_of_ble_eq_true rfl) (fun En w_ G2 h => ?_) (fun v_ G2 h => ?_)
              · obtain ⟨hz, hq, g2, t2⟩ := h
                cases hq
                refine xjT_catchV [(52, 92, 132, 741), (93, 105, 132, 741), (106, 118, 132, 741)] (119, 131, 132, 741) [] rfl (fun z hz => by
                  rcases List.mem_cons.mp hz with rfl | hz
                  · exact Or.inl rfl
                  rcases List.mem_cons.mp hz with rfl | hz
                  · exact Or.inl rfl
                  rcases List.mem_cons.mp hz with rfl | hz
                  · exact Or.inl rfl
                  cases hz) rfl (by decide) q1671 (Or.inl rfl) dX0_act_132 (Nat.le_of_ble_eq_true rfl) rfl ?_
                refine xj_bipush (v := -15) dX0_act_134 rfl ?_
                exact xj_ireturn dX0_act_136 rfl rfl ⟨by rw [hact, vA_z3 hz], fr0.trans g2, by rw [hactT, tA_3, tjoins_1]; exact t2⟩
              obtain ⟨hz, rfl, g2, t2⟩ := h
              exact xj_ireturn dX0_act_131 rfl rfl ⟨by rw [hact, vA_3 hz, vjoins_1], fr0.trans g2, by rw [hactT, tA_3, tjoins_1]; exact t2⟩
            · refine xj_callGI dX0_act_126 ⟨qt1821, rfl⟩ kG_Joins_joins_2 (A_X30_joins_2 x a2 a1 (by omega) hm16 tr0) a2 rfl rfl rfl (Nat.le_of_ble_eq_true rfl) ⟨(Nat.le_of_ble_eq_true rfl), (Nat.le_of_ble_eq_true rfl)⟩ (Nat.le_of_ble_eq_true rfl) (Nat.le_of_ble_eq_true rfl) (fun En w_ G2 h => ?_) (fun v_ G2 h => ?_)
              · obtain ⟨hz, hq, g2, t2⟩ := h
                cases hq
                refine xjT_catchV [(52, 92, 132, 741), (93, 105, 132, 741), (106, 118, 132, 741)] (119, 131, 132, 741) [] rfl (fun z hz => by
                  rcases List.mem_cons.mp hz with rfl | hz
                  · exact Or.inl rfl
                  rcases List.mem_cons.mp hz with rfl | hz
                  · exact Or.inl rfl
                  rcases List.mem_cons.mp hz with rfl | hz
                  · exact Or.inl rfl
                  cases hz) rfl (by decide) q1671 (Or.inl rfl) dX0_act_132 (Nat.le_of_ble_eq_true rfl) rfl ?_
                refine xj_bipush (v := -15) dX0_act_134 rfl ?_
                exact xj_ireturn dX0_act_136 rfl rfl ⟨by rw [hact, vA_z3 hz], fr0.trans g2, by rw [hactT, tA_3, tjoins_2]; exact t2⟩
              obtain ⟨hz, rfl, g2, t2⟩ := h
              exact xj_ireturn dX0_act_131 rfl rfl ⟨by rw [hact, vA_3 hz, vjoins_2], fr0.trans g2, by rw [hactT, tA_3, tjoins_2]; exact t2⟩
            · refine xj_callGI dX0_act_126 ⟨qt1821, rfl⟩ kG_Joins_joins_3 (A_X30_joins_3 x a2 a1 (by omega) hm16 tr0) a2 rfl rfl rfl (Nat.le_of_ble_eq_true rfl) ⟨(Nat.le_of_ble_eq_true rfl), (Nat.le_of_ble_eq_true rfl)⟩ (Nat.le_of_ble_eq_true rfl) (Nat.le_of_ble_eq_true rfl) (fun En w_ G2 h => ?_) (fun v_ G2 h => ?_)
              · obtain ⟨hz, hq, g2, t2⟩ := h
                cases hq
                refine xjT_catchV [(52, 92, 132, 741), (93, 105, 132, 741), (106, 118, 132, 741)] (119, 131, 132, 741) [] rfl (fun z hz => by
                  rcases List.mem_cons.mp hz with rfl | hz
                  · exact Or.inl rfl
                  rcases List.mem_cons.mp hz with rfl | hz
                  · exact Or.inl rfl
                  rcases List.mem_cons.mp hz with rfl | hz
                  · exact Or.inl rfl
                  cases hz) rfl (by decide) q1671 (Or.inl rfl) dX0_act_132 (Nat.le_of_ble_eq_true rfl) rfl ?_
                refine xj_bipush (v := -15) dX0_act_134 rfl ?_
                exact xj_ireturn dX0_act_136 rfl rfl ⟨by rw [hact, vA_z3 hz], fr0.trans g2, by rw [hactT, tA_3, tjoins_3]; exact t2⟩
              obtain ⟨hz, rfl, g2, t2⟩ := h
              exact xj_ireturn dX0_act_131 rfl rfl ⟨by rw [hact, vA_3 hz, vjoins_3], fr0.trans g2, by rw [hactT, tA_3, tjoins_3]; exact t2⟩
            · refine xj_callH dX0_act_126 ⟨qt1821, rfl⟩ kG_Joins_joins_4 (A_X12_joins_4 x a2 a1 (by omega) hm16 tr0) a2 rfl rfl rfl (Nat.le_of_ble_eq_true rfl) ⟨(Nat.le_of_ble_eq_true rfl), (Nat.le_of_ble_eq_true rfl)⟩ (Nat.le_of_ble_eq_true rfl) (Nat.le_of_ble_eq_true rfl) (fun En w_ G2 h => ?_) (fun v_ G2 h => ?_)
              · obtain ⟨hz, hq, g2, t2⟩ := h
                cases hq
                refine xjT_catchV [(52, 92, 132, 741), (93, 105, 132, 741), (106, 118, 132, 741)] (119, 131, 132, 741) [] rfl (fun z hz => by
                  rcases List.mem_cons.mp hz with rfl | hz
                  · exact Or.inl rfl
                  rcases List.mem_cons.mp hz with rfl | hz
                  · exact Or.inl rfl
                  rcases List.mem_cons.mp hz with rfl | hz
                  · exact Or.inl rfl
                  cases hz) rfl (by decide) q1671 (Or.inl rfl) dX0_act_132 (Nat.le_of_ble_eq_true rfl) rfl ?_
                refine xj_bipush (v := -15) dX0_act_134 rfl ?_
                exact xj_ireturn dX0_act_136 rfl rfl ⟨by rw [hact, vA_z3 hz], fr0.trans g2, by rw [hactT, tA_3, tjoins_4]; exact t2⟩
              obtain ⟨hz, rfl, g2, t2⟩ := h
              exact xj_ireturn dX0_act_131 rfl rfl ⟨by rw [hact, vA_3 hz, vjoins_4], fr0.trans g2, by rw [hactT, tA_3, tjoins_4]; exact t2⟩
            · refine xj_callH dX0_act_126 ⟨qt1821, rfl⟩ kG_Joins_joins_5 (A_X13_joins_5 x a2 a1 (by omega) hm16 tr0) a2 rfl rfl rfl (Nat.le_of_ble_eq_true rfl) ⟨(Nat.le_of_ble_eq_true rfl), (Nat.le_of_ble_eq_true rfl)⟩ (Nat.le_of_ble_eq_true rfl) (Nat.le_of_ble_eq_true rfl) (fun En w_ G2 h => ?_) (fun v_ G2 h => ?_)
              · obtain ⟨hz, hq, g2, t2⟩ := h
                cases hq
                refine xjT_catchV [(52, 92, 132, 741), (93, 105, 132, 741), (106, 118, 132, 741)] (119, 131, 132, 741) [] rfl (fun z hz => by
                  rcases List.mem_cons.mp hz with rfl | hz
                  · exact Or.inl rfl
                  rcases List.mem_cons.mp hz with rfl | hz
                  · exact Or.inl rfl
                  rcases List.mem_cons.mp hz with rfl | hz
                  · exact Or.inl rfl
                  cases hz) rfl (by decide) q1671 (Or.inl rfl) dX0_act_132 (Nat.le_of_ble_eq_true rfl) rfl ?_
                refine xj_bipush (v := -15) dX0_act_134 rfl ?_
                exact xj_ireturn dX0_act_136 rfl rfl ⟨by rw [hact, vA_z3 hz], fr0.trans g2, by rw [hactT, tA_3, tjoins_5]; exact t2⟩
              obtain ⟨hz, rfl, g2, t2⟩ := h
              exact xj_ireturn dX0_act_131 rfl rfl ⟨by rw [hact, vA_3 hz, vjoins_5], fr0.trans g2, by rw [hactT, tA_3, tjoins_5]; exact t2⟩

end A40
