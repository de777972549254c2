/-! ===== the class: sheets written and read ===== -/
set_option maxRecDepth 100000
theorem kV_X0_itemOf : xsV yX0_itemOf cX0_itemOf 4 (some FieldType.int) 3 := ⟨q1592, qs73, q151, q1593, by decide, by decide, by decide +kernel⟩
theorem kS_X0_length : xsS yX0_length cX0_length 1 (some FieldType.int) 1 := ⟨q1554, q151, q1555, by decide, by decide, by decide +kernel⟩
theorem kS_X0_manyOf : xsS yX0_manyOf cX0_manyOf 2 (some FieldType.int) 2 := ⟨q1595, q151, q1596, by decide, by decide, by decide +kernel⟩
theorem kV_X0_must : xsV yX0_must cX0_must 3 none 2 := ⟨q1474, qs66, q151, q1475, by decide, by decide, by decide +kernel⟩
theorem kS_X0_set : xsS yX0_set cX0_set 4 none 3 := ⟨q1559, q151, q1560, by decide, by decide, by decide +kernel⟩
theorem shC_set0 {G : xH} {a i : Nat} {xs : List Int64} {v : Int64} : G.set a (cI 1 ((xs.map Int64.toInt32).set i v.toInt32.toInt8.toInt32)) = G.set a (shC 0 (xs.set i (nrw (nI 0) v))) := by
  rw [show shC 0 (xs.set i (nrw (nI 0) v)) = cI 1 ((xs.set i v.toInt32.toInt8.toInt32.toInt64).map Int64.toInt32) from rfl, List.map_set, i64_32]
theorem shC_set1 {G : xH} {a i : Nat} {xs : List Int64} {v : Int64} : G.set a (cI 3 ((xs.map Int64.toInt32).set i v.toInt32.toInt16.toInt32)) = G.set a (shC 1 (xs.set i (nrw (nI 1) v))) := by
  rw [show shC 1 (xs.set i (nrw (nI 1) v)) = cI 3 ((xs.set i v.toInt32.toInt16.toInt32.toInt64).map Int64.toInt32) from rfl, List.map_set, i64_32]
theorem shC_set2 {G : xH} {a i : Nat} {xs : List Int64} {v : Int64} : G.set a (cI 0 ((xs.map Int64.toInt32).set i v.toInt32)) = G.set a (shC 2 (xs.set i (nrw (nI 2) v))) := by
  rw [show shC 2 (xs.set i (nrw (nI 2) v)) = cI 0 ((xs.set i v.toInt32.toInt64).map Int64.toInt32) from rfl, List.map_set, i64_32]
theorem shC_set3 {G : xH} {a i : Nat} {xs : List Int64} {v : Int64} : G.set a (cL 4 (xs.set i v)) = G.set a (shC 3 (xs.set i (nrw (nI 3) v))) := rfl
theorem sh_at {xs : List Int64} {j : Nat} (h : j < xs.length) : (xs.map Int64.toInt32)[j]? = some (xs.getD j 0).toInt32 := by
  rw [List.getElem?_map, List.getD_eq_getElem?_getD, List.getElem?_eq_getElem h]; rfl
theorem sh_at3 {xs : List Int64} {j : Nat} (h : j < xs.length) : xs[j]? = some (xs.getD j 0) := by
  rw [List.getD_eq_getElem?_getD, List.getElem?_eq_getElem h]; rfl
theorem nc_sh {t s : Nat} (ht : t < 4) (hs : s < 4) (h : t ≠ s) : xnc (snm t) (snm s) ∧ xcp (snm t) (snm s) = true := by
  rcases sh_cases ht with rfl | rfl | rfl | rfl <;> rcases sh_cases hs with rfl | rfl | rfl | rfl <;> first | exact absurd rfl h | skip
  · exact ⟨nc_B_S, by decide +kernel⟩
  · exact ⟨nc_B_I, by decide +kernel⟩
  · exact ⟨nc_B_J, by decide +kernel⟩
  · exact ⟨nc_S_B, by decide +kernel⟩
  · exact ⟨nc_S_I, by decide +kernel⟩
  · exact ⟨nc_S_J, by decide +kernel⟩
  · exact ⟨nc_I_B, by decide +kernel⟩
  · exact ⟨nc_I_S, by decide +kernel⟩
  · exact ⟨nc_I_J, by decide +kernel⟩
  · exact ⟨nc_J_B, by decide +kernel⟩
  · exact ⟨nc_J_S, by decide +kernel⟩
  · exact ⟨nc_J_I, by decide +kernel⟩
section OPS
variable {sh : Nat → Option (Nat × List Int64)} {x : Nat} {i s : Int32} {v : Int64} {q : Nat × List Int64}
theorem op_n (hb : inI (nI x) 4 = true) (tx : tn (nI x) = x) (hq : sh x = none) : o_put sh (nI x) i = -11 := by unfold o_put; rw [hb, tx, hq, if_pos rfl]
theorem op_y (hb : inI (nI x) 4 = true) (tx : tn (nI x) = x) (hq : sh x = some q) (hi : inI i q.2.length = true) : o_put sh (nI x) i = 1 := by unfold o_put; rw [hb, tx, hq, if_pos rfl]; exact if_pos hi
theorem op_o (hb : inI (nI x) 4 = true) (tx : tn (nI x) = x) (hq : sh x = some q) (hi : inI i q.2.length = false) : o_put sh (nI x) i = -12 := by unfold o_put; rw [hb, tx, hq, if_pos rfl]; exact if_neg (fun h => by rw [hi] at h; cases h)
theorem sp_n (hb : inI (nI x) 4 = true) (tx : tn (nI x) = x) (hq : sh x = none) : s_put sh (nI x) i v = sh := by unfold s_put; rw [hb, tx, hq, if_pos rfl]
theorem sp_y (hb : inI (nI x) 4 = true) (tx : tn (nI x) = x) (hq : sh x = some q) (hi : inI i q.2.length = true) : s_put sh (nI x) i v = shU sh x (some (q.1, q.2.set (tn i) (nrw (nI q.1) v))) := by unfold s_put; rw [hb, tx, hq, if_pos rfl]; exact if_pos hi
theorem sp_o (hb : inI (nI x) 4 = true) (tx : tn (nI x) = x) (hq : sh x = some q) (hi : inI i q.2.length = false) : s_put sh (nI x) i v = sh := by unfold s_put; rw [hb, tx, hq, if_pos rfl]; exact if_neg (fun h => by rw [hi] at h; cases h)
theorem oi_n (hb : inI (nI x) 4 = true) (hb2 : inI s 4 = true) (tx : tn (nI x) = x) (hq : sh x = none) : o_item sh (nI x) s i = -11 := by unfold o_item; rw [hb, hb2, tx, hq, Bool.and_self, if_pos rfl]
theorem oi_x (hb : inI (nI x) 4 = true) (hb2 : inI s 4 = true) (tx : tn (nI x) = x) (hq : sh x = some q) (h : ¬ nI q.1 = s) : o_item sh (nI x) s i = -13 := by unfold o_item; rw [hb, hb2, tx, hq, Bool.and_self, if_pos rfl]; exact if_neg h
theorem oi_o (hb : inI (nI x) 4 = true) (hb2 : inI (nI q.1) 4 = true) (tx : tn (nI x) = x) (hq : sh x = some q) (hi : inI i q.2.length = false) : o_item sh (nI x) (nI q.1) i = -12 := by unfold o_item; rw [hb, hb2, tx, hq, Bool.and_self, if_pos rfl]; exact (if_pos rfl).trans (if_neg (fun h => by rw [hi] at h; cases h))
theorem oi_y (hb : inI (nI x) 4 = true) (hb2 : inI (nI q.1) 4 = true) (tx : tn (nI x) = x) (hq : sh x = some q) (hi : inI i q.2.length = true) : o_item sh (nI x) (nI q.1) i = (q.2.getD (tn i) 0).toInt32 := by unfold o_item; rw [hb, hb2, tx, hq, Bool.and_self, if_pos rfl]; exact (if_pos rfl).trans (if_pos hi)
end OPS
section A37
variable {E : xE} {G : xH} {d e : Nat → Value} {n : Nat}
theorem A_length {t a : Nat} {xs : List Int64}  (ht : t < 4) (hC : G[a]? = some (shC t xs)) : xMet E yX0_length cX0_length 1 (some FieldType.int) 0 0 0 [.ref a] G (xrv (some (.int (nI xs.length))) G) := by
  refine xMet.of (lv := [some (.ref a)]) rfl rfl (Nat.le_of_ble_eq_true rfl) ?_
  rcases sh_cases ht with rfl | rfl | rfl | rfl
  · have hC : G[a]? = some (cI 1 (xs.map Int64.toInt32)) := hC
    refine xj_aload_n dX0_length_0 rfl rfl ?_
    refine xj_instE dX0_length_1 q348 hC xnm_I1 ?_
    refine xj_if_eq (tgt := 13) dX0_length_4 rfl (fun c4 => absurd c4 (by decide)) (fun c4 => ?_)
    refine xj_aload_n dX0_length_7 rfl rfl ?_
    refine xj_castE dX0_length_8 q348 hC xnm_I1 ?_
    refine xj_alenI dX0_length_11 hC rfl ?_
    exact xj_ireturn dX0_length_12 rfl rfl (xrv_i (by rw [List.length_map]))
  · have hC : G[a]? = some (cI 3 (xs.map Int64.toInt32)) := hC
    refine xj_aload_n dX0_length_0 rfl rfl ?_
    refine xj_instNo dX0_length_1 q348 hC xnm_I3 nc_S_B ?_
    refine xj_if_eq (tgt := 13) dX0_length_4 rfl (fun c4 => ?_) (fun c4 => absurd rfl c4)
    refine xj_aload_n dX0_length_13 rfl rfl ?_
    refine xj_instE dX0_length_14 q1556 hC xnm_I3 ?_
    refine xj_if_eq (tgt := 26) dX0_length_17 rfl (fun c17 => absurd c17 (by decide)) (fun c17 => ?_)
    refine xj_aload_n dX0_length_20 rfl rfl ?_
    refine xj_castE dX0_length_21 q1556 hC xnm_I3 ?_
    refine xj_alenI dX0_length_24 hC rfl ?_
    exact xj_ireturn dX0_length_25 rfl rfl (xrv_i (by rw [List.length_map]))
  · have hC : G[a]? = some (cI 0 (xs.map Int64.toInt32)) := hC
    refine xj_aload_n dX0_length_0 rfl rfl ?_
    refine xj_instNo dX0_length_1 q348 hC xnm_I0 nc_I_B ?_
    refine xj_if_eq (tgt := 13) dX0_length_4 rfl (fun c4 => ?_) (fun c4 => absurd rfl c4)
    refine xj_aload_n dX0_length_13 rfl rfl ?_
    refine xj_instNo dX0_length_14 q1556 hC xnm_I0 nc_I_S ?_
    refine xj_if_eq (tgt := 26) dX0_length_17 rfl (fun c17 => ?_) (fun c17 => absurd rfl c17)
    refine xj_aload_n dX0_length_26 rfl rfl ?_
    refine xj_instE dX0_length_27 q1471 hC xnm_I0 ?_
    refine xj_if_eq (tgt := 41) dX0_length_30 rfl (fun c30 => absurd c30 (by decide)) (fun c30 => ?_)
    refine xj_aload_n dX0_length_33 rfl rfl ?_
    refine xj_castE dX0_length_34 q1471 hC xnm_I0 ?_
    refine xj_alenI dX0_length_37 hC rfl ?_
    refine xj_goto (tgt := 46) dX0_length_38 rfl ?_
    exact xj_ireturn dX0_length_46 rfl rfl (xrv_i (by rw [List.length_map]))
  · have hC : G[a]? = some (cL 4 xs) := hC
    refine xj_aload_n dX0_length_0 rfl rfl ?_
    refine xj_instNo dX0_length_1 q348 hC xnm_L nc_J_B ?_
    refine xj_if_eq (tgt := 13) dX0_length_4 rfl (fun c4 => ?_) (fun c4 => absurd rfl c4)
    refine xj_aload_n dX0_length_13 rfl rfl ?_
    refine xj_instNo dX0_length_14 q1556 hC xnm_L nc_J_S ?_
    refine xj_if_eq (tgt := 26) dX0_length_17 rfl (fun c17 => ?_) (fun c17 => absurd rfl c17)
    refine xj_aload_n dX0_length_26 rfl rfl ?_
    refine xj_instNo dX0_length_27 q1471 hC xnm_L nc_J_I ?_
    refine xj_if_eq (tgt := 41) dX0_length_30 rfl (fun c30 => ?_) (fun c30 => absurd rfl c30)
    refine xj_aload_n dX0_length_41 rfl rfl ?_
    refine xj_castE dX0_length_42 q1557 hC xnm_L ?_
    refine xj_alenL dX0_length_45 hC rfl ?_
    exact xj_ireturn dX0_length_46 rfl rfl (xrv_i rfl)
theorem A_set {t a : Nat} {xs : List Int64} {i : Nat} {v : Int64}  (ht : t < 4) (hC : G[a]? = some (shC t xs)) (hi : i < xs.length) (hi31 : xs.length ≤ 40) : xMet E yX0_set cX0_set 4 none 0 0 0 [.ref a, .int (nI i), .long v] G (xrv none (G.set a (shC t (xs.set i (nrw (nI t) v))))) := by
  refine xMet.of (lv := [some (.ref a), some (.int (nI i)), some (.long v), none]) rfl rfl (Nat.le_of_ble_eq_true rfl) ?_
  rcases sh_cases ht with rfl | rfl | rfl | rfl
  · have hC : G[a]? = some (cI 1 (xs.map Int64.toInt32)) := hC
    refine xj_aload_n dX0_set_0 rfl rfl ?_
    refine xj_instE dX0_set_1 q348 hC xnm_I1 ?_
    refine xj_if_eq (tgt := 19) dX0_set_4 rfl (fun c4 => absurd c4 (by decide)) (fun c4 => ?_)
    refine xj_aload_n dX0_set_7 rfl rfl ?_
    refine xj_castE dX0_set_8 q348 hC xnm_I1 ?_
    refine xj_iload_n dX0_set_11 rfl ?_
    refine xj_lload_n dX0_set_12 rfl ?_
    refine xj_l2i dX0_set_13 ?_
    refine xj_i2b dX0_set_14 ?_
    refine xj_bast dX0_set_15 hC rfl (by omega) (by rw [List.length_map]; exact hi) (by rw [Int8.toInt8_toInt32]) ?_
    refine xj_goto (tgt := 63) dX0_set_16 rfl ?_
    exact xj_return dX0_set_63 rfl ⟨rfl, by rw [shC_set0]⟩
  · have hC : G[a]? = some (cI 3 (xs.map Int64.toInt32)) := hC
    refine xj_aload_n dX0_set_0 rfl rfl ?_
    refine xj_instNo dX0_set_1 q348 hC xnm_I3 nc_S_B ?_
    refine xj_if_eq (tgt := 19) dX0_set_4 rfl (fun c4 => ?_) (fun c4 => absurd rfl c4)
    refine xj_aload_n dX0_set_19 rfl rfl ?_
    refine xj_instE dX0_set_20 q1556 hC xnm_I3 ?_
    refine xj_if_eq (tgt := 38) dX0_set_23 rfl (fun c23 => absurd c23 (by decide)) (fun c23 => ?_)
    refine xj_aload_n dX0_set_26 rfl rfl ?_
    refine xj_castE dX0_set_27 q1556 hC xnm_I3 ?_
    refine xj_iload_n dX0_set_30 rfl ?_
    refine xj_lload_n dX0_set_31 rfl ?_
    refine xj_l2i dX0_set_32 ?_
    refine xj_i2s dX0_set_33 ?_
    refine xj_sast dX0_set_34 hC rfl (by omega) (by rw [List.length_map]; exact hi) (by rw [Int16.toInt16_toInt32]) ?_
    refine xj_goto (tgt := 63) dX0_set_35 rfl ?_
    exact xj_return dX0_set_63 rfl ⟨rfl, by rw [shC_set1]⟩
  · have hC : G[a]? = some (cI 0 (xs.map Int64.toInt32)) := hC
    refine xj_aload_n dX0_set_0 rfl rfl ?_
    refine xj_instNo dX0_set_1 q348 hC xnm_I0 nc_I_B ?_
    refine xj_if_eq (tgt := 19) dX0_set_4 rfl (fun c4 => ?_) (fun c4 => absurd rfl c4)
    refine xj_aload_n dX0_set_19 rfl rfl ?_
    refine xj_instNo dX0_set_20 q1556 hC xnm_I0 nc_I_S ?_
    refine xj_if_eq (tgt := 38) dX0_set_23 rfl (fun c23 => ?_) (fun c23 => absurd rfl c23)
    refine xj_aload_n dX0_set_38 rfl rfl ?_
    refine xj_instE dX0_set_39 q1471 hC xnm_I0 ?_
    refine xj_if_eq (tgt := 56) dX0_set_42 rfl (fun c42 => absurd c42 (by decide)) (fun c42 => ?_)
    refine xj_aload_n dX0_set_45 rfl rfl ?_
    refine xj_castE dX0_set_46 q1471 hC xnm_I0 ?_
    refine xj_iload_n dX0_set_49 rfl ?_
    refine xj_lload_n dX0_set_50 rfl ?_
    refine xj_l2i dX0_set_51 ?_
    refine xj_iast dX0_set_52 hC rfl (by omega) (by rw [List.length_map]; exact hi) ?_
    refine xj_goto (tgt := 63) dX0_set_53 rfl ?_
    exact xj_return dX0_set_63 rfl ⟨rfl, by rw [shC_set2]⟩
  · have hC : G[a]? = some (cL 4 xs) := hC
    refine xj_aload_n dX0_set_0 rfl rfl ?_
    refine xj_instNo dX0_set_1 q348 hC xnm_L nc_J_B ?_
    refine xj_if_eq (tgt := 19) dX0_set_4 rfl (fun c4 => ?_) (fun c4 => absurd rfl c4)
    refine xj_aload_n dX0_set_19 rfl rfl ?_
    refine xj_instNo dX0_set_20 q1556 hC xnm_L nc_J_S ?_
    refine xj_if_eq (tgt := 38) dX0_set_23 rfl (fun c23 => ?_) (fun c23 => absurd rfl c23)
    refine xj_aload_n dX0_set_38 rfl rfl ?_
    refine xj_instNo dX0_set_39 q1471 hC xnm_L nc_J_I ?_
    refine xj_if_eq (tgt := 56) dX0_set_42 rfl (fun c42 => ?_) (fun c42 => absurd rfl c42)
    refine xj_aload_n dX0_set_56 rfl rfl ?_
    refine xj_castE dX0_set_57 q1557 hC xnm_L ?_
    refine xj_iload_n dX0_set_60 rfl ?_
    refine xj_lload_n dX0_set_61 rfl ?_
    refine xj_last dX0_set_62 hC rfl (by omega) hi ?_
    exact xj_return dX0_set_63 rfl ⟨rfl, by rw [shC_set3]⟩
theorem A_put {k i : Int32} {v : Int64} {sh : Nat → Option (Nat × List Int64)} {sa : Nat → Nat} {r : Nat → Value} {rv : Int32}  (hv : cV d e n G) (hSh : cSh sh sa G) (hRf : G[1]? = some (cO 1 (rFs r (.int rv)))) : xMetW E yX0_put cX0_put 6 (some FieldType.int) [(9, 62, 63, 8)] 2 0 0 [.ref 0, .int k, .int i, .long v] G (xre (fun v_ G' => v_ = some (.int (o_put sh k i)) ∧ cSh (s_put sh k i v) sa G' ∧ cRf G' ∧ gfa [1, sa (tn k)] G G' ∧ gsm G G')) := by
  obtain ⟨hO, hN, hn0, h1n, hn6⟩ := id hv
  refine xMetW.of (lv := [some (.ref 0), some (.int k), some (.int i), some (.long v), none, none]) rfl rfl (Nat.le_of_ble_eq_true rfl) ?_
  refine xj_iload_n dX0_put_0 rfl ?_
  refine xj_cS dX0_put_1 q1468 kS_X0_isShelf A_isShelf rfl rfl (Nat.le_of_ble_eq_true rfl) ⟨(Nat.le_of_ble_eq_true rfl), (Nat.le_of_ble_eq_true rfl)⟩ (Nat.le_of_ble_eq_true rfl) (Nat.le_of_ble_eq_true rfl) ?_
  refine xj_if_ne (tgt := 9) dX0_put_4 rfl (fun c4 => ?_) (fun c4 => ?_)
  · have hb := b1_nz c4
    obtain ⟨x, hx, hx31, rfl⟩ := inI_t hb
    have tx : tn (nI x) = x := nI_clamp hx31
    have hx1 := hSh.2.1 x hx
    cases hq : sh x with
    | none =>
      rw [hq] at hx1
      have hx1 : G[35 + 2 * x]? = some (cO 5 [.null]) := hx1
      refine xj_aload_n dX0_put_9 rfl rfl ?_
      refine xj_get dX0_put_10 K0 34 (by decide) q506 hO rfl ?_
      refine xj_iload_n dX0_put_13 rfl ?_
      refine xj_aald dX0_put_14 hSh.1 rfl rfl rfl (by omega) (sh_ref hx) ?_
      refine xj_getN dX0_put_15 K5 0 (by decide) q381 hx1 rfl ?_
      refine xj_ast5 dX0_put_18 rfl rfl ?_
      refine xj_aload_n dX0_put_20 rfl rfl ?_
      refine xj_aload dX0_put_21 rfl rfl ?_
      refine xj_ifnull_n (tgt := 30) dX0_put_23 rfl ?_
      refine xj_ic0 dX0_put_30 ?_
      refine xj_bipush (v := -11) dX0_put_31 rfl ?_
      refine xj_tV dX0_put_33 q1472 kV_X0_must (A_mustN hv hRf) hO rfl rfl rfl rfl (Nat.le_of_ble_eq_true rfl) ⟨(Nat.le_of_ble_eq_true rfl), (Nat.le_of_ble_eq_true rfl)⟩ (Nat.le_of_ble_eq_true rfl) (Nat.le_of_ble_eq_true rfl) ?_
      rintro _ rfl
      refine xjT_catch [] (9, 62, 63, 8) [] rfl (fun z hz => by cases hz) rfl (by decide) q203 (Or.inl rfl) rfl ?_
      refine xj_ast5 dX0_put_63 rfl rfl ?_
      refine xj_aload dX0_put_65 rfl rfl ?_
      refine xj_get dX0_put_67 K1 6 (by decide) q277 (gset_self hRf) rfl ?_
      exact xj_ireturn dX0_put_70 rfl rfl ⟨by rw [op_n hb tx hq], by rw [sp_n hb tx hq]; exact hSh.gfa (gfa.refl.set (W := [1]) List.mem_cons_self) (fun i hi => by rw [List.mem_singleton.mp hi]; decide), ⟨r, _, gset_self hRf⟩, gfa.refl.set List.mem_cons_self, gsm.refl.oth (ndyn_42 (by decide))⟩
    | some q =>
      rw [hq] at hx1
      obtain ⟨a1, a2, a3, a4⟩ := hx1
      refine xj_aload_n dX0_put_9 rfl rfl ?_
      refine xj_get dX0_put_10 K0 34 (by decide) q506 hO rfl ?_
      refine xj_iload_n dX0_put_13 rfl ?_
      refine xj_aald dX0_put_14 hSh.1 rfl rfl rfl (by omega) (sh_ref hx) ?_
      refine xj_getN dX0_put_15 K5 0 (by decide) q381 a1 rfl ?_
      refine xj_ast5 dX0_put_18 rfl rfl ?_
      refine xj_aload_n dX0_put_20 rfl rfl ?_
      refine xj_aload dX0_put_21 rfl rfl ?_
      refine xj_ifnull_r dX0_put_23 ?_
      refine xj_ic1 dX0_put_26 ?_
      refine xj_goto (tgt := 31) dX0_put_27 rfl ?_
      refine xj_bipush (v := -11) dX0_put_31 rfl ?_
      refine xj_cV dX0_put_33 q1472 kV_X0_must (A_mustY hv) hO rfl rfl rfl rfl (Nat.le_of_ble_eq_true rfl) ⟨(Nat.le_of_ble_eq_true rfl), (Nat.le_of_ble_eq_true rfl)⟩ (Nat.le_of_ble_eq_true rfl) (Nat.le_of_ble_eq_true rfl) ?_
      refine xj_aload_n dX0_put_36 rfl rfl ?_
      refine xj_iload_n dX0_put_37 rfl ?_
      refine xj_ic0 dX0_put_38 ?_
      refine xj_aload dX0_put_39 rfl rfl ?_
      refine xj_cS dX0_put_41 q1553 kS_X0_length (A_length a4.1 a3) rfl rfl (Nat.le_of_ble_eq_true rfl) ⟨(Nat.le_of_ble_eq_true rfl), (Nat.le_of_ble_eq_true rfl)⟩ (Nat.le_of_ble_eq_true rfl) (Nat.le_of_ble_eq_true rfl) ?_
      refine xj_ic1 dX0_put_44 ?_
      refine xj_isub dX0_put_45 ?_
      refine xj_cS dX0_put_46 q585 kS_X0_isIn A_isIn rfl rfl (Nat.le_of_ble_eq_true rfl) ⟨(Nat.le_of_ble_eq_true rfl), (Nat.le_of_ble_eq_true rfl)⟩ (Nat.le_of_ble_eq_true rfl) (Nat.le_of_ble_eq_true rfl) ?_
      rw [inC_inI (Nat.lt_of_le_of_lt a4.2.1 (by decide))]
      cases hbi : inI i q.2.length with
      | true =>
        obtain ⟨j, hj, hj31, rfl⟩ := inI_t hbi
        have tj : tn (nI j) = j := nI_clamp hj31
        refine xj_bipush (v := -12) dX0_put_49 rfl ?_
        refine xj_cV dX0_put_51 q1472 kV_X0_must (A_mustY hv) hO rfl rfl rfl rfl (Nat.le_of_ble_eq_true rfl) ⟨(Nat.le_of_ble_eq_true rfl), (Nat.le_of_ble_eq_true rfl)⟩ (Nat.le_of_ble_eq_true rfl) (Nat.le_of_ble_eq_true rfl) ?_
        refine xj_aload dX0_put_54 rfl rfl ?_
        refine xj_iload_n dX0_put_56 rfl ?_
        refine xj_lload_n dX0_put_57 rfl ?_
        refine xj_cS dX0_put_58 q1558 kS_X0_set (A_set a4.1 a3 hj a4.2.1) rfl rfl (Nat.le_of_ble_eq_true rfl) ⟨(Nat.le_of_ble_eq_true rfl), (Nat.le_of_ble_eq_true rfl)⟩ (Nat.le_of_ble_eq_true rfl) (Nat.le_of_ble_eq_true rfl) ?_
        refine xj_ic1 dX0_put_61 ?_
        exact xj_ireturn dX0_put_62 rfl rfl ⟨by rw [op_y hb tx hq hbi], by rw [sp_y hb tx hq hbi, tj]; exact hSh.put hx hq (shN_set a4), ⟨r, rv, by rw [gset (by omega)]; exact hRf⟩, gfa.refl.set (by rw [tx]; exact List.mem_cons_of_mem _ List.mem_cons_self), gsm.refl.set a3 (smK_sh (by rw [List.length_set]))⟩
      | false =>
        refine xj_bipush (v := -12) dX0_put_49 rfl ?_
        refine xj_tV dX0_put_51 q1472 kV_X0_must (A_mustN hv hRf) hO rfl rfl rfl rfl (Nat.le_of_ble_eq_true rfl) ⟨(Nat.le_of_ble_eq_true rfl), (Nat.le_of_ble_eq_true rfl)⟩ (Nat.le_of_ble_eq_true rfl) (Nat.le_of_ble_eq_true rfl) ?_
        rintro _ rfl
        refine xjT_catch [] (9, 62, 63, 8) [] rfl (fun z hz => by cases hz) rfl (by decide) q203 (Or.inl rfl) rfl ?_
        refine xj_ast5 dX0_put_63 rfl rfl ?_
        refine xj_aload dX0_put_65 rfl rfl ?_
        refine xj_get dX0_put_67 K1 6 (by decide) q277 (gset_self hRf) rfl ?_
        exact xj_ireturn dX0_put_70 rfl rfl ⟨by rw [op_o hb tx hq hbi], by rw [sp_o hb tx hq hbi]; exact hSh.gfa (gfa.refl.set (W := [1]) List.mem_cons_self) (fun i hi => by rw [List.mem_singleton.mp hi]; decide), ⟨r, _, gset_self hRf⟩, gfa.refl.set List.mem_cons_self, gsm.refl.oth (ndyn_42 (by decide))⟩
  · refine xj_icm1 dX0_put_7 ?_
    exact xj_ireturn dX0_put_8 rfl rfl ⟨by unfold o_put; rw [b1_z c4]; rfl, by unfold s_put; rw [b1_z c4]; exact hSh, ⟨r, rv, hRf⟩, gfa.refl, gsm.refl⟩
theorem A_manyOfN {s : Nat}  (hs : s < 4) : xMet E yX0_manyOf cX0_manyOf 2 (some FieldType.int) 0 3 898 [.null, .int (nI s)] G (xth "java/lang/NullPointerException" none (fun G' => ∃ j, G' = G ++ List.replicate j cX)) := by
  refine xMet.of (lv := [some (.null), some (.int (nI s))]) rfl rfl (Nat.le_of_ble_eq_true rfl) ?_
  refine xj_iload_n dX0_manyOf_0 rfl ?_
  refine xj_tabs (tg := [28, 34, 40]) (tgt := 46) dX0_manyOf_1 rfl rfl rfl ⟨fun c1 => ?_, fun c1 => ?_, fun c1 => ?_, trivial⟩ (fun c1 => ?_)
  · obtain rfl : s = 0 := sort_k s hs 0 (by decide) c1
    refine xj_aload_n dX0_manyOf_28 rfl rfl ?_
    refine xj_castN dX0_manyOf_29 ?_
    exact xj_alenN dX0_manyOf_32 (xrm_R (Nat.le_of_ble_eq_true rfl) (Nat.le_of_ble_eq_true rfl) (Nat.le_of_ble_eq_true rfl)) (fun j => xjT_out (fun _ hx => by cases hx) ⟨rfl, j, rfl⟩)
  · obtain rfl : s = 1 := sort_k s hs 1 (by decide) c1
    refine xj_aload_n dX0_manyOf_34 rfl rfl ?_
    refine xj_castN dX0_manyOf_35 ?_
    exact xj_alenN dX0_manyOf_38 (xrm_R (Nat.le_of_ble_eq_true rfl) (Nat.le_of_ble_eq_true rfl) (Nat.le_of_ble_eq_true rfl)) (fun j => xjT_out (fun _ hx => by cases hx) ⟨rfl, j, rfl⟩)
  · obtain rfl : s = 2 := sort_k s hs 2 (by decide) c1
    refine xj_aload_n dX0_manyOf_40 rfl rfl ?_
    refine xj_castN dX0_manyOf_41 ?_
    exact xj_alenN dX0_manyOf_44 (xrm_R (Nat.le_of_ble_eq_true rfl) (Nat.le_of_ble_eq_true rfl) (Nat.le_of_ble_eq_true rfl)) (fun j => xjT_out (fun _ hx => by cases hx) ⟨rfl, j, rfl⟩)
  · obtain rfl : s = 3 := sort_3 s hs c1
    refine xj_aload_n dX0_manyOf_46 rfl rfl ?_
    refine xj_castN dX0_manyOf_47 ?_
    exact xj_alenN dX0_manyOf_50 (xrm_R (Nat.le_of_ble_eq_true rfl) (Nat.le_of_ble_eq_true rfl) (Nat.le_of_ble_eq_true rfl)) (fun j => xjT_out (fun _ hx => by cases hx) ⟨rfl, j, rfl⟩)
theorem A_manyOfX {s a : Nat} {x : xC} {C : String}  (hmod : xMod E) (hs : s < 4) (hx : G[a]? = some x) (hn : xnm C x) (hc : xnc C (snm s)) (hp : xcp C (snm s) = true) : xMet E yX0_manyOf cX0_manyOf 2 (some FieldType.int) 0 3 898 [.ref a, .int (nI s)] G (xth "java/lang/ClassCastException" none (fun G' => ∃ j, G' = G ++ List.replicate j cX)) := by
  refine xMet.of (lv := [some (.ref a), some (.int (nI s))]) rfl rfl (Nat.le_of_ble_eq_true rfl) ?_
  refine xj_iload_n dX0_manyOf_0 rfl ?_
  refine xj_tabs (tg := [28, 34, 40]) (tgt := 46) dX0_manyOf_1 rfl rfl rfl ⟨fun c1 => ?_, fun c1 => ?_, fun c1 => ?_, trivial⟩ (fun c1 => ?_)
  · obtain rfl : s = 0 := sort_k s hs 0 (by decide) c1
    refine xj_aload_n dX0_manyOf_28 rfl rfl ?_
    exact xj_castNo hmod dX0_manyOf_29 q348 hx hn hc hp (xrm_R (Nat.le_of_ble_eq_true rfl) (Nat.le_of_ble_eq_true rfl) (Nat.le_of_ble_eq_true rfl)) (fun j => xjT_out (fun _ hx => by cases hx) ⟨rfl, j, rfl⟩)
  · obtain rfl : s = 1 := sort_k s hs 1 (by decide) c1
    refine xj_aload_n dX0_manyOf_34 rfl rfl ?_
    exact xj_castNo hmod dX0_manyOf_35 q1556 hx hn hc hp (xrm_R (Nat.le_of_ble_eq_true rfl) (Nat.le_of_ble_eq_true rfl) (Nat.le_of_ble_eq_true rfl)) (fun j => xjT_out (fun _ hx => by cases hx) ⟨rfl, j, rfl⟩)
  · obtain rfl : s = 2 := sort_k s hs 2 (by decide) c1
    refine xj_aload_n dX0_manyOf_40 rfl rfl ?_
    exact xj_castNo hmod dX0_manyOf_41 q1471 hx hn hc hp (xrm_R (Nat.le_of_ble_eq_true rfl) (Nat.le_of_ble_eq_true rfl) (Nat.le_of_ble_eq_true rfl)) (fun j => xjT_out (fun _ hx => by cases hx) ⟨rfl, j, rfl⟩)
  · obtain rfl : s = 3 := sort_3 s hs c1
    refine xj_aload_n dX0_manyOf_46 rfl rfl ?_
    exact xj_castNo hmod dX0_manyOf_47 q1557 hx hn hc hp (xrm_R (Nat.le_of_ble_eq_true rfl) (Nat.le_of_ble_eq_true rfl) (Nat.le_of_ble_eq_true rfl)) (fun j => xjT_out (fun _ hx => by cases hx) ⟨rfl, j, rfl⟩)
theorem A_manyOfY {s a : Nat} {xs : List Int64}  (hs : s < 4) (hC : G[a]? = some (shC s xs)) : xMet E yX0_manyOf cX0_manyOf 2 (some FieldType.int) 0 3 898 [.ref a, .int (nI s)] G (xrv (some (.int (nI xs.length))) G) := by
  refine xMet.of (lv := [some (.ref a), some (.int (nI s))]) rfl rfl (Nat.le_of_ble_eq_true rfl) ?_
  refine xj_iload_n dX0_manyOf_0 rfl ?_
  refine xj_tabs (tg := [28, 34, 40]) (tgt := 46) dX0_manyOf_1 rfl rfl rfl ⟨fun c1 => ?_, fun c1 => ?_, fun c1 => ?_, trivial⟩ (fun c1 => ?_)
  · obtain rfl : s = 0 := sort_k s hs 0 (by decide) c1
    refine xj_aload_n dX0_manyOf_28 rfl rfl ?_
    have hC : G[a]? = some (cI 1 (xs.map Int64.toInt32)) := hC
    refine xj_castE dX0_manyOf_29 q348 hC xnm_I1 ?_
    refine xj_alenI dX0_manyOf_32 hC rfl ?_
    exact xj_ireturn dX0_manyOf_33 rfl rfl (xrv_i (by rw [List.length_map]))
  · obtain rfl : s = 1 := sort_k s hs 1 (by decide) c1
    refine xj_aload_n dX0_manyOf_34 rfl rfl ?_
    have hC : G[a]? = some (cI 3 (xs.map Int64.toInt32)) := hC
    refine xj_castE dX0_manyOf_35 q1556 hC xnm_I3 ?_
    refine xj_alenI dX0_manyOf_38 hC rfl ?_
    exact xj_ireturn dX0_manyOf_39 rfl rfl (xrv_i (by rw [List.length_map]))
  · obtain rfl : s = 2 := sort_k s hs 2 (by decide) c1
    refine xj_aload_n dX0_manyOf_40 rfl rfl ?_
    have hC : G[a]? = some (cI 0 (xs.map Int64.toInt32)) := hC
    refine xj_castE dX0_manyOf_41 q1471 hC xnm_I0 ?_
    refine xj_alenI dX0_manyOf_44 hC rfl ?_
    exact xj_ireturn dX0_manyOf_45 rfl rfl (xrv_i (by rw [List.length_map]))
  · obtain rfl : s = 3 := sort_3 s hs c1
    refine xj_aload_n dX0_manyOf_46 rfl rfl ?_
    have hC : G[a]? = some (cL 4 xs) := hC
    refine xj_castE dX0_manyOf_47 q1557 hC xnm_L ?_
    refine xj_alenL dX0_manyOf_50 hC rfl ?_
    exact xj_ireturn dX0_manyOf_51 rfl rfl (xrv_i rfl)
theorem A_itemOfN {s : Nat} {i : Int32}  (hs : s < 4) : xMet E yX0_itemOf cX0_itemOf 4 (some FieldType.int) 2 3 898 [.ref 0, .null, .int (nI s), .int i] G (xth "java/lang/NullPointerException" none (fun G' => ∃ j, G' = G ++ List.replicate j cX)) := by
  refine xMet.of (lv := [some (.ref 0), some (.null), some (.int (nI s)), some (.int i)]) rfl rfl (Nat.le_of_ble_eq_true rfl) ?_
  refine xj_aload_n dX0_itemOf_0 rfl rfl ?_
  refine xj_iload_n dX0_itemOf_1 rfl ?_
  refine xj_ic0 dX0_itemOf_2 ?_
  refine xj_aload_n dX0_itemOf_3 rfl rfl ?_
  refine xj_iload_n dX0_itemOf_4 rfl ?_
  refine xj_tS dX0_itemOf_5 q1594 kS_X0_manyOf (A_manyOfN hs) rfl rfl (Nat.le_of_ble_eq_true rfl) ⟨(Nat.le_of_ble_eq_true rfl), (Nat.le_of_ble_eq_true rfl)⟩ (Nat.le_of_ble_eq_true rfl) (Nat.le_of_ble_eq_true rfl) ?_
  rintro _ ⟨j, rfl⟩
  exact xjT_out (fun _ hx => by cases hx) ⟨rfl, j, rfl⟩
theorem A_itemOfX {s a : Nat} {x : xC} {C : String} {i : Int32}  (hmod : xMod E) (hs : s < 4) (hx : G[a]? = some x) (hn : xnm C x) (hc : xnc C (snm s)) (hp : xcp C (snm s) = true) : xMet E yX0_itemOf cX0_itemOf 4 (some FieldType.int) 2 3 898 [.ref 0, .ref a, .int (nI s), .int i] G (xth "java/lang/ClassCastException" none (fun G' => ∃ j, G' = G ++ List.replicate j cX)) := by
  refine xMet.of (lv := [some (.ref 0), some (.ref a), some (.int (nI s)), some (.int i)]) rfl rfl (Nat.le_of_ble_eq_true rfl) ?_
  refine xj_aload_n dX0_itemOf_0 rfl rfl ?_
  refine xj_iload_n dX0_itemOf_1 rfl ?_
  refine xj_ic0 dX0_itemOf_2 ?_
  refine xj_aload_n dX0_itemOf_3 rfl rfl ?_
  refine xj_iload_n dX0_itemOf_4 rfl ?_
  refine xj_tS dX0_itemOf_5 q1594 kS_X0_manyOf (A_manyOfX hmod hs hx hn hc hp) rfl rfl (Nat.le_of_ble_eq_true rfl) ⟨(Nat.le_of_ble_eq_true rfl), (Nat.le_of_ble_eq_true rfl)⟩ (Nat.le_of_ble_eq_true rfl) (Nat.le_of_ble_eq_true rfl) ?_
  rintro _ ⟨j, rfl⟩
  exact xjT_out (fun _ hx => by cases hx) ⟨rfl, j, rfl⟩
theorem A_itemOfR {s a : Nat} {xs : List Int64} {r : Nat → Value} {rv i : Int32}  (hv : cV d e n G) (hRf : G[1]? = some (cO 1 (rFs r (.int rv)))) (hs : s < 4) (hC : G[a]? = some (shC s xs)) (hl : xs.length ≤ 40) (hi : inI i xs.length = false) : xMet E yX0_itemOf cX0_itemOf 4 (some FieldType.int) 2 3 898 [.ref 0, .ref a, .int (nI s), .int i] G (xth "CoarserOrders$Refusal" (some (.ref 1)) (fun G' => G' = G.set 1 (cO 1 (rFs r (.int (-12)))))) := by
  obtain ⟨hO, hN, hn0, h1n, hn6⟩ := id hv
  refine xMet.of (lv := [some (.ref 0), some (.ref a), some (.int (nI s)), some (.int i)]) rfl rfl (Nat.le_of_ble_eq_true rfl) ?_
  refine xj_aload_n dX0_itemOf_0 rfl rfl ?_
  refine xj_iload_n dX0_itemOf_1 rfl ?_
  refine xj_ic0 dX0_itemOf_2 ?_
  refine xj_aload_n dX0_itemOf_3 rfl rfl ?_
  refine xj_iload_n dX0_itemOf_4 rfl ?_
  refine xj_cS dX0_itemOf_5 q1594 kS_X0_manyOf (A_manyOfY hs hC) rfl rfl (Nat.le_of_ble_eq_true rfl) ⟨(Nat.le_of_ble_eq_true rfl), (Nat.le_of_ble_eq_true rfl)⟩ (Nat.le_of_ble_eq_true rfl) (Nat.le_of_ble_eq_true rfl) ?_
  refine xj_ic1 dX0_itemOf_8 ?_
  refine xj_isub dX0_itemOf_9 ?_
  refine xj_cS dX0_itemOf_10 q585 kS_X0_isIn A_isIn rfl rfl (Nat.le_of_ble_eq_true rfl) ⟨(Nat.le_of_ble_eq_true rfl), (Nat.le_of_ble_eq_true rfl)⟩ (Nat.le_of_ble_eq_true rfl) (Nat.le_of_ble_eq_true rfl) ?_
  rw [inC_inI (Nat.lt_of_le_of_lt hl (by decide)), hi]
  refine xj_bipush (v := -12) dX0_itemOf_13 rfl ?_
  refine xj_tV dX0_itemOf_15 q1472 kV_X0_must (A_mustN hv hRf) hO rfl rfl rfl rfl (Nat.le_of_ble_eq_true rfl) ⟨(Nat.le_of_ble_eq_true rfl), (Nat.le_of_ble_eq_true rfl)⟩ (Nat.le_of_ble_eq_true rfl) (Nat.le_of_ble_eq_true rfl) ?_
  rintro _ rfl
  exact xjT_out (fun _ hx => by cases hx) ⟨rfl, rfl⟩
theorem A_itemOfY {s a j : Nat} {xs : List Int64}  (hv : cV d e n G) (hs : s < 4) (hC : G[a]? = some (shC s xs)) (hl : xs.length ≤ 40) (hj : j < xs.length) : xMet E yX0_itemOf cX0_itemOf 4 (some FieldType.int) 2 3 898 [.ref 0, .ref a, .int (nI s), .int (nI j)] G (xrv (some (.int ((xs.getD j 0).toInt32))) G) := by
  obtain ⟨hO, hN, hn0, h1n, hn6⟩ := id hv
  refine xMet.of (lv := [some (.ref 0), some (.ref a), some (.int (nI s)), some (.int (nI j))]) rfl rfl (Nat.le_of_ble_eq_true rfl) ?_
  refine xj_aload_n dX0_itemOf_0 rfl rfl ?_
  refine xj_iload_n dX0_itemOf_1 rfl ?_
  refine xj_ic0 dX0_itemOf_2 ?_
  refine xj_aload_n dX0_itemOf_3 rfl rfl ?_
  refine xj_iload_n dX0_itemOf_4 rfl ?_
  refine xj_cS dX0_itemOf_5 q1594 kS_X0_manyOf (A_manyOfY hs hC) rfl rfl (Nat.le_of_ble_eq_true rfl) ⟨(Nat.le_of_ble_eq_true rfl), (Nat.le_of_ble_eq_true rfl)⟩ (Nat.le_of_ble_eq_true rfl) (Nat.le_of_ble_eq_true rfl) ?_
  refine xj_ic1 dX0_itemOf_8 ?_
  refine xj_isub dX0_itemOf_9 ?_
  refine xj_cS dX0_itemOf_10 q585 kS_X0_isIn A_isIn rfl rfl (Nat.le_of_ble_eq_true rfl) ⟨(Nat.le_of_ble_eq_true rfl), (Nat.le_of_ble_eq_true rfl)⟩ (Nat.le_of_ble_eq_true rfl) (Nat.le_of_ble_eq_true rfl) ?_
  rw [inC_inI (Nat.lt_of_le_of_lt hl (by decide)), inI_nI hj (by omega)]
  refine xj_bipush (v := -12) dX0_itemOf_13 rfl ?_
  refine xj_cV dX0_itemOf_15 q1472 kV_X0_must (A_mustY hv) hO rfl rfl rfl rfl (Nat.le_of_ble_eq_true rfl) ⟨(Nat.le_of_ble_eq_true rfl), (Nat.le_of_ble_eq_true rfl)⟩ (Nat.le_of_ble_eq_true rfl) (Nat.le_of_ble_eq_true rfl) ?_
  refine xj_iload_n dX0_itemOf_18 rfl ?_
  refine xj_tabs (tg := [44, 51, 58]) (tgt := 65) dX0_itemOf_19 rfl rfl rfl ⟨fun c19 => ?_, fun c19 => ?_, fun c19 => ?_, trivial⟩ (fun c19 => ?_)
  · obtain rfl : s = 0 := sort_k s hs 0 (by decide) c19
    have hC : G[a]? = some (cI 1 (xs.map Int64.toInt32)) := hC
    refine xj_aload_n dX0_itemOf_44 rfl rfl ?_
    refine xj_castE dX0_itemOf_45 q348 hC xnm_I1 ?_
    refine xj_iload_n dX0_itemOf_48 rfl ?_
    refine xj_bald dX0_itemOf_49 hC rfl (by omega) (sh_at hj) ?_
    exact xj_ireturn dX0_itemOf_50 rfl rfl ⟨rfl, rfl⟩
  · obtain rfl : s = 1 := sort_k s hs 1 (by decide) c19
    have hC : G[a]? = some (cI 3 (xs.map Int64.toInt32)) := hC
    refine xj_aload_n dX0_itemOf_51 rfl rfl ?_
    refine xj_castE dX0_itemOf_52 q1556 hC xnm_I3 ?_
    refine xj_iload_n dX0_itemOf_55 rfl ?_
    refine xj_sald dX0_itemOf_56 hC rfl (by omega) (sh_at hj) ?_
    exact xj_ireturn dX0_itemOf_57 rfl rfl ⟨rfl, rfl⟩
  · obtain rfl : s = 2 := sort_k s hs 2 (by decide) c19
    have hC : G[a]? = some (cI 0 (xs.map Int64.toInt32)) := hC
    refine xj_aload_n dX0_itemOf_58 rfl rfl ?_
    refine xj_castE dX0_itemOf_59 q1471 hC xnm_I0 ?_
    refine xj_iload_n dX0_itemOf_62 rfl ?_
    refine xj_iald dX0_itemOf_63 hC rfl (by omega) (sh_at hj) ?_
    exact xj_ireturn dX0_itemOf_64 rfl rfl ⟨rfl, rfl⟩
  · obtain rfl : s = 3 := sort_3 s hs c19
    have hC : G[a]? = some (cL 4 xs) := hC
    refine xj_aload_n dX0_itemOf_65 rfl rfl ?_
    refine xj_castE dX0_itemOf_66 q1557 hC xnm_L ?_
    refine xj_iload_n dX0_itemOf_69 rfl ?_
    refine xj_lald dX0_itemOf_70 hC rfl (by omega) (sh_at3 hj) ?_
    refine xj_l2i dX0_itemOf_71 ?_
    exact xj_ireturn dX0_itemOf_72 rfl rfl ⟨rfl, rfl⟩
theorem A_item {k s i : Int32} {sh : Nat → Option (Nat × List Int64)} {sa : Nat → Nat} {r : Nat → Value} {rv : Int32}  (hmod : xMod E) (hv : cV d e n G) (hSh : cSh sh sa G) (hRf : G[1]? = some (cO 1 (rFs r (.int rv)))) : xMetW E yX0_item cX0_item 5 (some FieldType.int) [(18, 33, 34, 645), (18, 33, 39, 689), (18, 33, 44, 8)] 3 3 898 [.ref 0, .int k, .int s, .int i] G (xre (fun v_ G' => v_ = some (.int (o_item sh k s i)) ∧ cRf G' ∧ gfa [1] G G')) := by
  obtain ⟨hO, hN, hn0, h1n, hn6⟩ := id hv
  refine xMetW.of (lv := [some (.ref 0), some (.int k), some (.int s), some (.int i), none]) rfl rfl (Nat.le_of_ble_eq_true rfl) ?_
  refine xj_iload_n dX0_item_0 rfl ?_
  refine xj_cS dX0_item_1 q1468 kS_X0_isShelf A_isShelf rfl rfl (Nat.le_of_ble_eq_true rfl) ⟨(Nat.le_of_ble_eq_true rfl), (Nat.le_of_ble_eq_true rfl)⟩ (Nat.le_of_ble_eq_true rfl) (Nat.le_of_ble_eq_true rfl) ?_
  refine xj_if_eq (tgt := 16) dX0_item_4 rfl (fun c4 => ?_) (fun c4 => ?_)
  · refine xj_icm1 dX0_item_16 ?_
    exact xj_ireturn dX0_item_17 rfl rfl ⟨by unfold o_item; first | (rw [b1_z c4]; rfl) | (rw [b1_z c13, Bool.and_false]; rfl), ⟨r, rv, hRf⟩, gfa.refl⟩
  · refine xj_iload_n dX0_item_7 rfl ?_
    refine xj_ic0 dX0_item_8 ?_
    refine xj_ic3 dX0_item_9 ?_
    refine xj_cS dX0_item_10 q585 kS_X0_isIn A_isIn rfl rfl (Nat.le_of_ble_eq_true rfl) ⟨(Nat.le_of_ble_eq_true rfl), (Nat.le_of_ble_eq_true rfl)⟩ (Nat.le_of_ble_eq_true rfl) (Nat.le_of_ble_eq_true rfl) ?_
    rw [show inC s 0 3 = inI s 4 from inC_inI (m := 4) (by decide)]
    refine xj_if_ne (tgt := 18) dX0_item_13 rfl (fun c13 => ?_) (fun c13 => ?_)
    · have hb := b1_nz c4
      have hb2 := b1_nz c13
      obtain ⟨x, hx, hx31, rfl⟩ := inI_t hb
      obtain ⟨s, hs, hs31, rfl⟩ := inI_t hb2
      have tx : tn (nI x) = x := nI_clamp hx31
      have hx1 := hSh.2.1 x hx
      cases hq : sh x with
      | none =>
        rw [hq] at hx1
        have hx1 : G[35 + 2 * x]? = some (cO 5 [.null]) := hx1
        refine xj_aload_n dX0_item_18 rfl rfl ?_
        refine xj_aload_n dX0_item_19 rfl rfl ?_
        refine xj_get dX0_item_20 K0 34 (by decide) q506 hO rfl ?_
        refine xj_iload_n dX0_item_23 rfl ?_
        refine xj_aald dX0_item_24 hSh.1 rfl rfl rfl (by omega) (sh_ref hx) ?_
        refine xj_getN dX0_item_25 K5 0 (by decide) q381 hx1 rfl ?_
        refine xj_iload_n dX0_item_28 rfl ?_
        refine xj_iload_n dX0_item_29 rfl ?_
        refine xj_tV dX0_item_30 q1590 kV_X0_itemOf (A_itemOfN hs) hO rfl rfl rfl rfl (Nat.le_of_ble_eq_true rfl) ⟨(Nat.le_of_ble_eq_true rfl), (Nat.le_of_ble_eq_true rfl)⟩ (Nat.le_of_ble_eq_true rfl) (Nat.le_of_ble_eq_true rfl) ?_
        rintro _ ⟨j, rfl⟩
        refine xjT_catchV [(18, 33, 34, 645)] (18, 33, 39, 689) [(18, 33, 44, 8)] rfl (fun z hz => by
          rcases List.mem_cons.mp hz with rfl | hz
          · exact Or.inr ⟨by decide, _, q1454, nc_NP_CC⟩
          cases hz) rfl (by decide) q1565 (Or.inl rfl) dX0_item_39 (Nat.le_of_ble_eq_true rfl) rfl ?_
        refine xj_bipush (v := -11) dX0_item_41 rfl ?_
        exact xj_ireturn dX0_item_43 rfl rfl ⟨by rw [oi_n hb hb2 tx hq], ⟨r, rv, by rw [List.getElem?_append_left (List.getElem?_eq_some_iff.mp hRf).1]; exact hRf⟩, gfa.refl.apps⟩
      | some q =>
        rw [hq] at hx1
        obtain ⟨a1, a2, a3, a4⟩ := hx1
        by_cases hts : q.1 = s
        · subst hts
          cases hbi : inI i q.2.length with
          | true =>
            obtain ⟨j, hj, hj31, rfl⟩ := inI_t hbi
            have tj : tn (nI j) = j := nI_clamp hj31
            refine xj_aload_n dX0_item_18 rfl rfl ?_
            refine xj_aload_n dX0_item_19 rfl rfl ?_
            refine xj_get dX0_item_20 K0 34 (by decide) q506 hO rfl ?_
            refine xj_iload_n dX0_item_23 rfl ?_
            refine xj_aald dX0_item_24 hSh.1 rfl rfl rfl (by omega) (sh_ref hx) ?_
            refine xj_getN dX0_item_25 K5 0 (by decide) q381 a1 rfl ?_
            refine xj_iload_n dX0_item_28 rfl ?_
            refine xj_iload_n dX0_item_29 rfl ?_
            refine xj_cV dX0_item_30 q1590 kV_X0_itemOf (A_itemOfY hv a4.1 a3 a4.2.1 hj) hO rfl rfl rfl rfl (Nat.le_of_ble_eq_true rfl) ⟨(Nat.le_of_ble_eq_true rfl), (Nat.le_of_ble_eq_true rfl)⟩ (Nat.le_of_ble_eq_true rfl) (Nat.le_of_ble_eq_true rfl) ?_
            exact xj_ireturn dX0_item_33 rfl rfl ⟨by rw [oi_y hb hb2 tx hq hbi, tj], ⟨r, rv, hRf⟩, gfa.refl⟩
          | false =>
            refine xj_aload_n dX0_item_18 rfl rfl ?_
            refine xj_aload_n dX0_item_19 rfl rfl ?_
            refine xj_get dX0_item_20 K0 34 (by decide) q506 hO rfl ?_
            refine xj_iload_n dX0_item_23 rfl ?_
            refine xj_aald dX0_item_24 hSh.1 rfl rfl rfl (by omega) (sh_ref hx) ?_
            refine xj_getN dX0_item_25 K5 0 (by decide) q381 a1 rfl ?_
            refine xj_iload_n dX0_item_28 rfl ?_
            refine xj_iload_n dX0_item_29 rfl ?_
            refine xj_tV dX0_item_30 q1590 kV_X0_itemOf (A_itemOfR hv hRf a4.1 a3 a4.2.1 hbi) hO rfl rfl rfl rfl (Nat.le_of_ble_eq_true rfl) ⟨(Nat.le_of_ble_eq_true rfl), (Nat.le_of_ble_eq_true rfl)⟩ (Nat.le_of_ble_eq_true rfl) (Nat.le_of_ble_eq_true rfl) ?_
            rintro _ rfl
            refine xjT_catch [(18, 33, 34, 645), (18, 33, 39, 689)] (18, 33, 44, 8) [] rfl (fun z hz => by
              rcases List.mem_cons.mp hz with rfl | hz
              · exact Or.inr ⟨by decide, _, q1454, nc_R_CC⟩
              rcases List.mem_cons.mp hz with rfl | hz
              · exact Or.inr ⟨by decide, _, q1565, nc_R_NP⟩
              cases hz) rfl (by decide) q203 (Or.inl rfl) rfl ?_
            refine xj_ast4 dX0_item_44 rfl rfl ?_
            refine xj_aload dX0_item_46 rfl rfl ?_
            refine xj_get dX0_item_48 K1 6 (by decide) q277 (gset_self hRf) rfl ?_
            exact xj_ireturn dX0_item_51 rfl rfl ⟨by rw [oi_o hb hb2 tx hq hbi], ⟨r, _, gset_self hRf⟩, gfa.refl.set List.mem_cons_self⟩
        · refine xj_aload_n dX0_item_18 rfl rfl ?_
          refine xj_aload_n dX0_item_19 rfl rfl ?_
          refine xj_get dX0_item_20 K0 34 (by decide) q506 hO rfl ?_
          refine xj_iload_n dX0_item_23 rfl ?_
          refine xj_aald dX0_item_24 hSh.1 rfl rfl rfl (by omega) (sh_ref hx) ?_
          refine xj_getN dX0_item_25 K5 0 (by decide) q381 a1 rfl ?_
          refine xj_iload_n dX0_item_28 rfl ?_
          refine xj_iload_n dX0_item_29 rfl ?_
          refine xj_tV dX0_item_30 q1590 kV_X0_itemOf (A_itemOfX hmod hs a3 (xnm_sh a4.1) (nc_sh a4.1 hs hts).1 (nc_sh a4.1 hs hts).2) hO rfl rfl rfl rfl (Nat.le_of_ble_eq_true rfl) ⟨(Nat.le_of_ble_eq_true rfl), (Nat.le_of_ble_eq_true rfl)⟩ (Nat.le_of_ble_eq_true rfl) (Nat.le_of_ble_eq_true rfl) ?_
          rintro _ ⟨j, rfl⟩
          refine xjT_catchV [] (18, 33, 34, 645) [(18, 33, 39, 689), (18, 33, 44, 8)] rfl (fun z hz => by cases hz) rfl (by decide) q1454 (Or.inl rfl) dX0_item_34 (Nat.le_of_ble_eq_true rfl) rfl ?_
          refine xj_bipush (v := -13) dX0_item_36 rfl ?_
          exact xj_ireturn dX0_item_38 rfl rfl ⟨by rw [oi_x hb hb2 tx hq (fun h => hts ((nI_eq (by have := a4.1; omega) (by omega)).mp h))], ⟨r, rv, by rw [List.getElem?_append_left (List.getElem?_eq_some_iff.mp hRf).1]; exact hRf⟩, gfa.refl.apps⟩
    · refine xj_icm1 dX0_item_16 ?_
      exact xj_ireturn dX0_item_17 rfl rfl ⟨by unfold o_item; first | (rw [b1_z c4]; rfl) | (rw [b1_z c13, Bool.and_false]; rfl), ⟨r, rv, hRf⟩, gfa.refl⟩
end A37
