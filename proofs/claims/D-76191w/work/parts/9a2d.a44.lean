/-! ===== the class: the list goes on ===== -/
set_option maxRecDepth 100000
theorem kV_X23_lists : xsV yX23_lists cX23_lists 1 none 0 := ⟨q1414, qs63, q186, q1415, by decide, by decide, by decide +kernel⟩
theorem kV_X23_looks : xsV yX23_looks cX23_looks 5 (some FieldType.boolean) 2 := ⟨q1434, qs64, q186, q1435, by decide, by decide, by decide +kernel⟩
/-- a lister at work -/
def cLi (n : Nat) (d e : Nat → Value) (a R : Nat) (l : List Nat) (S : List Int32) (xa : Nat → Option Nat) (G : xH) : Prop :=
  cV (cu d 28 (.int (nI l.length))) e n G ∧ G[a]? = some (cO 23 [.ref (a + 1), .ref (a + 2), .ref 0]) ∧ (∃ L : List Int32, L.length = 6 ∧ rwL n R L ∧ G[a + 1]? = some (cI 1 L)) ∧ (∃ L2 : List Int32, L2.length = 6 ∧ G[a + 2]? = some (cI 1 L2)) ∧ (∃ LL : List Int32, LL.length = 120 ∧ G[25]? = some (cI 0 LL) ∧ ∀ (i x : Nat), l[i]? = some x → LL[i]? = some (nI x)) ∧ (S.length = 120 ∧ G[26]? = some (cI 2 S)) ∧ cEx xa G ∧ R ∈ rws n ∧ l.length + zc S = 120 ∧ ∀ k, xa k ≠ some a ∧ xa k ≠ some (a + 1) ∧ xa k ≠ some (a + 2)
def S0 (n : Nat) : List Int32 := (List.replicate 120 0).set (rk n (rb n 0)) 1
theorem S0_z : ∀ n, n < 6 → 1 ≤ n → [rb n 0].length + zc (S0 n) = 120 := by decide +kernel
theorem cEx.lt {xa : Nat → Option Nat} {G : xH} {k b : Nat} (h : cEx xa G) (hx : xa k = some b) : b < G.length := by
  obtain ⟨EL, h1, h2, h3⟩ := h
  have := h3 k
  rw [hx] at this
  obtain ⟨-, -, L, q, -⟩ := this
  exact (List.getElem?_eq_some_iff.mp q).1
theorem cEx.arr {xa : Nat → Option Nat} {G : xH} {k b : Nat} (h : cEx xa G) (hx : xa k = some b) : ∃ L : List Int32, G[b]? = some (cI 1 L) := by
  obtain ⟨EL, h1, h2, h3⟩ := h
  have := h3 k
  rw [hx] at this
  obtain ⟨-, -, L, q, -⟩ := this
  exact ⟨L, q⟩
theorem rep_ext0 {A : List Int32} (h1 : A.length = 120) (h2 : ∀ i : Nat, i < 120 → A[i]? = some 0) : A = List.replicate 120 0 := by
  apply List.ext_getElem?
  intro i
  by_cases h : i < 120
  · rw [h2 i h, List.getElem?_replicate, if_pos h]
  · rw [List.getElem?_eq_none (by omega), List.getElem?_eq_none (by rw [List.length_replicate]; omega)]
theorem set_lt0 {S : List Int32} {k i : Nat} (hk : k < S.length) (h : ∀ i, i < k → S[i]? = some 0) (hi : i < k + 1) : (S.set k 0)[i]? = some 0 := by
  by_cases e : i = k
  · subst e; exact List.getElem?_set_self hk
  · rw [List.getElem?_set_ne (fun q => e q.symm)]; exact h i (by omega)
section A44
variable {E : xE} {G : xH} {d e : Nat → Value} {n : Nat}
theorem A_goesOnL {a R v g : Nat} {u : Bool} {l : List Nat} {S : List Int32} {xa : Nat → Option Nat}  (hli : cLi n d e a R l S xa G) (hn3 : e 3 = .long (lN g)) (hg : g < 2 ^ 64) (h82 : 82 < a) (hn5 : n < 6) (hv1 : 1 ≤ v) (hvn : v ≤ n) : xMet E yX23_goesOn cX23_goesOn 3 (some FieldType.boolean) 5 (cx (xa n)) (6 * cx (xa n)) [.ref a, .int (nI v), .int (sg u)] G (xre (fun v_ G' => v_ = some (.int (b1 (nbB n S (nrs n g R v u)))) ∧ ∃ xa', (if nbB n S (nrs n g R v u) = true then cLi n d e a (tn (nrs n g R v u)) (l ++ [tn (nrs n g R v u)]) (S.set (rk n (tn (nrs n g R v u))) 1) xa' G' else cLi n d e a R l S xa' G') ∧ (v = n → 1 ≤ plc n R v n 0 → u = false → ∃ b, xa' n = some b) ∧ (∀ b, xa n = some b → ∃ b', xa' n = some b') ∧ exN xa xa' G.length ∧ exFr xa [0, 25, 26, a + 1, a + 2] G G')) := by
  obtain ⟨hv, hA, ⟨L, hl1, hR, hL⟩, ⟨L2, hl2, hL2⟩, ⟨LL, hLL, h25, hLl⟩, ⟨hS, h26⟩, hEx, hRm, hlz, hxk⟩ := id hli
  obtain ⟨hO, hN, hn0, h1n, hn6⟩ := id hv
  have hal := (List.getElem?_eq_some_iff.mp hL2).1
  have hxa := fun k => (hxk k).1
  have hxr := fun k => (hxk k).2.1
  have hxr2 := fun k => (hxk k).2.2
  refine xMet.of (lv := [some (.ref a), some (.int (nI v)), some (.int (sg u))]) rfl rfl (Nat.le_of_ble_eq_true rfl) ?_
  refine xj_aload_n dX23_goesOn_0 rfl rfl ?_
  refine xj_iload_n dX23_goesOn_1 rfl ?_
  refine xj_iload_n dX23_goesOn_2 rfl ?_
  refine xj_dV dX23_goesOn_3 q1432 kV_X23_looks (A_looks (u := u) hv hn3 hg hA h82 hL hR hRm hL2 hl2 hEx hxa hxr hxr2 hv1 hvn) hA rfl rfl rfl rfl (Nat.le_of_ble_eq_true rfl) ⟨(Nat.le_of_ble_eq_true rfl), (Nat.le_of_ble_eq_true rfl)⟩ (Nat.le_refl _) (Nat.le_refl _) ?_
  rintro _ H ⟨rfl, xb, hE, hxn, hfr, hcx, hfs, M, hM, hMh, hMr⟩
  have hkp : ∀ b, xa n = some b → ∃ b', xb n = some b' := fun b hb => by
    rcases hxn n with q | ⟨q, -⟩
    · exact ⟨b, by rw [q]; exact hb⟩
    · rw [hb] at q; cases q
  have k0 : H[0]? = some (cO 0 (cFs (cu d 28 (.int (nI l.length))))) := (hfr.2.2 0 (by omega) (by rw [List.mem_singleton]; omega) (by omega) (fun k q => by have := hEx.big q; omega)).trans hO
  have k4 : H[4]? = some (cO 3 (oFs e)) := (hfr.2.2 4 (by omega) (by rw [List.mem_singleton]; omega) (by omega) (fun k q => by have := hEx.big q; omega)).trans hN
  have k25 : H[25]? = some (cI 0 LL) := (hfr.2.2 25 (by omega) (by rw [List.mem_singleton]; omega) (by omega) (fun k q => by have := hEx.big q; omega)).trans h25
  have k26 : H[26]? = some (cI 2 S) := (hfr.2.2 26 (by omega) (by rw [List.mem_singleton]; omega) (by omega) (fun k q => by have := hEx.big q; omega)).trans h26
  have kA : H[a]? = some (cO 23 [.ref (a + 1), .ref (a + 2), .ref 0]) := (hfr.2.2 a (by omega) (by rw [List.mem_singleton]; omega) (by omega) hxa).trans hA
  have kR : H[a + 1]? = some (cI 1 L) := (hfr.2.2 (a + 1) (by omega) (by rw [List.mem_singleton]; omega) (by omega) hxr).trans hL
  have hvH : cV (cu d 28 (.int (nI l.length))) e n H := ⟨k0, k4, hn0, h1n, hn6⟩
  have hxb : ∀ i, i < G.length → (∀ k, xa k ≠ some i) → ∀ k, xb k ≠ some i := fun i hi hk k q => hk k (exN_at hxn q hi)
  have hxk2 : ∀ k, xb k ≠ some a ∧ xb k ≠ some (a + 1) ∧ xb k ≠ some (a + 2) := fun k => ⟨hxb a (by omega) hxa k, hxb (a + 1) (by omega) hxr k, hxb (a + 2) (by omega) hxr2 k⟩
  have hli2 : cLi n d e a R l S xb H := ⟨hvH, kA, ⟨L, hl1, hR, kR⟩, ⟨M, hM, hMh⟩, ⟨LL, hLL, k25, hLl⟩, ⟨hS, k26⟩, hE, hRm, hlz, hxk2⟩
  have hfr5 : exFr xa [0, 25, 26, a + 1, a + 2] G H := hfr.mono (fun i hi => by rw [List.mem_singleton] at hi; subst hi; simp)
  refine xj_if_eq (tgt := 31) dX23_goesOn_6 rfl (fun c6 => ?_) (fun c6 => ?_)
  · refine xj_ic0 dX23_goesOn_31 ?_
    refine xj_ireturn dX23_goesOn_32 rfl rfl ?_
    have hb : nbB n S (nrs n g R v u) = false := (by unfold nbB; first | (rw [decide_eq_false (fun h => h (Classical.not_not.mp (of_decide_eq_false (b1_z c6)))), Bool.false_and]; done) | (rw [decide_eq_false c28, Bool.and_false]; done))
    exact ⟨by rw [hb]; rfl, xb, by rw [hb, if_neg (by decide)]; exact hli2, hfs, hkp, hxn, hfr5⟩
  · have hx3 : (nrs n g R v u) ≠ -3 := of_decide_eq_true (b1_nz c6)
    obtain ⟨hMR, hMm⟩ := hMr hx3
    have hrk := f_rk5 n hn5 _ hMm
    have hsg : S[rk n (tn (nrs n g R v u))]? = some (S.getD (rk n (tn (nrs n g R v u))) 0) := gD_at (by omega)
    refine xj_aload_n dX23_goesOn_9 rfl rfl ?_
    refine xj_get dX23_goesOn_10 K23 2 (by decide) q1420 kA rfl ?_
    refine xj_getN dX23_goesOn_13 K0 27 (by decide) q497 k0 rfl ?_
    refine xj_aload_n dX23_goesOn_16 rfl rfl ?_
    refine xj_get dX23_goesOn_17 K23 2 (by decide) q1420 kA rfl ?_
    refine xj_aload_n dX23_goesOn_20 rfl rfl ?_
    refine xj_get dX23_goesOn_21 K23 1 (by decide) q1419 kA rfl ?_
    refine xj_cVN dX23_goesOn_24 q1417 kV_X0_rankOf (A_rankOf hvH hMh hMR hMm) k0 rfl rfl rfl rfl (Nat.le_of_ble_eq_true rfl) ⟨(Nat.le_of_ble_eq_true rfl), (Nat.le_of_ble_eq_true rfl)⟩ (Nat.le_of_ble_eq_true rfl) (Nat.le_of_ble_eq_true rfl) ?_
    refine xj_zald dX23_goesOn_27 k26 rfl (by omega) hsg ?_
    refine xj_if_eq (tgt := 33) dX23_goesOn_28 rfl (fun c28 => ?_) (fun c28 => ?_)
    · have hs0 : S.getD (rk n (tn (nrs n g R v u))) 0 = 0 := c28
      have hs0' : S[rk n (tn (nrs n g R v u))]? = some 0 := by rw [hsg, hs0]
      refine xj_aload_n dX23_goesOn_33 rfl rfl ?_
      refine xj_get dX23_goesOn_34 K23 2 (by decide) q1420 kA rfl ?_
      refine xj_aload_n dX23_goesOn_37 rfl rfl ?_
      refine xj_get dX23_goesOn_38 K23 1 (by decide) q1419 kA rfl ?_
      refine xj_aload_n dX23_goesOn_41 rfl rfl ?_
      refine xj_get dX23_goesOn_42 K23 0 (by decide) q1418 kA rfl ?_
      refine xj_dVN dX23_goesOn_45 q1441 kV_X0_copy (A_copy hvH hMh kR hMR (by omega)) k0 rfl rfl rfl rfl (Nat.le_of_ble_eq_true rfl) ⟨(Nat.le_of_ble_eq_true rfl), (Nat.le_of_ble_eq_true rfl)⟩ (Nat.le_of_ble_eq_true rfl) (Nat.le_of_ble_eq_true rfl) ?_
      rintro _ _ ⟨rfl, L3, hL3, hL3R, rfl⟩
      have hv2 : cV (cu d 28 (.int (nI l.length))) e n (H.set (a + 1) (cI 1 L3)) := hvH.set (by omega) (by omega)
      obtain ⟨hO2, hN2, -⟩ := id hv2
      have kA2 : (H.set (a + 1) (cI 1 L3))[a]? = some (cO 23 [.ref (a + 1), .ref (a + 2), .ref 0]) := by rw [gset (by omega)]; exact kA
      have hzz := zc_set S (rk n (tn (nrs n g R v u))) hs0'
      refine xj_aload_n dX23_goesOn_48 rfl rfl ?_
      refine xj_cV dX23_goesOn_49 q1412 kV_X23_lists (A_lists (l := l) hv2 kA2 h82 (gset_self kR) hL3R hMm hn5 (by rw [gset (by omega)]; exact k25) hLL (by rw [gset (by omega)]; exact k26) hS rfl (by omega)) kA2 rfl rfl rfl rfl (Nat.le_of_ble_eq_true rfl) ⟨(Nat.le_of_ble_eq_true rfl), (Nat.le_of_ble_eq_true rfl)⟩ (Nat.le_of_ble_eq_true rfl) (Nat.le_of_ble_eq_true rfl) ?_
      refine xj_ic1 dX23_goesOn_52 ?_
      refine xj_ireturn dX23_goesOn_53 rfl rfl ?_
      have hb : nbB n S (nrs n g R v u) = true := by unfold nbB; rw [decide_eq_true hx3, decide_eq_true hs0]; rfl
      have hlen2 : (l ++ [tn (nrs n g R v u)]).length = l.length + 1 := by rw [List.length_append, List.length_singleton]
      have hz := zc_set S (rk n (tn (nrs n g R v u))) hs0'
      refine ⟨by rw [hb]; rfl, xb, ?_, hfs, hkp, hxn, ?_⟩
      · rw [hb, if_pos rfl]
        have q0 : ((((H.set (a + 1) (cI 1 L3)).set 25 (cI 0 (LL.set l.length (nI (tn (nrs n g R v u)))))).set 26 (cI 2 (S.set (rk n (tn (nrs n g R v u))) 1))).set 0 (cO 0 (cFs (cu (cu d 28 (.int (nI l.length))) 28 (.int (nI (l.length + 1)))))))[0]? = some (cO 0 (cFs (cu d 28 (.int (nI (l ++ [tn (nrs n g R v u)]).length))))) := by rw [hlen2, ← cu_cu (c := d) (i := 28) (v := .int (nI l.length))]; exact gset_self (by rw [gset (by decide), gset (by decide), gset (by omega)]; exact k0)
        refine ⟨⟨q0, by rw [gset (by decide), gset (by decide), gset (by decide), gset (by omega)]; exact k4, hn0, h1n, hn6⟩, by rw [gset (by omega), gset (by omega), gset (by omega), gset (by omega)]; exact kA, ⟨L3, by omega, hL3R, by rw [gset (by omega), gset (by omega), gset (by omega)]; exact gset_self kR⟩, ⟨M, hM, by rw [gset (by omega), gset (by omega), gset (by omega), gset (by omega)]; exact hMh⟩, ⟨LL.set l.length (nI (tn (nrs n g R v u))), by rw [List.length_set]; exact hLL, by rw [gset (by decide), gset (by decide)]; exact gset_self (by rw [gset (by omega)]; exact k25), ?_⟩, ⟨by rw [List.length_set]; exact hS, by rw [gset (by decide)]; exact gset_self (by rw [gset (by decide), gset (by omega)]; exact k26)⟩, ?_, hMm, by rw [hlen2]; omega, hxk2⟩
        · intro i x hi
          by_cases ei : i = l.length
          · subst ei
            rw [List.getElem?_append_right (Nat.le_refl _), Nat.sub_self] at hi
            cases hi
            exact List.getElem?_set_self (by omega)
          · have hil : i < l.length := by have := (List.getElem?_eq_some_iff.mp hi).1; omega
            rw [List.getElem?_append_left hil] at hi
            rw [List.getElem?_set_ne (fun q => ei q.symm)]
            exact hLl i x hi
        · exact (((hE.oth (x := cX) (hxb (a + 1) (by omega) hxr) (by omega)).oth (x := cX) (fun k q => by have := hE.big q; omega) (by decide)).oth (x := cX) (fun k q => by have := hE.big q; omega) (by decide)).oth (x := cX) (fun k q => by have := hE.big q; omega) (by decide)
      · refine ⟨by rw [List.length_set, List.length_set, List.length_set, List.length_set]; exact hfr.1, (((hfr.2.1.set (x := cI 1 L) kR ⟨L3, rfl, by omega⟩).oth (ndyn_42 (by decide))).oth (ndyn_42 (by decide))).oth (ndyn_42 (by decide)), fun i hi hw h17 hk => ?_⟩
        simp only [List.mem_cons, List.not_mem_nil, or_false, not_or] at hw
        rw [gset (fun q => hw.1 q.symm), gset (fun q => hw.2.2.1 q.symm), gset (fun q => hw.2.1 q.symm), gset (fun q => hw.2.2.2.1 q.symm)]
        exact hfr.2.2 i hi (by rw [List.mem_singleton]; exact hw.2.2.2.2) h17 hk
    · refine xj_ic0 dX23_goesOn_31 ?_
      refine xj_ireturn dX23_goesOn_32 rfl rfl ?_
      have hb : nbB n S (nrs n g R v u) = false := (by unfold nbB; first | (rw [decide_eq_false (fun h => h (Classical.not_not.mp (of_decide_eq_false (b1_z c6)))), Bool.false_and]; done) | (rw [decide_eq_false c28, Bool.and_false]; done))
      exact ⟨by rw [hb]; rfl, xb, by rw [hb, if_neg (by decide)]; exact hli2, hfs, hkp, hxn, hfr5⟩
theorem A_listerInit {a : Nat} {S00 LL : List Int32} {xa : Nat → Option Nat}  (hv : cV d e n G) (hA0 : G[a]? = some (cO 23 [.null, .null, .null])) (hGl : G.length = a + 1) (h82 : 82 < a) (hn5 : n < 6) (h25 : G[25]? = some (cI 0 LL)) (hLL : LL.length = 120) (h26 : G[26]? = some (cI 2 S00)) (hS00 : S00.length = 120) (hEx : cEx xa G) : xMet E yX23_init cX23_init 3 none 2 2 12 [.ref a, .ref 0] G (xre (fun v_ G' => v_ = none ∧ cLi n d e a (rb n 0) [rb n 0] (S0 n) xa G' ∧ gfa [0, 25, 26, a] G G')) := by
  obtain ⟨hO, hN, hn0, h1n, hn6⟩ := id hv
  have hr0m := rb_mem (show n < 7 by omega) h1n (wy_pos n (by omega))
  have hxG : ∀ k b, xa k = some b → b < a + 1 ∧ 82 < b ∧ b ≠ a := fun k b hb => by
    refine ⟨?_, hEx.big hb, ?_⟩
    · have := hEx.lt hb; omega
    · intro q; obtain ⟨L, hL⟩ := hEx.arr hb; rw [q, hA0] at hL; cases hL
  refine xMet.of (lv := [some (.ref a), some (.ref 0), none]) rfl rfl (Nat.le_of_ble_eq_true rfl) ?_
  refine xj_aload_n dX23_init_0 rfl rfl ?_
  refine xj_aload_n dX23_init_1 rfl rfl ?_
  refine xj_putF dX23_init_2 K23 2 (by decide) q1420 rfl rfl rfl rfl hA0 (Nat.le_of_ble_eq_true rfl) ?_
  refine xj_eq rfl rfl (show _ = (G.set a (cO 23 [.null, .null, .ref 0])) from rfl) ?_
  have kA : (G.set a (cO 23 [.null, .null, .ref 0]))[a]? = some (cO 23 [.null, .null, .ref 0]) := gset_self hA0
  have ln1 : (G.set a (cO 23 [.null, .null, .ref 0])).length = a + 1 := by simp [hGl]
  refine xj_aload_n dX23_init_5 rfl rfl ?_
  refine xj_objInit dX23_init_6 q1410 qObjI qObjC ⟨(Nat.le_of_ble_eq_true rfl), (Nat.le_of_ble_eq_true rfl)⟩ (Nat.le_of_ble_eq_true rfl) ?_
  refine xj_aload_n dX23_init_9 rfl rfl ?_
  refine xj_bipush (v := 6) dX23_init_10 rfl ?_
  refine xj_newB dX23_init_12 q374 rfl (Nat.le_of_ble_eq_true rfl) (Nat.le_of_ble_eq_true rfl) (Nat.le_of_ble_eq_true rfl) ?_
  rw [ln1]
  have kA2 : ((G.set a (cO 23 [.null, .null, .ref 0])) ++ [cI 1 (List.replicate 6 0)])[a]? = some (cO 23 [.null, .null, .ref 0]) := by rw [List.getElem?_append_left (by omega)]; exact kA
  refine xj_putF dX23_init_14 K23 0 (by decide) q1418 rfl rfl rfl rfl kA2 (Nat.le_of_ble_eq_true rfl) ?_
  refine xj_eq rfl rfl (show _ = (((G.set a (cO 23 [.null, .null, .ref 0])) ++ [cI 1 (List.replicate 6 0)]).set a (cO 23 [.ref (a + 1), .null, .ref 0])) from rfl) ?_
  have ln2 : ((G.set a (cO 23 [.null, .null, .ref 0])) ++ [cI 1 (List.replicate 6 0)]).length = a + 2 := by simp [hGl]
  have ln3 : (((G.set a (cO 23 [.null, .null, .ref 0])) ++ [cI 1 (List.replicate 6 0)]).set a (cO 23 [.ref (a + 1), .null, .ref 0])).length = a + 2 := by simp [hGl]
  have kA3 : (((G.set a (cO 23 [.null, .null, .ref 0])) ++ [cI 1 (List.replicate 6 0)]).set a (cO 23 [.ref (a + 1), .null, .ref 0]))[a]? = some (cO 23 [.ref (a + 1), .null, .ref 0]) := gset_self kA2
  refine xj_aload_n dX23_init_17 rfl rfl ?_
  refine xj_bipush (v := 6) dX23_init_18 rfl ?_
  refine xj_newB dX23_init_20 q374 rfl (Nat.le_of_ble_eq_true rfl) (Nat.le_of_ble_eq_true rfl) (Nat.le_of_ble_eq_true rfl) ?_
  rw [ln3]
  have kA4 : ((((G.set a (cO 23 [.null, .null, .ref 0])) ++ [cI 1 (List.replicate 6 0)]).set a (cO 23 [.ref (a + 1), .null, .ref 0])) ++ [cI 1 (List.replicate 6 0)])[a]? = some (cO 23 [.ref (a + 1), .null, .ref 0]) := by rw [List.getElem?_append_left (by omega)]; exact kA3
  refine xj_putF dX23_init_22 K23 1 (by decide) q1419 rfl rfl rfl rfl kA4 (Nat.le_of_ble_eq_true rfl) ?_
  obtain ⟨H5, hH5⟩ : ∃ H5, H5 = (((((G.set a (cO 23 [.null, .null, .ref 0])) ++ [cI 1 (List.replicate 6 0)]).set a (cO 23 [.ref (a + 1), .null, .ref 0])) ++ [cI 1 (List.replicate 6 0)]).set a (cO 23 [.ref (a + 1), .ref (a + 2), .ref 0])) := ⟨_, rfl⟩
  refine xj_eq rfl rfl (show _ = H5 from by rw [hH5]; rfl) ?_
  have ln4 : ((((G.set a (cO 23 [.null, .null, .ref 0])) ++ [cI 1 (List.replicate 6 0)]).set a (cO 23 [.ref (a + 1), .null, .ref 0])) ++ [cI 1 (List.replicate 6 0)]).length = a + 3 := by simp [hGl]
  have ap : ∀ {i : Nat} {x : xC}, G[i]? = some x → i ≠ a → H5[i]? = some x := fun {i x} hx hi => by rw [hH5, gset (fun q => hi q.symm), List.getElem?_append_left (by rw [ln3]; have := (List.getElem?_eq_some_iff.mp hx).1; omega), gset (fun q => hi q.symm), List.getElem?_append_left (by rw [ln1]; have := (List.getElem?_eq_some_iff.mp hx).1; omega), gset (fun q => hi q.symm)]; exact hx
  have zA : H5[a]? = some (cO 23 [.ref (a + 1), .ref (a + 2), .ref 0]) := by rw [hH5]; exact gset_self kA4
  have zR : H5[a + 1]? = some (cI 1 (List.replicate 6 0)) := by rw [hH5, gset (by omega), List.getElem?_append_left (by omega), gset (by omega)]; have := app_at (G := (G.set a (cO 23 [.null, .null, .ref 0]))) (x := cI 1 (List.replicate 6 0)); rwa [ln1] at this
  have zR2 : H5[a + 2]? = some (cI 1 (List.replicate 6 0)) := by rw [hH5, gset (by omega)]; have := app_at (G := (((G.set a (cO 23 [.null, .null, .ref 0])) ++ [cI 1 (List.replicate 6 0)]).set a (cO 23 [.ref (a + 1), .null, .ref 0]))) (x := cI 1 (List.replicate 6 0)); rwa [ln3] at this
  have z0 := ap hO (by omega)
  have z4 := ap hN (by omega)
  have z25 := ap h25 (by omega)
  have z26 := ap h26 (by omega)
  have hE5 : cEx xa H5 := by
    obtain ⟨EL, e1, e2, e3⟩ := hEx
    refine ⟨EL, ap e1 (by omega), e2, fun k => (e3 k).mv fun b hb L hL hLl => ⟨L, ap hL (fun q => ?_), hLl⟩⟩
    have := hxG k b hb
    rw [q] at hL; rw [hL] at hA0; cases hA0
  have hf5 : gfa [0, 25, 26, a] G H5 := ⟨by rw [hH5, List.length_set, ln4]; omega, fun i hi hw => by
    obtain ⟨x, hx⟩ : ∃ x, G[i]? = some x := ⟨_, List.getElem?_eq_getElem hi⟩
    rw [hx]
    exact ap hx (fun q => hw (by rw [q]; simp))⟩
  refine xj_ic0 dX23_init_25 ?_
  refine xj_istn2 dX23_init_26 rfl ?_
  refine xj_eq rfl rfl (show H5 = H5.set 26 (cI 2 S00) from (gset_id z26).symm) ?_
  have lp : ∀ (K : Nat) (k : Nat) (S : List Int32), 120 - k < K → (k ≤ 120) → (S.length = 120) → (∀ i, i < k → S[i]? = some 0) → xJ E (yX23_init, cX23_init, 3, none, []) (xR 2 2 12) (xre (fun v_ G' => v_ = none ∧ cLi n d e a (rb n 0) [rb n 0] (S0 n) xa G' ∧ gfa [0, 25, 26, a] G G')) 0 0 27 [some (.ref a), some (.ref 0), some (.int (nI k))] [] (H5.set 26 (cI 2 S)) := by
    intro K
    induction K with
    | zero => intro k S h; exact absurd h (Nat.not_lt_zero _)
    | succ K ih_lp =>
      intro k S hK hk hS hSk
      refine xj_iload_n dX23_init_27 rfl ?_
      refine xj_bipush (v := 120) dX23_init_28 rfl ?_
      refine xj_icmp_ge (tgt := 46) dX23_init_30 rfl (fun c30 => ?_) (fun c30 => ?_)
      · have hkn : k = 120 := by have : 120 ≤ k := Nat.le_of_not_lt fun h => absurd c30 (nI_ge (b := 120) h (by omega)); omega
        subst hkn
        have eS : S = List.replicate 120 0 := rep_ext0 hS hSk
        subst eS
        have y0 : (H5.set 26 (cI 2 (List.replicate 120 0)))[0]? = some (cO 0 (cFs d)) := by rw [gset (by decide)]; exact z0
        refine xj_aload_n dX23_init_46 rfl rfl ?_
        refine xj_ic0 dX23_init_47 ?_
        refine xj_putN dX23_init_48 K0 28 (by decide) q499 rfl rfl y0 (Nat.le_of_ble_eq_true rfl) ?_
        obtain ⟨H6, hH6⟩ : ∃ H6, H6 = (H5.set 26 (cI 2 (List.replicate 120 0))).set 0 (cO 0 (cFs (cu d 28 (.int 0)))) := ⟨_, rfl⟩
        refine xj_eq rfl rfl (show _ = H6 from by rw [hH6]; rfl) ?_
        have w0 : H6[0]? = some (cO 0 (cFs (cu d 28 (.int 0)))) := by rw [hH6]; exact gset_self y0
        have w4 : H6[4]? = some (cO 3 (oFs e)) := by rw [hH6, gset (by decide), gset (by decide)]; exact z4
        have w25 : H6[25]? = some (cI 0 LL) := by rw [hH6, gset (by decide), gset (by decide)]; exact z25
        have w26 : H6[26]? = some (cI 2 (List.replicate 120 0)) := by rw [hH6, gset (by decide)]; exact gset_self z26
        have wA : H6[a]? = some (cO 23 [.ref (a + 1), .ref (a + 2), .ref 0]) := by rw [hH6, gset (by omega), gset (by omega)]; exact zA
        have wR : H6[a + 1]? = some (cI 1 (List.replicate 6 0)) := by rw [hH6, gset (by omega), gset (by omega)]; exact zR
        have wR2 : H6[a + 2]? = some (cI 1 (List.replicate 6 0)) := by rw [hH6, gset (by omega), gset (by omega)]; exact zR2
        have hv6 : cV (cu d 28 (.int 0)) e n H6 := ⟨w0, w4, hn0, h1n, hn6⟩
        have hE6 : cEx xa H6 := by rw [hH6]; exact (hE5.oth (x := cX) (fun k q => by have := hEx.big q; omega) (by decide)).oth (x := cX) (fun k q => by have := hEx.big q; omega) (by decide)
        have hf6 : gfa [0, 25, 26, a] G H6 := by rw [hH6]; exact (hf5.set (by simp)).set (by simp)
        refine xj_aload_n dX23_init_51 rfl rfl ?_
        refine xj_aload_n dX23_init_52 rfl rfl ?_
        refine xj_get dX23_init_53 K23 0 (by decide) q1418 wA rfl ?_
        refine xj_dVN dX23_init_56 q1411 kV_X0_first (A_first hv6 wR (by omega) (by omega) (by rw [List.length_replicate]; omega)) w0 rfl rfl rfl rfl (Nat.le_of_ble_eq_true rfl) ⟨(Nat.le_of_ble_eq_true rfl), (Nat.le_of_ble_eq_true rfl)⟩ (Nat.le_of_ble_eq_true rfl) (Nat.le_of_ble_eq_true rfl) ?_
        rintro _ _ ⟨rfl, L3, hL3, hL3R, rfl⟩
        rw [List.length_replicate] at hL3
        have hv7 : cV (cu d 28 (.int 0)) e n (H6.set (a + 1) (cI 1 L3)) := hv6.set (by omega) (by omega)
        have wA7 : (H6.set (a + 1) (cI 1 L3))[a]? = some (cO 23 [.ref (a + 1), .ref (a + 2), .ref 0]) := by rw [gset (by omega)]; exact wA
        refine xj_aload_n dX23_init_59 rfl rfl ?_
        refine xj_cV dX23_init_60 q1412 kV_X23_lists (A_lists (l := []) hv7 wA7 h82 (gset_self wR) hL3R hr0m hn5 (by rw [gset (by omega)]; exact w25) hLL (by rw [gset (by omega)]; exact w26) (List.length_replicate ..) rfl (by decide)) wA7 rfl rfl rfl rfl (Nat.le_of_ble_eq_true rfl) ⟨(Nat.le_of_ble_eq_true rfl), (Nat.le_of_ble_eq_true rfl)⟩ (Nat.le_of_ble_eq_true rfl) (Nat.le_of_ble_eq_true rfl) ?_
        refine xj_return dX23_init_63 rfl  ?_
        have q0 : ((((H6.set (a + 1) (cI 1 L3)).set 25 (cI 0 (LL.set ([] : List Nat).length (nI (rb n 0))))).set 26 (cI 2 ((List.replicate 120 0).set (rk n (rb n 0)) 1))).set 0 (cO 0 (cFs (cu (cu d 28 (.int 0)) 28 (.int (nI (([] : List Nat).length + 1)))))))[0]? = some (cO 0 (cFs (cu d 28 (.int (nI [rb n 0].length))))) := by rw [show cu (cu d 28 (.int 0)) 28 (.int (nI (([] : List Nat).length + 1))) = cu d 28 (.int (nI [rb n 0].length)) from cu_cu _ _ _ _]; exact gset_self (by rw [gset (by decide), gset (by decide), gset (by omega)]; exact w0)
        refine ⟨rfl, ⟨⟨q0, by rw [gset (by decide), gset (by decide), gset (by decide), gset (by omega)]; exact w4, hn0, h1n, hn6⟩, by rw [gset (by omega), gset (by omega), gset (by omega)]; exact wA7, ⟨L3, hL3, hL3R, by rw [gset (by omega), gset (by omega), gset (by omega)]; exact gset_self wR⟩, ⟨List.replicate 6 0, List.length_replicate .., by rw [gset (by omega), gset (by omega), gset (by omega), gset (by omega)]; exact wR2⟩, ⟨LL.set ([] : List Nat).length (nI (rb n 0)), by rw [List.length_set]; exact hLL, by rw [gset (by decide), gset (by decide)]; exact gset_self (by rw [gset (by omega)]; exact w25), fun i x hi => ?_⟩, ⟨by unfold S0; rw [List.length_set, List.length_replicate], by rw [gset (by decide)]; exact gset_self (by rw [gset (by decide), gset (by omega)]; exact w26)⟩, ?_, hr0m, S0_z n hn5 h1n, fun k => ⟨fun q => by have := hxG k a q; omega, fun q => by have := hxG k (a + 1) q; omega, fun q => by have := hxG k (a + 2) q; omega⟩⟩, ?_⟩
        · cases i with
          | zero => cases hi; exact List.getElem?_set_self (by show 0 < LL.length; omega)
          | succ i => cases hi
        · exact (((hE6.oth (x := cX) (fun k q => by have := hxG k (a + 1) q; omega) (by omega)).oth (x := cX) (fun k q => by have := hEx.big q; omega) (by decide)).oth (x := cX) (fun k q => by have := hEx.big q; omega) (by decide)).oth (x := cX) (fun k q => by have := hEx.big q; omega) (by decide)
        · refine ((((show gfa [0, 25, 26, a] G (H6.set (a + 1) (cI 1 L3)) from ⟨by rw [List.length_set]; exact hf6.1, fun i hi hw => by rw [gset (by omega)]; exact hf6.2 i hi hw⟩).set (by simp)).set (by simp)).set (by simp))
      · have hkn : k < 120 := Nat.lt_of_not_le fun h => c30 (nI_le (a := 120) h (by omega))
        refine xj_aload_n dX23_init_33 rfl rfl ?_
        refine xj_getN dX23_init_34 K0 27 (by decide) q497 (show (H5.set 26 (cI 2 S))[0]? = some (cO 0 (cFs d)) by rw [gset (by decide)]; exact z0) rfl ?_
        refine xj_iload_n dX23_init_37 rfl ?_
        refine xj_ic0 dX23_init_38 ?_
        refine xj_zast dX23_init_39 (gset_self z26) rfl (by omega) (by omega) rfl ?_
        rw [gset_set]
        refine xj_iinc2 (cst := 1) dX23_init_40 rfl rfl ?_
        rw [nI_1]
        refine xj_goto (tgt := 27) dX23_init_43 rfl ?_
        exact ih_lp (k + 1) (S.set k 0) (by omega) (by omega) (by rw [List.length_set]; exact hS) (fun i hi => set_lt0 (by omega) hSk hi)
  exact lp 121 0 S00 (by omega) (by omega) hS00 (fun i hi => absurd hi (Nat.not_lt_zero _))
end A44
