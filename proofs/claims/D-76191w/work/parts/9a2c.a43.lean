/-! ===== the class: the list; looking and listing ===== -/
set_option maxRecDepth 100000

theorem K23 : xcls 23 RX23 TX23 3 tyX23 := ⟨rfl, in_X23, tyX23_ok, nmX23⟩
def sgI (u : Bool) : Int := if u then 1 else -1
theorem sgI_b {D : Int32} {f : Nat} (u : Bool) (h : D.toInt = sgI u * (9 - (f : Int))) (hf : f ≤ 8) : -9 ≤ D.toInt ∧ D.toInt ≤ 9 := by
  cases u
  · have h : D.toInt = -1 * (9 - (f : Int)) := h; omega
  · have h : D.toInt = 1 * (9 - (f : Int)) := h; omega
theorem sgI_f {D : Int32} {f n p : Nat} (u : Bool) (h : D.toInt = sgI u * (9 - (f : Int))) (hin : 0 ≤ (p : Int) + D.toInt ∧ (p : Int) + D.toInt < n) (hp : p < n) (hn : n < 7) : 1 ≤ f := by
  cases u
  · have h : D.toInt = -1 * (9 - (f : Int)) := h; omega
  · have h : D.toInt = 1 * (9 - (f : Int)) := h; omega
theorem sgI_s {D : Int32} {f : Nat} (u : Bool) (h : D.toInt = sgI u * (9 - ((f + 1 : Nat) : Int))) (hf : f + 1 ≤ 8) : (D + sg u).toInt = sgI u * (9 - (f : Int)) := by
  have hb := sgI_b u h hf
  have e : (D + sg u).toInt = D.toInt + sgI u := by
    rw [Int32.toInt_add]
    cases u
    · rw [show (sg false).toInt = -1 from rfl]; exact Int.bmod_eq_of_le (by omega) (by omega)
    · rw [show (sg true).toInt = 1 from rfl]; exact Int.bmod_eq_of_le (by omega) (by omega)
  rw [e, h]
  cases u
  · show -1 * (9 - ((f + 1 : Nat) : Int)) + -1 = -1 * (9 - (f : Int)); omega
  · show 1 * (9 - ((f + 1 : Nat) : Int)) + 1 = 1 * (9 - (f : Int)); omega
theorem inC_jmp {p n : Nat} {D : Int32} (hp : p < n) (hn : n < 7) (hD : D.toInt ≤ 9) : inC (nI p + D) 0 (nI n - 1) = decide (0 ≤ (p : Int) + D.toInt ∧ (p : Int) + D.toInt < n) := by
  unfold inC
  rw [← Bool.decide_and]
  congr 1
  apply propext
  rw [Int32.le_iff_toInt_le, Int32.le_iff_toInt_le, nId_toInt (by omega) (by omega), show nI n - 1 = nI (n - 1) from nI_sub1 (by omega), nI_toInt (by omega)]
  have z : (0 : Int32).toInt = 0 := rfl
  rw [z]
  omega
theorem plc_of {n R v : Nat} (hn : n < 7) (hR : R ∈ rws n) (h1 : 1 ≤ v) (hv : v ≤ n) : plc n R v n 0 < n ∧ dgt n R (plc n R v n 0) = v := by
  have := f_plc n hn R hR (v - 1) (by omega)
  rwa [show v - 1 + 1 = v by omega] at this
theorem nI_n3 {n q : Nat} (hn : n < 7) (hq : q ∈ rws n) : nI q ≠ -3 := fun h => by
  have := congrArg Int32.toInt h
  rw [nI_toInt (R31 hn hq)] at this
  have z : (-3 : Int32).toInt = -3 := rfl
  omega
theorem b1_ne {n q : Nat} (hn : n < 7) (hq : q ∈ rws n) : some (Value.int 1) = some (Value.int (b1 (decide (nI q ≠ -3)))) := by rw [decide_eq_true (nI_n3 hn hq)]; rfl
theorem nr_out {n g R v f : Nat} {b D : Int32} (h : o_jumped n R v D = -3) : nrF n g R v b f D = -3 := by
  cases f with
  | zero => rfl
  | succ f => show (if _ ∨ _ then _ else _) = _; rw [if_pos (Or.inl h)]; exact h
theorem nr_yes {n g R v f q : Nat} {b D : Int32} (hn : n < 7) (hq : q ∈ rws n) (h : o_jumped n R v D = nI q) (hl : lst n g q = true) : nrF n g R v b (f + 1) D = nI q := by
  show (if _ ∨ _ then _ else _) = _
  rw [if_pos (Or.inr (by rw [h, tn_nI hn hq]; exact hl))]; exact h
theorem nr_no {n g R v f q : Nat} {b D : Int32} (hn : n < 7) (hq : q ∈ rws n) (h : o_jumped n R v D = nI q) (hl : lst n g q = false) : nrF n g R v b (f + 1) D = nrF n g R v b f (D + b) := by
  show (if _ ∨ _ then _ else _) = _
  rw [if_neg (fun c => by rcases c with c | c; (rw [h] at c; exact nI_n3 hn hq c); (rw [h, tn_nI hn hq, hl] at c; cases c))]
theorem fs_in {p n : Nat} (h1 : 1 ≤ p) (hp : p < n) : 0 ≤ (p : Int) + (sg false).toInt ∧ (p : Int) + (sg false).toInt < n := by
  rw [show (sg false).toInt = -1 from rfl]; omega
def dnC (n R : Nat) : Bool := (List.range n).all fun p => Nat.ble (dgt n R p) n
theorem f_dnC : ∀ n, n < 7 → ∀ R ∈ rws n, dnC n R = true := by decide +kernel
theorem mp_n {n R p t : Nat} (hn : n < 7) (_ : 1 ≤ n) (hR : R ∈ rws n) (hp : p < n) (ht : t < n) (hd : dgt n R p = n) : mpB n R p t = true := by
  have key : ∀ (k q : Nat), q + k ≤ n → lpN (mpI n R p) q k true = true := by
    intro k
    induction k with
    | zero => intro q _; rfl
    | succ k ih =>
      intro q hq
      show lpN _ (q + 1) k (mpI n R p q true) = true
      have : mpI n R p q true = true := by
        unfold mpI
        rw [hd, List.all_eq_true.mp (f_dnC n hn R hR) q (List.mem_range.mpr (by omega))]; rfl
      rw [this]
      exact ih (q + 1) (by omega)
  have hmx : Nat.max p t < n := Nat.max_lt.mpr ⟨hp, ht⟩
  exact key _ _ (by have : Nat.min p t ≤ Nat.max p t := Nat.le_trans (Nat.min_le_left ..) (Nat.le_max_left ..); omega)
section A43
variable {E : xE} {G : xH} {d e : Nat → Value} {n : Nat}
theorem A_looks {a R v g : Nat} {u : Bool} {L L2 : List Int32} {xa : Nat → Option Nat}  (hv : cV d e n G) (hn3 : e 3 = .long (lN g)) (hg : g < 2 ^ 64) (hA : G[a]? = some (cO 23 [.ref (a + 1), .ref (a + 2), .ref 0])) (h82 : 82 < a) (hL : G[a + 1]? = some (cI 1 L)) (hR : rwL n R L) (hRm : R ∈ rws n) (hL2 : G[a + 2]? = some (cI 1 L2)) (hl2 : L2.length = 6) (hEx : cEx xa G) (hxa : ∀ k, xa k ≠ some a) (hxr : ∀ k, xa k ≠ some (a + 1)) (hxr2 : ∀ k, xa k ≠ some (a + 2)) (hv1 : 1 ≤ v) (hvn : v ≤ n) : xMet E yX23_looks cX23_looks 5 (some FieldType.boolean) 4 (cx (xa n)) (6 * cx (xa n)) [.ref a, .int (nI v), .int (sg u)] G (xre (fun v_ G' => v_ = some (.int (b1 (decide ((nrs n g R v u) ≠ -3)))) ∧ ∃ xa', cEx xa' G' ∧ exN xa xa' G.length ∧ exFr xa [a + 2] G G' ∧ cx (xa' n) ≤ cx (xa n) ∧ (v = n → 1 ≤ plc n R v n 0 → u = false → ∃ b, xa' n = some b) ∧ ∃ M : List Int32, M.length = 6 ∧ G'[a + 2]? = some (cI 1 M) ∧ ((nrs n g R v u) ≠ -3 → rwL n (tn (nrs n g R v u)) M ∧ tn (nrs n g R v u) ∈ rws n))) := by
  obtain ⟨hO, hN, hn0, h1n, hn6⟩ := id hv
  have hal := (List.getElem?_eq_some_iff.mp hL2).1
  obtain ⟨hPn, hPd⟩ := plc_of (by omega) hRm hv1 hvn
  refine xMet.of (lv := [some (.ref a), some (.int (nI v)), some (.int (sg u)), none, none]) rfl rfl (Nat.le_of_ble_eq_true rfl) ?_
  refine xj_aload_n dX23_looks_0 rfl rfl ?_
  refine xj_get dX23_looks_1 K23 0 (by decide) q1418 hA rfl ?_
  refine xj_iload_n dX23_looks_4 rfl ?_
  refine xj_cSN dX23_looks_5 q1436 kS_X0_placeOf (A_placeOf hL hR (by omega) (by omega) hPn) rfl rfl (Nat.le_of_ble_eq_true rfl) ⟨(Nat.le_of_ble_eq_true rfl), (Nat.le_of_ble_eq_true rfl)⟩ (Nat.le_of_ble_eq_true rfl) (Nat.le_of_ble_eq_true rfl) ?_
  refine xj_istn3 dX23_looks_8 rfl ?_
  refine xj_iload_n dX23_looks_9 rfl ?_
  refine xj_ist4 dX23_looks_10 rfl ?_
  have lp : ∀ (K : Nat) (f : Nat) (D : Int32) (xb : Nat → Option Nat) (H : xH) (M : List Int32), f < K → (f ≤ 8) → (D.toInt = sgI u * (9 - (f : Int))) → (nrF n g R v (sg u) f D = (nrs n g R v u)) → (cEx xb H) → (exN xa xb G.length) → (exFr xa [a + 2] G H) → (cx (xb n) ≤ cx (xa n)) → ((f = 8 ∧ D = sg u) ∨ ∃ b, xb n = some b) → (M.length = 6) → (H[a + 2]? = some (cI 1 M)) → xJ E (yX23_looks, cX23_looks, 5, (some FieldType.boolean), []) (xR 4 (cx (xa n)) (6 * cx (xa n))) (xre (fun v_ G' => v_ = some (.int (b1 (decide ((nrs n g R v u) ≠ -3)))) ∧ ∃ xa', cEx xa' G' ∧ exN xa xa' G.length ∧ exFr xa [a + 2] G G' ∧ cx (xa' n) ≤ cx (xa n) ∧ (v = n → 1 ≤ plc n R v n 0 → u = false → ∃ b, xa' n = some b) ∧ ∃ M : List Int32, M.length = 6 ∧ G'[a + 2]? = some (cI 1 M) ∧ ((nrs n g R v u) ≠ -3 → rwL n (tn (nrs n g R v u)) M ∧ tn (nrs n g R v u) ∈ rws n))) (cx (xb n)) (6 * cx (xb n)) 12 [some (.ref a), some (.int (nI v)), some (.int (sg u)), some (.int (nI (plc n R v n 0))), some (.int D)] [] H := by
    intro K
    induction K with
    | zero => intro f D xb H M h; exact absurd h (Nat.not_lt_zero _)
    | succ K ih_lp =>
      intro f D xb H M hK hf8 hDf hs hE hxn hfr hcx hfs hM hMh
      have k0 : H[0]? = some (cO 0 (cFs d)) := (hfr.2.2 0 (by omega) (by rw [List.mem_singleton]; omega) (by decide) (fun k q => by have := hEx.big q; omega)).trans hO
      have k4 : H[4]? = some (cO 3 (oFs e)) := (hfr.2.2 4 (by omega) (by rw [List.mem_singleton]; omega) (by decide) (fun k q => by have := hEx.big q; omega)).trans hN
      have kA : H[a]? = some (cO 23 [.ref (a + 1), .ref (a + 2), .ref 0]) := (hfr.2.2 a (by omega) (by rw [List.mem_singleton]; omega) (by omega) hxa).trans hA
      have kR : H[a + 1]? = some (cI 1 L) := (hfr.2.2 (a + 1) (by omega) (by rw [List.mem_singleton]; omega) (by omega) hxr).trans hL
      have hvH : cV d e n H := ⟨k0, k4, hn0, h1n, hn6⟩
      have hxb : ∀ i, i < G.length → (∀ k, xa k ≠ some i) → ∀ k, xb k ≠ some i := fun i hi hk k q => hk k (exN_at hxn q hi)
      have hDb := sgI_b u hDf hf8
      refine xj_iload_n dX23_looks_12 rfl ?_
      refine xj_iload dX23_looks_13 rfl ?_
      refine xj_iadd dX23_looks_15 ?_
      refine xj_ic0 dX23_looks_16 ?_
      refine xj_aload_n dX23_looks_17 rfl rfl ?_
      refine xj_get dX23_looks_18 K23 2 (by decide) q1420 kA rfl ?_
      refine xj_getN dX23_looks_21 K0 4 (by decide) q472 k0 rfl ?_
      refine xj_getN dX23_looks_24 K3 0 (by decide) q320 k4 (congrArg some hn0) ?_
      refine xj_ic1 dX23_looks_27 ?_
      refine xj_isub dX23_looks_28 ?_
      refine xj_cSN dX23_looks_29 q1437 kS_X0_isIn A_isIn rfl rfl (Nat.le_of_ble_eq_true rfl) ⟨(Nat.le_of_ble_eq_true rfl), (Nat.le_of_ble_eq_true rfl)⟩ (Nat.le_of_ble_eq_true rfl) (Nat.le_of_ble_eq_true rfl) ?_
      rw [inC_jmp hPn (by omega) (by omega)]
      refine xj_if_eq (tgt := 91) dX23_looks_32 rfl (fun c32 => ?_) (fun c32 => ?_)
      · refine xj_ic0 dX23_looks_91 ?_
        exact xj_ireturn dX23_looks_92 rfl rfl (by first | exact (have hz : (nrs n g R v u) = -3 := (by rw [← hs]; exact nr_out (by rw [← hPd]; exact jmp_out (by omega) h1n hRm hPn (of_decide_eq_false (b1_z c32)))); ⟨by rw [hz]; rfl, xb, hE, hxn, hfr, hcx, fun e1 e2 e3 => hfs.resolve_left (fun q => by subst e3; rw [q.2] at c32; exact absurd (b1_z c32) (by rw [decide_eq_true (fs_in e2 hPn)]; decide)), M, hM, hMh, fun h => absurd hz h⟩) | exact (have hz : (nrs n g R v u) = -3 := (by rw [← hs]; exact nr_out (by rw [hoj, b1_z c45]; rfl)); ⟨by rw [hz]; rfl, xb, hE, hxn, hfr, hcx, fun e1 _ _ => absurd (b1_z c45) (by rw [mp_n (by omega) h1n hRm hPn ht (by rw [hPd]; exact e1)]; decide), M, hM, hMh, fun h => absurd hz h⟩))
      · have hin := of_decide_eq_true (b1_nz c32)
        obtain ⟨t, hDi⟩ : ∃ t : Nat, ((plc n R v n 0) : Int) + D.toInt = t := ⟨(((plc n R v n 0) : Int) + D.toInt).toNat, by omega⟩
        have ht : t < n := by omega
        have hDt : nI (plc n R v n 0) + D = nI t := jp_t hDi hPn ht (by omega)
        obtain ⟨f, rfl⟩ : ∃ f0, f = f0 + 1 := ⟨f - 1, by have := sgI_f u hDf hin hPn (by omega); omega⟩
        have hoj := jmp_in (by omega) h1n hRm hPn ht hDi
        rw [hPd] at hoj
        obtain ⟨-, hmv, -, -⟩ := jm_ok (by omega) h1n hRm hPn ht
        refine xj_aload_n dX23_looks_35 rfl rfl ?_
        refine xj_get dX23_looks_36 K23 0 (by decide) q1418 kA rfl ?_
        refine xj_iload_n dX23_looks_39 rfl ?_
        refine xj_iload dX23_looks_40 rfl ?_
        refine xj_cSN dX23_looks_42 q1438 kS_X0_mayPass (A_mayPass kR hR (by omega) hPn ht hDt) rfl rfl (Nat.le_of_ble_eq_true rfl) ⟨(Nat.le_of_ble_eq_true rfl), (Nat.le_of_ble_eq_true rfl)⟩ (Nat.le_of_ble_eq_true rfl) (Nat.le_of_ble_eq_true rfl) ?_
        refine xj_if_eq (tgt := 91) dX23_looks_45 rfl (fun c45 => ?_) (fun c45 => ?_)
        · refine xj_ic0 dX23_looks_91 ?_
          exact xj_ireturn dX23_looks_92 rfl rfl (by first | exact (have hz : (nrs n g R v u) = -3 := (by rw [← hs]; exact nr_out (by rw [← hPd]; exact jmp_out (by omega) h1n hRm hPn (of_decide_eq_false (b1_z c32)))); ⟨by rw [hz]; rfl, xb, hE, hxn, hfr, hcx, fun e1 e2 e3 => hfs.resolve_left (fun q => by subst e3; rw [q.2] at c32; exact absurd (b1_z c32) (by rw [decide_eq_true (fs_in e2 hPn)]; decide)), M, hM, hMh, fun h => absurd hz h⟩) | exact (have hz : (nrs n g R v u) = -3 := (by rw [← hs]; exact nr_out (by rw [hoj, b1_z c45]; rfl)); ⟨by rw [hz]; rfl, xb, hE, hxn, hfr, hcx, fun e1 _ _ => absurd (b1_z c45) (by rw [mp_n (by omega) h1n hRm hPn ht (by rw [hPd]; exact e1)]; decide), M, hM, hMh, fun h => absurd hz h⟩))
        · rw [b1_nz c45, if_pos rfl] at hoj
          refine xj_aload_n dX23_looks_48 rfl rfl ?_
          refine xj_get dX23_looks_49 K23 2 (by decide) q1420 kA rfl ?_
          refine xj_aload_n dX23_looks_52 rfl rfl ?_
          refine xj_get dX23_looks_53 K23 0 (by decide) q1418 kA rfl ?_
          refine xj_iload_n dX23_looks_56 rfl ?_
          refine xj_iload dX23_looks_57 rfl ?_
          refine xj_aload_n dX23_looks_59 rfl rfl ?_
          refine xj_get dX23_looks_60 K23 1 (by decide) q1419 kA rfl ?_
          refine xj_dVN dX23_looks_63 q1439 kV_X0_jumps (A_jumps (t := t) hvH hE kR hR hRm hPn hMh (by omega) (by omega) (by omega) (hxb _ (by omega) hxr) (hxb _ (by omega) hxr2) (by have := hfr.1; omega) ht hDi) k0 rfl rfl rfl rfl (Nat.le_of_ble_eq_true rfl) ⟨(Nat.le_of_ble_eq_true rfl), (Nat.le_of_ble_eq_true rfl)⟩ (Nat.le_refl _) (Nat.le_refl _) ?_
          rintro _ H2 ⟨rfl, ⟨xc, hE2, hxn2, hf2, a2, hxa2⟩, M2, hM2, hM2R, hH2⟩
          have hxn3 : exN xa xc G.length := hxn.tr hxn2 hfr.1
          have hfr3 : exFr xa [a + 2] G H2 := hfr.tr hf2 hxn (fun i hi => hi)
          have z0 : H2[0]? = some (cO 0 (cFs d)) := (hf2.2.2 0 (by have := hfr.1; omega) (by rw [List.mem_singleton]; omega) (by decide) (hxb 0 (by omega) (fun k q => by have := hEx.big q; omega))).trans k0
          have z4 : H2[4]? = some (cO 3 (oFs e)) := (hf2.2.2 4 (by have := hfr.1; omega) (by rw [List.mem_singleton]; omega) (by decide) (hxb 4 (by omega) (fun k q => by have := hEx.big q; omega))).trans k4
          have zA : H2[a]? = some (cO 23 [.ref (a + 1), .ref (a + 2), .ref 0]) := (hf2.2.2 a (by have := hfr.1; omega) (by rw [List.mem_singleton]; omega) (by omega) (hxb a (by omega) hxa)).trans kA
          have hv2 : cV d e n H2 := ⟨z0, z4, hn0, h1n, hn6⟩
          refine xj_aload_n dX23_looks_66 rfl rfl ?_
          refine xj_get dX23_looks_67 K23 2 (by decide) q1420 zA rfl ?_
          refine xj_aload_n dX23_looks_70 rfl rfl ?_
          refine xj_get dX23_looks_71 K23 1 (by decide) q1419 zA rfl ?_
          refine xj_cVN dX23_looks_74 q1440 kV_X0_isLeast (A_isLeast hv2 hn3 hg hH2 hM2R hmv) z0 rfl rfl rfl rfl (Nat.le_of_ble_eq_true rfl) ⟨(Nat.le_of_ble_eq_true rfl), (Nat.le_of_ble_eq_true rfl)⟩ (Nat.le_of_ble_eq_true rfl) (Nat.le_of_ble_eq_true rfl) ?_
          refine xj_if_eq (tgt := 82) dX23_looks_77 rfl (fun c77 => ?_) (fun c77 => ?_)
          · refine xj_iload dX23_looks_82 rfl ?_
            refine xj_iload_n dX23_looks_84 rfl ?_
            refine xj_iadd dX23_looks_85 ?_
            refine xj_ist4 dX23_looks_86 rfl ?_
            refine xj_goto (tgt := 12) dX23_looks_88 rfl ?_
            refine xj_wk (nc' := cx (xc n)) (ns' := 6 * cx (xc n)) (by rw [hxa2]; exact Nat.zero_le _) (by rw [hxa2]; exact Nat.zero_le _) ?_
            exact ih_lp f (D + sg u) xc H2 M2 (by omega) (by omega) (sgI_s u hDf hf8) (by rw [← hs]; exact (nr_no (by omega) hmv hoj (b1_z c77)).symm) hE2 hxn3 hfr3 (by rw [hxa2]; exact Nat.zero_le _) (Or.inr ⟨_, hxa2⟩) (by omega) hH2
          · refine xj_ic1 dX23_looks_80 ?_
            exact xj_ireturn dX23_looks_81 rfl rfl ⟨by rw [show (nrs n g R v u) = nI (mvN n R (plc n R v n 0) t) from by rw [← hs]; exact nr_yes (by omega) hmv hoj (b1_nz c77)]; exact b1_ne (by omega) hmv, xc, hE2, hxn3, hfr3, by rw [hxa2]; exact Nat.zero_le _, fun _ _ _ => ⟨_, hxa2⟩, M2, by omega, hH2, fun _ => by rw [show (nrs n g R v u) = nI (mvN n R (plc n R v n 0) t) from by rw [← hs]; exact nr_yes (by omega) hmv hoj (b1_nz c77), tn_nI (by omega) hmv]; exact ⟨hM2R, hmv⟩⟩
  exact lp 9 8 (sg u) xa G L2 (by omega) (by omega) (by cases u <;> rfl) rfl hEx (fun k => Or.inl rfl) exFr.refl (Nat.le_refl _) (Or.inl ⟨rfl, rfl⟩) hl2 hL2
theorem A_lists {a R : Nat} {l : List Nat} {L LL S : List Int32}  (hv : cV d e n G) (hA : G[a]? = some (cO 23 [.ref (a + 1), .ref (a + 2), .ref 0])) (h82 : 82 < a) (hL : G[a + 1]? = some (cI 1 L)) (hR : rwL n R L) (hRm : R ∈ rws n) (hn5 : n < 6) (h25 : G[25]? = some (cI 0 LL)) (hLL : LL.length = 120) (h26 : G[26]? = some (cI 2 S)) (hS : S.length = 120) (hd28 : d 28 = .int (nI l.length)) (hl : l.length < 120) : xMet E yX23_lists cX23_lists 1 none 1 0 0 [.ref a] G (xrv none (((G.set 25 (cI 0 (LL.set l.length (nI R)))).set 26 (cI 2 (S.set (rk n R) 1))).set 0 (cO 0 (cFs (cu d 28 (.int (nI (l.length + 1)))))))) := by
  obtain ⟨hO, hN, hn0, h1n, hn6⟩ := id hv
  have hrk := f_rk5 n hn5 R hRm
  refine xMet.of (lv := [some (.ref a)]) rfl rfl (Nat.le_of_ble_eq_true rfl) ?_
  refine xj_aload_n dX23_lists_0 rfl rfl ?_
  refine xj_get dX23_lists_1 K23 2 (by decide) q1420 hA rfl ?_
  refine xj_getN dX23_lists_4 K0 26 (by decide) q495 hO rfl ?_
  refine xj_aload_n dX23_lists_7 rfl rfl ?_
  refine xj_get dX23_lists_8 K23 2 (by decide) q1420 hA rfl ?_
  refine xj_getN dX23_lists_11 K0 28 (by decide) q499 hO (congrArg some hd28) ?_
  refine xj_aload_n dX23_lists_14 rfl rfl ?_
  refine xj_get dX23_lists_15 K23 2 (by decide) q1420 hA rfl ?_
  refine xj_aload_n dX23_lists_18 rfl rfl ?_
  refine xj_get dX23_lists_19 K23 0 (by decide) q1418 hA rfl ?_
  refine xj_cVN dX23_lists_22 q1416 kV_X0_told (A_told hv hL hR (f_tl n (by omega) R hRm)) hO rfl rfl rfl rfl (Nat.le_of_ble_eq_true rfl) ⟨(Nat.le_of_ble_eq_true rfl), (Nat.le_of_ble_eq_true rfl)⟩ (Nat.le_of_ble_eq_true rfl) (Nat.le_of_ble_eq_true rfl) ?_
  refine xj_iast dX23_lists_25 h25 rfl (by omega) (by omega) ?_
  have hv2 : cV d e n (G.set 25 (cI 0 (LL.set l.length (nI R)))) := hv.set (by decide) (by decide)
  obtain ⟨hO2, hN2, -⟩ := id hv2
  have hA2 : (G.set 25 (cI 0 (LL.set l.length (nI R))))[a]? = some (cO 23 [.ref (a + 1), .ref (a + 2), .ref 0]) := by rw [gset (by omega)]; exact hA
  have hL2 : (G.set 25 (cI 0 (LL.set l.length (nI R))))[a + 1]? = some (cI 1 L) := by rw [gset (by omega)]; exact hL
  refine xj_aload_n dX23_lists_26 rfl rfl ?_
  refine xj_get dX23_lists_27 K23 2 (by decide) q1420 hA2 rfl ?_
  refine xj_getN dX23_lists_30 K0 27 (by decide) q497 hO2 rfl ?_
  refine xj_aload_n dX23_lists_33 rfl rfl ?_
  refine xj_get dX23_lists_34 K23 2 (by decide) q1420 hA2 rfl ?_
  refine xj_aload_n dX23_lists_37 rfl rfl ?_
  refine xj_get dX23_lists_38 K23 0 (by decide) q1418 hA2 rfl ?_
  refine xj_cVN dX23_lists_41 q1417 kV_X0_rankOf (A_rankOf hv2 hL2 hR hRm) hO2 rfl rfl rfl rfl (Nat.le_of_ble_eq_true rfl) ⟨(Nat.le_of_ble_eq_true rfl), (Nat.le_of_ble_eq_true rfl)⟩ (Nat.le_of_ble_eq_true rfl) (Nat.le_of_ble_eq_true rfl) ?_
  refine xj_ic1 dX23_lists_44 ?_
  refine xj_zast dX23_lists_45 (show (G.set 25 (cI 0 (LL.set l.length (nI R))))[26]? = some (cI 2 S) by rw [gset (by decide)]; exact h26) rfl (by omega) (by omega) rfl ?_
  have hv3 : cV d e n ((G.set 25 (cI 0 (LL.set l.length (nI R)))).set 26 (cI 2 (S.set (rk n R) 1))) := hv2.set (by decide) (by decide)
  obtain ⟨hO3, hN3, -⟩ := id hv3
  have hA3 : ((G.set 25 (cI 0 (LL.set l.length (nI R)))).set 26 (cI 2 (S.set (rk n R) 1)))[a]? = some (cO 23 [.ref (a + 1), .ref (a + 2), .ref 0]) := by rw [gset (by omega)]; exact hA2
  refine xj_aload_n dX23_lists_46 rfl rfl ?_
  refine xj_get dX23_lists_47 K23 2 (by decide) q1420 hA3 rfl ?_
  refine xj_dup dX23_lists_50 rfl ?_
  refine xj_getN dX23_lists_51 K0 28 (by decide) q499 hO3 (congrArg some hd28) ?_
  refine xj_ic1 dX23_lists_54 ?_
  refine xj_iadd dX23_lists_55 ?_
  rw [nI_1]
  refine xj_putN dX23_lists_56 K0 28 (by decide) q499 rfl rfl hO3 (Nat.le_of_ble_eq_true rfl) ?_
  exact xj_return dX23_lists_59 rfl ⟨rfl, rfl⟩
end A43
