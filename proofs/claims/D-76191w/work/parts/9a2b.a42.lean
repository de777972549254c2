/-! ===== the class: jumps ===== -/
set_option maxRecDepth 100000
theorem kV_X0_jumps : xsV yX0_jumps cX0_jumps 6 none 4 := ⟨q726, qs22, q151, q727, by decide, by decide, by decide +kernel⟩
theorem kS_X0_mayPass : xsS yX0_mayPass cX0_mayPass 5 (some FieldType.boolean) 3 := ⟨q736, q151, q737, by decide, by decide, by decide +kernel⟩
theorem kS_X0_placeOf : xsS yX0_placeOf cX0_placeOf 3 (some FieldType.int) 2 := ⟨q722, q151, q723, by decide, by decide, by decide +kernel⟩
theorem cj_min {p t : Nat} (hp : p < 2 ^ 31) (ht : t < 2 ^ 31) : (if nI t < nI p then nI t else nI p) = nI (Nat.min p t) := by
  by_cases h : t < p
  · rw [if_pos (nI_lt h hp), show Nat.min p t = t from Nat.min_eq_right (Nat.le_of_lt h)]
  · rw [if_neg (Int32.not_lt.mpr (nI_le (Nat.le_of_not_lt h) ht)), show Nat.min p t = p from Nat.min_eq_left (Nat.le_of_not_lt h)]
theorem cj_max {p t : Nat} (hp : p < 2 ^ 31) (ht : t < 2 ^ 31) : (if nI p < nI t then nI t else nI p) = nI (Nat.max p t) := by
  by_cases h : p < t
  · rw [if_pos (nI_lt h ht), show Nat.max p t = t from Nat.max_eq_right (Nat.le_of_lt h)]
  · rw [if_neg (Int32.not_lt.mpr (nI_le (Nat.le_of_not_lt h) hp)), show Nat.max p t = p from Nat.max_eq_left (Nat.le_of_not_lt h)]
theorem c_ble {a b : Nat} (hb : b < 10) (ha : a < 10) : (if nI b < nI a then (0 : Int32) else 1) = b1 (Nat.ble a b) := by
  by_cases h : b < a
  · rw [if_pos (nI_lt h (by omega)), show Nat.ble a b = false from by cases c : Nat.ble a b; rfl; exact absurd (Nat.le_of_ble_eq_true c) (by omega)]; rfl
  · rw [if_neg (Int32.not_lt.mpr (nI_le (by omega) (by omega))), show Nat.ble a b = true from Nat.ble_eq_true_of_le (by omega)]; rfl
theorem b1_an (s t : Bool) : b1 s &&& b1 t = b1 (s && t) := by cases s <;> cases t <;> rfl
/-- how many rows of just as many numbers are still to be made -/
def cx (o : Option Nat) : Nat := match o with
  | none => 1
  | some _ => 0
theorem cx_le (o : Option Nat) : cx o ≤ 1 := by cases o with
  | none => exact Nat.le_refl _
  | some _ => exact Nat.zero_le _
/-- rows of just as many numbers -/
def cEx1 (o : Option Nat) (EL : List Value) (k : Nat) (G : xH) : Prop := match o with
  | none => k < 7 → EL[k]? = some .null
  | some a => EL[k]? = some (.ref a) ∧ 82 < a ∧ ∃ L : List Int32, G[a]? = some (cI 1 L) ∧ L.length = k
def cEx (xa : Nat → Option Nat) (G : xH) : Prop := ∃ EL : List Value, G[17]? = some (cR 10 EL) ∧ EL.length = 7 ∧ ∀ k, cEx1 (xa k) EL k G
def xaU (xa : Nat → Option Nat) (n a : Nat) : Nat → Option Nat := fun k => if k = n then some a else xa k
def exN (xa xa' : Nat → Option Nat) (N : Nat) : Prop := ∀ k, xa' k = xa k ∨ (xa k = none ∧ ∃ a, xa' k = some a ∧ N ≤ a)
def exFr (xa : Nat → Option Nat) (W : List Nat) (G G' : xH) : Prop := G.length ≤ G'.length ∧ gsm G G' ∧ ∀ i, i < G.length → i ∉ W → i ≠ 17 → (∀ k, xa k ≠ some i) → G'[i]? = G[i]?
theorem exFr.refl {xa : Nat → Option Nat} {W : List Nat} {G : xH} : exFr xa W G G := ⟨Nat.le_refl _, gsm.refl, fun _ _ _ _ _ => rfl⟩
theorem cEx1.mv {o : Option Nat} {EL : List Value} {k : Nat} {G G' : xH} (h : cEx1 o EL k G) (hm : ∀ a, o = some a → ∀ L : List Int32, G[a]? = some (cI 1 L) → L.length = k → ∃ L' : List Int32, G'[a]? = some (cI 1 L') ∧ L'.length = k) : cEx1 o EL k G' := by
  cases o with
  | none => exact h
  | some a =>
    obtain ⟨h1, h2, L, h3, h4⟩ := h
    obtain ⟨L', h5, h6⟩ := hm a rfl L h3 h4
    exact ⟨h1, h2, L', h5, h6⟩
theorem cEx.wr1 {xa : Nat → Option Nat} {H : xH} {n a : Nat} {L' : List Int32} (h : cEx xa H) (hxa : xa n = some a) (hl : L'.length = n) (hn : n < 7) : cEx xa (H.set a (cI 1 L')) := by
  obtain ⟨EL, h1, h2, h3⟩ := h
  have hn3 := h3 n
  rw [hxa] at hn3
  obtain ⟨q1, q2, L0, q3, q4⟩ := hn3
  refine ⟨EL, by rw [gset (by omega)]; exact h1, h2, fun k => (h3 k).mv fun b hb L hL hLl => ?_⟩
  by_cases e : a = b
  · subst e
    refine ⟨L', gset_self q3, ?_⟩
    have e0 : cI 1 L0 = cI 1 L := Option.some.inj (q3.symm.trans hL)
    cases e0
    omega
  · exact ⟨L, by rw [gset e]; exact hL, hLl⟩
theorem cEx.oth {xa : Nat → Option Nat} {H : xH} {r : Nat} {x y : xC} (h : cEx xa H) (hr : ∀ k, xa k ≠ some r) (h17 : r ≠ 17) : cEx xa (H.set r y) := by
  obtain ⟨EL, h1, h2, h3⟩ := h
  refine ⟨EL, by rw [gset h17]; exact h1, h2, fun k => (h3 k).mv fun b hb L hL hLl => ⟨L, by rw [gset (fun e => hr k (by rw [hb, e]))]; exact hL, hLl⟩⟩
theorem cEx.n17 {xa : Nat → Option Nat} {H : xH} {r : Nat} {L : List Int32} {t : Nat} (h : cEx xa H) (hr : H[r]? = some (cI t L)) : r ≠ 17 := by
  obtain ⟨EL, h1, _, _⟩ := h
  intro e
  rw [e, h1] at hr
  cases hr
theorem cEx.wr {xa : Nat → Option Nat} {H : xH} {n a r2 : Nat} {L' L2 : List Int32} {y : xC} (h : cEx xa H) (hxa : xa n = some a) (hl : L'.length = n) (hn : n < 7) (hr : ∀ k, xa k ≠ some r2) (hr2 : H[r2]? = some (cI 1 L2)) : cEx xa ((H.set a (cI 1 L')).set r2 y) :=
  (h.wr1 hxa hl hn).oth (x := y) hr (h.n17 hr2)
theorem cEx.app {xa : Nat → Option Nat} {H K : xH} (h : cEx xa H) : cEx xa (H ++ K) := by
  obtain ⟨EL, h1, h2, h3⟩ := h
  have ap : ∀ {i : Nat} {x : xC}, H[i]? = some x → (H ++ K)[i]? = some x := fun hx => by rw [List.getElem?_append_left (List.getElem?_eq_some_iff.mp hx).1]; exact hx
  exact ⟨EL, ap h1, h2, fun k => (h3 k).mv fun b hb L hL hLl => ⟨L, ap hL, hLl⟩⟩
theorem exN_at {xa xa' : Nat → Option Nat} {N n a : Nat} (h : exN xa xa' N) (hxa : xa' n = some a) (ha : a < N) : xa n = some a := by
  rcases h n with q | ⟨q1, b, q2, q3⟩
  · rw [← q]; exact hxa
  · rw [hxa] at q2; cases q2; omega
theorem exFr.wr1 {xa xa' : Nat → Option Nat} {W : List Nat} {G H : xH} {n a : Nat} {La0 L' : List Int32} (h : exFr xa W G H) (hxa : xa' n = some a) (hx : exN xa xa' G.length) (ha : H[a]? = some (cI 1 La0)) (hl0 : La0.length = n) (hl : L'.length = n) : exFr xa W G (H.set a (cI 1 L')) := by
  obtain ⟨h1, h2, h3⟩ := h
  refine ⟨by rw [List.length_set]; exact h1, h2.set ha ⟨L', rfl, hl.trans hl0.symm⟩, fun i hi hw h17 hk => ?_⟩
  rw [gset (fun e => hk n (by rw [← e]; exact exN_at hx hxa (by rw [e]; exact hi)))]
  exact h3 i hi hw h17 hk
theorem exFr.wr {xa xa' : Nat → Option Nat} {G H : xH} {n a r2 : Nat} {La0 L' L2 M2 : List Int32} (h : exFr xa [] G H) (hxa : xa' n = some a) (hx : exN xa xa' G.length) (ha : H[a]? = some (cI 1 La0)) (hl0 : La0.length = n) (hl : L'.length = n) (har : a ≠ r2) (hr2 : H[r2]? = some (cI 1 L2)) (hm : M2.length = L2.length) : exFr xa [r2] G ((H.set a (cI 1 L')).set r2 (cI 1 M2)) := by
  obtain ⟨h1, h2, h3⟩ := h.wr1 hxa hx ha hl0 hl
  refine ⟨by rw [List.length_set]; exact h1, h2.set (x := cI 1 L2) (by rw [gset har]; exact hr2) ⟨M2, rfl, hm⟩, fun i hi hw h17 hk => ?_⟩
  rw [gset (fun e => hw (by rw [e]; exact List.mem_cons_self))]
  exact h3 i hi (by intro q; cases q) h17 hk
theorem exFr.app {xa : Nat → Option Nat} {W : List Nat} {G H K : xH} (h : exFr xa W G H) : exFr xa W G (H ++ K) := by
  obtain ⟨h1, h2, h3⟩ := h
  exact ⟨by rw [List.length_append]; omega, h2.apps, fun i hi hw h17 hk => by rw [List.getElem?_append_left (by omega)]; exact h3 i hi hw h17 hk⟩
theorem exN_new {xa : Nat → Option Nat} {n N : Nat} (hx : xa n = none) : exN xa (xaU xa n N) N := fun k => by
  unfold xaU
  by_cases e : k = n
  · rw [if_pos e]; exact Or.inr ⟨by rw [e]; exact hx, N, rfl, Nat.le_refl _⟩
  · rw [if_neg e]; exact Or.inl rfl
theorem exFr_new {xa : Nat → Option Nat} {n : Nat} {G : xH} {EL EL' : List Value} {x : xC} (_ : xa n = none) (h17 : G[17]? = some (cR 10 EL)) : exFr xa [] G ((G ++ [x]).set 17 (cR 10 EL')) :=
  ⟨by rw [List.length_set, List.length_append]; omega, (gsm.refl.apps).oth (ndyn_42 (by decide)), fun i hi _ h17 _ => by rw [gset (fun e => h17 e.symm), List.getElem?_append_left hi]⟩
theorem cEx.new {xa : Nat → Option Nat} {n : Nat} {G : xH} {EL : List Value} (h : cEx xa G) (_ : xa n = none) (h17 : G[17]? = some (cR 10 EL)) (h82 : 82 < G.length) (hn : n < 7) : cEx (xaU xa n G.length) ((G ++ [cI 1 (List.replicate n 0)]).set 17 (cR 10 (EL.set n (.ref G.length)))) := by
  obtain ⟨EL0, h1, h2, h3⟩ := h
  have e0 : cR 10 EL0 = cR 10 EL := Option.some.inj (h1.symm.trans h17)
  cases e0
  refine ⟨EL.set n (.ref G.length), gset_self (by rw [List.getElem?_append_left (by omega)]; exact h17), by rw [List.length_set]; exact h2, fun k => ?_⟩
  unfold xaU
  by_cases e : k = n
  · subst e
    rw [if_pos rfl]
    exact ⟨List.getElem?_set_self (by omega), h82, List.replicate k 0, by rw [gset (by omega)]; exact app_at, List.length_replicate ..⟩
  · rw [if_neg e]
    have hk3 := h3 k
    cases ho : xa k with
    | none => rw [ho] at hk3; exact (fun hk => by rw [List.getElem?_set_ne (fun q => e q.symm)]; exact hk3 hk : k < 7 → (EL.set n (.ref G.length))[k]? = some .null)
    | some b =>
      rw [ho] at hk3
      obtain ⟨b1, b2, L, b3, b4⟩ := hk3
      exact ⟨by rw [List.getElem?_set_ne (fun q => e q.symm)]; exact b1, b2, L, by rw [gset (by omega), List.getElem?_append_left (List.getElem?_eq_some_iff.mp b3).1]; exact b3, b4⟩
theorem cV.apps {d e : Nat → Value} {n : Nat} {G K : xH} (h : cV d e n G) (_ : 4 < G.length) : cV d e n (G ++ K) :=
  ⟨by rw [List.getElem?_append_left (by omega)]; exact h.1, by rw [List.getElem?_append_left (by omega)]; exact h.2.1, h.2.2⟩
theorem mvd_le {n R p t q : Nat} (h : p ≤ t) : mvd n R p t q = if q < p then dgt n R q else if q < t then dgt n R (q + 1) else if q = t then dgt n R p else dgt n R q := by
  unfold mvd
  rw [if_pos (Nat.ble_eq_true_of_le h)]
  simp only [Nat.blt_eq, Nat.beq_eq]
theorem mvd_gt {n R p t q : Nat} (h : t < p) : mvd n R p t q = if q < t then dgt n R q else if q = t then dgt n R p else if q ≤ p then dgt n R (q - 1) else dgt n R q := by
  unfold mvd
  rw [if_neg (fun c => absurd (Nat.le_of_ble_eq_true c) (by omega))]
  simp only [Nat.blt_eq, Nat.beq_eq, Nat.ble_eq]
theorem rwL_gD {n R q : Nat} {L : List Int32} (h : rwL n R L) (hq : q < n) : L.getD q 0 = nI (dgt n R q) := by rw [List.getD_eq_getElem?_getD, h q hq]; rfl
theorem rwL_mv1 {n R p t : Nat} {L : List Int32} (hn : n < 7) (h1 : 1 ≤ n) (hR : R ∈ rws n) (hp : p < n) (ht : t < n) (hlt : p < t) (hl : L.length = n) (hL : rwL n R L) : rwL n (mvN n R p t) ((cpL L L (p + 1) p (t - p)).set t (nI (dgt n R p))) := by
  intro q hq
  rw [(jm_ok hn h1 hR hp ht).2.2.2 q hq, mvd_le (Nat.le_of_lt hlt)]
  by_cases e : q = t
  · subst e
    rw [List.getElem?_set_self (by rw [cpL_len]; omega), if_neg (by omega), if_neg (by omega), if_pos rfl]
  · rw [List.getElem?_set_ne (fun c => e c.symm), cpL_at (by omega)]
    by_cases c : p ≤ q ∧ q < p + (t - p)
    · rw [if_pos c, if_neg (by omega), if_pos (by omega), show p + 1 + (q - p) = q + 1 by omega, rwL_gD hL (by omega)]
    · rw [if_neg c, rwL_gD hL hq]
      by_cases c2 : q < p
      · rw [if_pos c2]
      · rw [if_neg c2, if_neg (by omega), if_neg e]
theorem rwL_mv2 {n R p t : Nat} {L : List Int32} (hn : n < 7) (h1 : 1 ≤ n) (hR : R ∈ rws n) (hp : p < n) (ht : t < n) (hlt : t < p) (hl : L.length = n) (hL : rwL n R L) : rwL n (mvN n R p t) ((cpL L L t (t + 1) (p - t)).set t (nI (dgt n R p))) := by
  intro q hq
  rw [(jm_ok hn h1 hR hp ht).2.2.2 q hq, mvd_gt hlt]
  by_cases e : q = t
  · subst e
    rw [List.getElem?_set_self (by rw [cpL_len]; omega), if_neg (by omega), if_pos rfl]
  · rw [List.getElem?_set_ne (fun c => e c.symm), cpL_at (by omega)]
    by_cases c : t + 1 ≤ q ∧ q < t + 1 + (p - t)
    · rw [if_pos c, if_neg (by omega), if_neg e, if_pos (by omega), show t + (q - (t + 1)) = q - 1 by omega, rwL_gD hL (by omega)]
    · rw [if_neg c, rwL_gD hL hq]
      by_cases c2 : q < t
      · rw [if_pos c2]
      · rw [if_neg c2, if_neg e, if_neg (by omega)]
theorem rwL_mv0 {n R p t : Nat} {L : List Int32} (hn : n < 7) (h1 : 1 ≤ n) (hR : R ∈ rws n) (hp : p < n) (ht : t < n) (he : t = p) (hl : L.length = n) (hL : rwL n R L) : rwL n (mvN n R p t) (L.set t (nI (dgt n R p))) := by
  subst he
  intro q hq
  rw [(jm_ok hn h1 hR hp hp).2.2.2 q hq, mvd_le (Nat.le_refl _)]
  by_cases e : q = t
  · subst e
    rw [List.getElem?_set_self (by omega), if_neg (by omega), if_neg (by omega), if_pos rfl]
  · rw [List.getElem?_set_ne (fun c => e c.symm), hL q hq]
    by_cases c2 : q < t
    · rw [if_pos c2]
    · rw [if_neg c2, if_neg c2, if_neg e]
theorem nId_toInt {p : Nat} {D : Int32} (hp : p < 7) (h : (p : Int) + D.toInt < 2147483648) : (nI p + D).toInt = (p : Int) + D.toInt := by
  rw [Int32.toInt_add, nI_toInt (by omega)]
  have h1 := Int32.le_toInt D
  exact Int.bmod_eq_of_le (by omega) (by omega)
theorem jp_t {p t n : Nat} {D : Int32} (h : (p : Int) + D.toInt = t) (hp : p < n) (ht : t < n) (hn : n < 7) : nI p + D = nI t := by
  apply Int32.toInt_inj.mp
  rw [nId_toInt (by omega) (by omega), h, nI_toInt (by omega)]
theorem i_pos {D : Int32} : 0 < D ↔ 0 < D.toInt := Int32.lt_iff_toInt_lt
theorem i_neg {D : Int32} : D < 0 ↔ D.toInt < 0 := Int32.lt_iff_toInt_lt
theorem jp_gt {p t : Nat} {D : Int32} (h : (p : Int) + D.toInt = t) (hD : 0 < D) : p < t := by have := i_pos.mp hD; omega
theorem jp_lt {p t : Nat} {D : Int32} (h : (p : Int) + D.toInt = t) (hD : D < 0) : t < p := by have := i_neg.mp hD; omega
theorem jp_N {p t : Nat} {D : Int32} (h : (p : Int) + D.toInt = t) (hlt : p < t) (ht : t < 7) : D = nI (t - p) := by
  apply Int32.toInt_inj.mp
  rw [nI_toInt (by omega)]; omega
theorem jp_M {p t : Nat} {D : Int32} (h : (p : Int) + D.toInt = t) (hlt : t < p) (hp : p < 7) : -D = nI (p - t) := by
  apply Int32.toInt_inj.mp
  rw [Int32.toInt_neg, nI_toInt (by omega)]
  rw [Int.bmod_eq_of_le (by omega) (by omega)]; omega
theorem jp_eq {p t : Nat} {D : Int32} (h : (p : Int) + D.toInt = t) (h1 : D ≤ 0) (h2 : 0 ≤ D) : t = p := by
  have a1 : D.toInt ≤ 0 := Int32.le_iff_toInt_le.mp h1
  have a2 : 0 ≤ D.toInt := Int32.le_iff_toInt_le.mp h2
  omega
theorem jp_z {p n : Nat} {D : Int32} (h1 : D ≤ 0) (h2 : 0 ≤ D) (hp : p < n) : 0 ≤ (p : Int) + D.toInt ∧ (p : Int) + D.toInt < n := by
  have a1 : D.toInt ≤ 0 := Int32.le_iff_toInt_le.mp h1
  have a2 : 0 ≤ D.toInt := Int32.le_iff_toInt_le.mp h2
  omega
theorem jo_1 {p n : Nat} {D : Int32} (hp : p < n) (hn : n < 7) (h : ¬ (0 ≤ (p : Int) + D.toInt ∧ (p : Int) + D.toInt < n)) (hD : 0 < D) : cOut (nI p + 1) (nI p) D n n := by
  have h1 := i_pos.mp hD
  rw [nI_1]
  refine Or.inr (Or.inr (Or.inr (Or.inl ?_)))
  rw [nI_toInt (by omega)]; omega
theorem jo_2 {p n : Nat} {D : Int32} (hp : p < n) (hn : n < 7) (h : ¬ (0 ≤ (p : Int) + D.toInt ∧ (p : Int) + D.toInt < n)) (hD : D < 0) : cOut (nI p + D) (nI p + D + 1) (-D) n n := by
  have h1 := i_neg.mp hD
  refine Or.inl (i_neg.mpr ?_)
  rw [nId_toInt (by omega) (by omega)]; omega
theorem cEx.big {xa : Nat → Option Nat} {G : xH} {k a : Nat} (h : cEx xa G) (hx : xa k = some a) : 82 < a := by
  obtain ⟨EL, h1, h2, h3⟩ := h
  have := h3 k
  rw [hx] at this
  exact this.2.1
theorem exFr.mono {xa : Nat → Option Nat} {W V : List Nat} {G H : xH} (h : exFr xa W G H) (hs : ∀ i ∈ W, i ∈ V) : exFr xa V G H := ⟨h.1, h.2.1, fun i hi hw => h.2.2 i hi (fun q => hw (hs i q))⟩
/-- behind a call that jumps: scratch, and the rows of just as many numbers -/
def cJx (d : Nat → Value) (xa : Nat → Option Nat) (G G' : xH) : Prop := ∃ d' xa', (∀ i, i ∉ [18, 19, 22, 28] → d' i = d i) ∧ sIn d' ∧ G'[0]? = some (cO 0 (cFs d')) ∧ scr G' ∧ cEx xa' G' ∧ exN xa xa' G.length ∧ exFr xa WS G G'
theorem inC_in1 {v : Int32} {n : Nat} (hn : n < 7) : inC v 1 (nI n) = in1 v n := by
  unfold inC in1
  rw [← Bool.decide_and]
  congr 1
  apply propext
  rw [Int32.le_iff_toInt_le, Int32.le_iff_toInt_le, nI_toInt (by omega)]
  exact Iff.rfl
theorem rw_lt {n R : Nat} (hn : n < 7) (h : R ∈ rws n) : R < 10 ^ n := f_tl n hn R h
theorem scr.mvx {G H : xH} (h : scr G) (h12 : ∃ M : List Int32, M.length = 6 ∧ H[12]? = some (cI 1 M)) (hk : ∀ i, i ∈ [11, 13, 14, 15, 16, 20, 21, 22, 23, 24, 25, 26] → H[i]? = G[i]?) : scr H := by
  obtain ⟨⟨q1, F, f1, f2⟩, q2, ⟨A, a1, a2⟩, ⟨B, b1, b2⟩⟩ := h
  refine ⟨⟨fun i i1 i2 => ?_, F, f1, by rw [hk 21 (by decide)]; exact f2⟩, fun i i1 i2 => ?_, ⟨A, a1, by rw [hk 26 (by decide)]; exact a2⟩, ⟨B, b1, by rw [hk 20 (by decide)]; exact b2⟩⟩
  · by_cases e : i = 12
    · rw [e]; exact h12
    · rw [hk i (by simp only [List.mem_cons, List.not_mem_nil, or_false]; omega)]; exact q1 i i1 i2
  · rw [hk i (by simp only [List.mem_cons, List.not_mem_nil, or_false]; omega)]; exact q2 i i1 i2
theorem cJx.row {d e : Nat → Value} {n : Nat} {xa : Nat → Option Nat} {G : xH} {M : List Int32} (hv : cV d e n G) (hs : sIn d) (hc : scr G) (hEx : cEx xa G) (hM : M.length = 6) : cJx d xa G (G.set 11 (cI 1 M)) := by
  obtain ⟨L, hl, h11⟩ := hc.at (r := 11) (by decide) (by decide)
  exact ⟨d, xa, fun _ _ => rfl, hs, by rw [gset (by decide)]; exact hv.1, hc.row (by decide) (by decide) hM, hEx.oth (x := cI 1 M) (fun k q => by have := hEx.big q; omega) (by decide), fun k => Or.inl rfl, by rw [List.length_set]; exact Nat.le_refl _, gsm.refl.oth (ndyn_42 (by decide)), fun i _ hw _ _ => gset (fun q => hw (by rw [← q]; decide))⟩
theorem exN.tr {xa xb xc : Nat → Option Nat} {N M : Nat} (h1 : exN xa xb N) (h2 : exN xb xc M) (hNM : N ≤ M) : exN xa xc N := fun k => by
  rcases h1 k with e1 | ⟨e1, a, e2, e3⟩
  · rcases h2 k with q1 | ⟨q1, b, q2, q3⟩
    · exact Or.inl (q1.trans e1)
    · exact Or.inr ⟨by rw [← e1]; exact q1, b, q2, by omega⟩
  · rcases h2 k with q1 | ⟨q1, b, q2, q3⟩
    · exact Or.inr ⟨e1, a, q1.trans e2, e3⟩
    · rw [e2] at q1; cases q1
theorem exFr.tr {xa xb : Nat → Option Nat} {W V : List Nat} {G H K : xH} (h1 : exFr xa W G H) (h2 : exFr xb V H K) (hx : exN xa xb G.length) (hV : ∀ i ∈ V, i ∈ W) : exFr xa W G K := by
  obtain ⟨a1, a2, a3⟩ := h1
  obtain ⟨b1, b2, b3⟩ := h2
  refine ⟨by omega, a2.trans b2, fun i hi hw h17 hk => (b3 i (by omega) (fun q => hw (hV i q)) h17 (fun k q => hk k (exN_at hx q hi))).trans (a3 i hi hw h17 hk)⟩
theorem cJx.tr {d : Nat → Value} {xa xb : Nat → Option Nat} {G H : xH} {M1 M2 : List Int32} (h : cJx d xa G (G.set 11 (cI 1 M1))) (hf : exFr xa [12] (G.set 11 (cI 1 M1)) H) (hx : exN xa xb (G.set 11 (cI 1 M1)).length) (hE : cEx xb H) (h0 : H[0]? = some (cO 0 (cFs d))) (hM : M2.length = 6) (h12 : H[12]? = some (cI 1 M2)) (hEx : cEx xa G) (hs : sIn d) (hl : 82 < G.length) : cJx d xa G H := by
  obtain ⟨d', xa', p1, p2, p3, p4, p5, p6, p7⟩ := h
  rw [List.length_set] at hx
  refine ⟨d, xb, fun _ _ => rfl, hs, h0, p4.mvx ⟨M2, hM, h12⟩ (fun i hi => hf.2.2 i ?_ ?_ ?_ (fun k q => ?_)), hE, hx, ?_⟩
  · rw [List.length_set]; simp only [List.mem_cons, List.not_mem_nil, or_false] at hi; omega
  · intro q; rw [List.mem_singleton] at q; subst q; exact absurd hi (by decide)
  · intro q; subst q; exact absurd hi (by decide)
  · have := hEx.big q; simp only [List.mem_cons, List.not_mem_nil, or_false] at hi; omega
  · refine exFr.tr (xb := xa) p7 hf (fun k => Or.inl rfl) (fun i hi => ?_)
    rw [List.mem_singleton] at hi; subst hi; decide
section A42
variable {E : xE} {G : xH} {d e : Nat → Value} {n : Nat}
theorem A_mayPass {r R p t : Nat} {D : Int32} {L : List Int32}  (hL : G[r]? = some (cI 1 L)) (hR : rwL n R L) (hn7 : n < 7) (hp : p < n) (ht : t < n) (hD : nI p + D = nI t) : xMet E yX0_mayPass cX0_mayPass 5 (some FieldType.boolean) 0 0 0 [.ref r, .int (nI p), .int D] G (xrv (some (.int (b1 (mpB n R p t)))) G) := by
  have hmx : (Nat.max p t) < n := by have := Nat.max_lt.mpr ⟨hp, ht⟩; exact this
  have hmn : (Nat.min p t) ≤ (Nat.max p t) := Nat.le_trans (Nat.min_le_left ..) (Nat.le_max_left ..)
  refine xMet.of (lv := [some (.ref r), some (.int (nI p)), some (.int D), none, none]) rfl rfl (Nat.le_of_ble_eq_true rfl) ?_
  refine xj_ic1 dX0_mayPass_0 ?_
  refine xj_istn3 dX0_mayPass_1 rfl ?_
  refine xj_iload_n dX0_mayPass_2 rfl ?_
  refine xj_iload_n dX0_mayPass_3 rfl ?_
  refine xj_iload_n dX0_mayPass_4 rfl ?_
  refine xj_iadd dX0_mayPass_5 ?_
  rw [hD]
  refine xj_mmin dX0_mayPass_6 q738 qMminS qMI qMminC (Nat.le_of_ble_eq_true rfl) ⟨Nat.le_of_ble_eq_true rfl, Nat.le_of_ble_eq_true rfl⟩ ?_
  refine xj_top (cj_min (by omega) (by omega)) ?_
  refine xj_ist4 dX0_mayPass_9 rfl ?_
  have lp : ∀ (K : Nat) (q : Nat) (s : Bool), (Nat.max p t) + 1 - q < K → ((Nat.min p t) ≤ q) → (q ≤ (Nat.max p t) + 1) → (lpN (mpI n R p) q ((Nat.max p t) + 1 - q) s = mpB n R p t) → xJ E (yX0_mayPass, cX0_mayPass, 5, (some FieldType.boolean), []) (xR 0 0 0) (xrv (some (.int (b1 (mpB n R p t)))) G) 0 0 11 [some (.ref r), some (.int (nI p)), some (.int D), some (.int (b1 s)), some (.int (nI q))] [] G := by
    intro K
    induction K with
    | zero => intro q s h; exact absurd h (Nat.not_lt_zero _)
    | succ K ih_lp =>
      intro q s hK hq1 hq2 hs
      refine xj_iload dX0_mayPass_11 rfl ?_
      refine xj_iload_n dX0_mayPass_13 rfl ?_
      refine xj_iload_n dX0_mayPass_14 rfl ?_
      refine xj_iload_n dX0_mayPass_15 rfl ?_
      refine xj_iadd dX0_mayPass_16 ?_
      rw [hD]
      refine xj_mmax dX0_mayPass_17 q741 qMmaxS qMI qMmaxC (Nat.le_of_ble_eq_true rfl) ⟨Nat.le_of_ble_eq_true rfl, Nat.le_of_ble_eq_true rfl⟩ ?_
      refine xj_top (cj_max (by omega) (by omega)) ?_
      refine xj_icmp_gt (tgt := 47) dX0_mayPass_20 rfl (fun c20 => ?_) (fun c20 => ?_)
      · refine xj_iload_n dX0_mayPass_47 rfl ?_
        exact xj_ireturn dX0_mayPass_48 rfl (b1_nar _) (xrv_i (by have hqm : (Nat.max p t) + 1 ≤ q := Nat.lt_of_not_le fun h => absurd c20 (Int32.not_lt.mpr (nI_le h (by omega))); rw [lp_end _ hqm] at hs; rw [hs]))
      · have hqm : q ≤ (Nat.max p t) := (nI_leI (by omega) (by omega)).mp (Int32.not_lt.mp c20)
        rw [lp_step _ (show q < (Nat.max p t) + 1 by omega)] at hs
        refine xj_iload_n dX0_mayPass_23 rfl ?_
        refine xj_aload_n dX0_mayPass_24 rfl rfl ?_
        refine xj_iload dX0_mayPass_25 rfl ?_
        refine xj_bald dX0_mayPass_27 hL rfl (by omega) (hR q (by omega)) ?_
        refine xj_aload_n dX0_mayPass_28 rfl rfl ?_
        refine xj_iload_n dX0_mayPass_29 rfl ?_
        refine xj_bald dX0_mayPass_30 hL rfl (by omega) (hR p hp) ?_
        refine xj_sI_icmp_gt (tgt := 38) (M := 39) dX0_mayPass_31 rfl (fun c31 k => by
            refine xj_ic0 dX0_mayPass_38 ?_
            exact k) (fun c31 k => by
            refine xj_ic1 dX0_mayPass_34 ?_
            refine xj_goto (tgt := 39) dX0_mayPass_35 rfl ?_
            exact k) ?_
        refine xj_top (y := b1 (Nat.ble (dgt n R q) (dgt n R p))) (c_ble (dgt_lt n R p) (dgt_lt n R q)) ?_
        refine xj_iand dX0_mayPass_39 ?_
        rw [b1_an]
        refine xj_istn3 dX0_mayPass_40 rfl ?_
        refine xj_iinc4 (cst := 1) dX0_mayPass_41 rfl rfl ?_
        rw [nI_1]
        refine xj_goto (tgt := 11) dX0_mayPass_44 rfl ?_
        exact ih_lp (q + 1) _ (by omega) (by omega) (by omega) hs
  exact lp 8 (Nat.min p t) true (by omega) (Nat.le_refl _) (by omega) rfl
theorem A_jumps {r r2 R p : Nat} {D : Int32} {L L2 : List Int32} {xa : Nat → Option Nat} {t : Nat}  (hv : cV d e n G) (hEx : cEx xa G) (hL : G[r]? = some (cI 1 L)) (hR : rwL n R L) (hRm : R ∈ rws n) (hp : p < n) (hL2 : G[r2]? = some (cI 1 L2)) (hl2 : n ≤ L2.length) (hl100 : L2.length < 100) (hrr : r ≠ r2) (hxr : ∀ k, xa k ≠ some r) (hxr2 : ∀ k, xa k ≠ some r2) (h82 : 82 < G.length) (ht : t < n) (hDi : (p : Int) + D.toInt = t) : xMet E yX0_jumps cX0_jumps 6 none 1 (cx (xa n)) (6 * cx (xa n)) [.ref 0, .ref r, .int (nI p), .int D, .ref r2] G (xre (fun v_ G' => v_ = none ∧ (∃ xa', cEx xa' G' ∧ exN xa xa' G.length ∧ exFr xa [r2] G G' ∧ ∃ a, xa' n = some a) ∧ ∃ M2 : List Int32, M2.length = L2.length ∧ rwL n (mvN n R p t) M2 ∧ G'[r2]? = some (cI 1 M2))) := by
  obtain ⟨hO, hN, hn0, h1n, hn6⟩ := id hv
  obtain ⟨EL, h17, hEl, hEk⟩ := id hEx
  have hEn := hEk n
  have hrl := (List.getElem?_eq_some_iff.mp hL).1
  have hr2l := (List.getElem?_eq_some_iff.mp hL2).1
  have hDt : nI p + D = nI t := jp_t hDi hp ht (by omega)
  have hO1 := hO
  have hN1 := hN
  refine xMet.of (lv := [some (.ref 0), some (.ref r), some (.int (nI p)), some (.int D), some (.ref r2), none]) rfl rfl (Nat.le_of_ble_eq_true rfl) ?_
  have main : ∀ (H : xH) (a : Nat) (xa' : Nat → Option Nat) (La0 : List Int32), cEx xa' H → xa' n = some a → exN xa xa' G.length → exFr xa [] G H → cV d e n H → H[a]? = some (cI 1 La0) → La0.length = n → H[r]? = some (cI 1 L) → H[r2]? = some (cI 1 L2) → a ≠ r → a ≠ r2 → 82 < a → (∀ k, xa' k ≠ some r2) → xJ E (yX0_jumps, cX0_jumps, 6, none, []) (xR 1 (cx (xa n)) (6 * cx (xa n))) (xre (fun v_ G' => v_ = none ∧ (∃ xa', cEx xa' G' ∧ exN xa xa' G.length ∧ exFr xa [r2] G G' ∧ ∃ a, xa' n = some a) ∧ ∃ M2 : List Int32, M2.length = L2.length ∧ rwL n (mvN n R p t) M2 ∧ G'[r2]? = some (cI 1 M2))) 0 0 36 [some (.ref 0), some (.ref r), some (.int (nI p)), some (.int D), some (.ref r2), none] [] H := by
    intro H a xa' La0 hEx' hxa hxn hfr' hvH hLa0 hLa0l hLr hLr2 har har2 ha82 hxr2'
    obtain ⟨hO1, hN1, -⟩ := id hvH
    obtain ⟨EL', h17', hEl', hEk'⟩ := id hEx'
    have hEn := hEk' n
    rw [hxa] at hEn
    have hlen : a < G.length ∨ G.length ≤ a := Nat.lt_or_ge _ _
    refine xj_aload_n dX0_jumps_36 rfl rfl ?_
    refine xj_get dX0_jumps_37 K0 14 (by decide) q483 hO1 rfl ?_
    refine xj_aload_n dX0_jumps_40 rfl rfl ?_
    refine xj_get dX0_jumps_41 K0 4 (by decide) q473 hO1 rfl ?_
    refine xj_getN dX0_jumps_44 K3 0 (by decide) q321 hN1 (congrArg some hn0) ?_
    refine xj_aald dX0_jumps_47 h17' rfl rfl rfl (by omega) hEn.1 ?_
    refine xj_ast5 dX0_jumps_48 rfl rfl ?_
    refine xj_aload_n dX0_jumps_50 rfl rfl ?_
    refine xj_aload_n dX0_jumps_51 rfl rfl ?_
    refine xj_aload dX0_jumps_52 rfl rfl ?_
    refine xj_dV dX0_jumps_54 q728 kV_X0_copy (A_copy hvH hLr hLa0 hR (by omega)) hO1 rfl rfl rfl rfl (Nat.le_of_ble_eq_true rfl) ⟨(Nat.le_of_ble_eq_true rfl), (Nat.le_of_ble_eq_true rfl)⟩ (Nat.le_of_ble_eq_true rfl) (Nat.le_of_ble_eq_true rfl) ?_
    rintro _ _ ⟨rfl, La, hLal, hLaR, rfl⟩
    rw [hLa0l] at hLal
    have hLa : (H.set a (cI 1 La))[a]? = some (cI 1 La) := gset_self hLa0
    have hv2 : cV d e n (H.set a (cI 1 La)) := hvH.set (by omega) (by omega)
    obtain ⟨hO1, hN1, -⟩ := id hv2
    refine xj_iload_n dX0_jumps_57 rfl ?_
    refine xj_if_le (tgt := 73) dX0_jumps_58 rfl (fun c58 => ?_) (fun c58 => ?_)
    · refine xj_iload_n dX0_jumps_73 rfl ?_
      refine xj_if_ge (tgt := 94) dX0_jumps_74 rfl (fun c74 => ?_) (fun c74 => ?_)
      · have heq : t = p := jp_eq hDi c58 c74
        have hLc : (H.set a (cI 1 La))[a]? = some (cI 1 La) := gset_self hLa0
        have hrc : (H.set a (cI 1 La))[r]? = some (cI 1 L) := by rw [gset har]; exact hLr
        have hvc : cV d e n (H.set a (cI 1 La)) := hvH.set (by omega) (by omega)
        obtain ⟨hO1, hN1, -⟩ := id hvc
        refine xj_aload dX0_jumps_94 rfl rfl ?_
        refine xj_iload_n dX0_jumps_96 rfl ?_
        refine xj_iload_n dX0_jumps_97 rfl ?_
        refine xj_iadd dX0_jumps_98 ?_
        refine xj_aload_n dX0_jumps_99 rfl rfl ?_
        refine xj_iload_n dX0_jumps_100 rfl ?_
        refine xj_bald dX0_jumps_101 hrc rfl (by omega) (hR p hp) ?_
        refine xj_bast dX0_jumps_102 hLc hDt (by omega) (by rw [hLal]; exact ht) (c_b8 _ (dgt_lt n R p)) ?_
        rw [gset_set]
        have hLd : (H.set a (cI 1 (La.set t (nI (dgt n R p)))))[a]? = some (cI 1 (La.set t (nI (dgt n R p)))) := gset_self hLa0
        have hvd : cV d e n (H.set a (cI 1 (La.set t (nI (dgt n R p))))) := hvH.set (by omega) (by omega)
        obtain ⟨hO2, hN2, -⟩ := id hvd
        have hmv := rwL_mv0 (by omega) h1n hRm hp ht heq hLal hLaR
        refine xj_aload_n dX0_jumps_103 rfl rfl ?_
        refine xj_aload dX0_jumps_104 rfl rfl ?_
        refine xj_aload dX0_jumps_106 rfl rfl ?_
        refine xj_dV dX0_jumps_108 q728 kV_X0_copy (A_copy hvd hLd (by rw [gset har2]; exact hLr2) hmv hl2) hO2 rfl rfl rfl rfl (Nat.le_of_ble_eq_true rfl) ⟨(Nat.le_of_ble_eq_true rfl), (Nat.le_of_ble_eq_true rfl)⟩ (Nat.le_of_ble_eq_true rfl) (Nat.le_of_ble_eq_true rfl) ?_
        rintro _ _ ⟨rfl, M2, hM2, hM2R, rfl⟩
        exact xj_return dX0_jumps_111 rfl ⟨rfl, ⟨xa', hEx'.wr hxa (by rw [List.length_set]; exact hLal) (by omega) hxr2' hLr2, hxn, hfr'.wr hxa hxn hLa0 hLa0l (by rw [List.length_set]; exact hLal) har2 hLr2 hM2, _, hxa⟩, M2, hM2, hM2R, gset_self (by rw [gset har2]; exact hLr2)⟩
      · have hDn : D < 0 := Int32.not_le.mp c74
        have hlt : t < p := jp_lt hDi hDn
        have hDM : -D = nI (p - t) := jp_M hDi hlt (by omega)
        refine xj_aload dX0_jumps_77 rfl rfl ?_
        refine xj_iload_n dX0_jumps_79 rfl ?_
        refine xj_iload_n dX0_jumps_80 rfl ?_
        refine xj_iadd dX0_jumps_81 ?_
        refine xj_aload dX0_jumps_82 rfl rfl ?_
        refine xj_iload_n dX0_jumps_84 rfl ?_
        refine xj_iload_n dX0_jumps_85 rfl ?_
        refine xj_iadd dX0_jumps_86 ?_
        refine xj_ic1 dX0_jumps_87 ?_
        refine xj_iadd dX0_jumps_88 ?_
        refine xj_iload_n dX0_jumps_89 rfl ?_
        refine xj_ineg dX0_jumps_90 ?_
        refine xj_copy (t := 1) (sp := t) (dp := t + 1) (N := p - t) dX0_jumps_91 q732 q734 q733 q165 hLa hLa rfl rfl hDt (by rw [hDt, nI_1]) hDM (by omega) (by omega) (by omega) (by omega) (by omega) (fun i_ hi => by rw [x_getD (hLaR _ (by omega))]; exact c_fit8 _ (dgt_lt n R _)) (Nat.le_of_ble_eq_true rfl) ⟨(Nat.le_of_ble_eq_true rfl), (Nat.le_of_ble_eq_true rfl)⟩ ?_
        have hLb : ((H.set a (cI 1 La)).set a (cI 1 (cpL La La (t) (t + 1) (p - t))))[a]? = some (cI 1 (cpL La La (t) (t + 1) (p - t))) := gset_self hLa
        rw [gset_set] at hLb ⊢
        have hLc : (H.set a (cI 1 (cpL La La t (t + 1) (p - t))))[a]? = some (cI 1 (cpL La La t (t + 1) (p - t))) := gset_self hLa0
        have hrc : (H.set a (cI 1 (cpL La La t (t + 1) (p - t))))[r]? = some (cI 1 L) := by rw [gset har]; exact hLr
        have hvc : cV d e n (H.set a (cI 1 (cpL La La t (t + 1) (p - t)))) := hvH.set (by omega) (by omega)
        obtain ⟨hO1, hN1, -⟩ := id hvc
        refine xj_aload dX0_jumps_94 rfl rfl ?_
        refine xj_iload_n dX0_jumps_96 rfl ?_
        refine xj_iload_n dX0_jumps_97 rfl ?_
        refine xj_iadd dX0_jumps_98 ?_
        refine xj_aload_n dX0_jumps_99 rfl rfl ?_
        refine xj_iload_n dX0_jumps_100 rfl ?_
        refine xj_bald dX0_jumps_101 hrc rfl (by omega) (hR p hp) ?_
        refine xj_bast dX0_jumps_102 hLc hDt (by omega) (by rw [cpL_len, hLal]; exact ht) (c_b8 _ (dgt_lt n R p)) ?_
        rw [gset_set]
        have hLd : (H.set a (cI 1 ((cpL La La t (t + 1) (p - t)).set t (nI (dgt n R p)))))[a]? = some (cI 1 ((cpL La La t (t + 1) (p - t)).set t (nI (dgt n R p)))) := gset_self hLa0
        have hvd : cV d e n (H.set a (cI 1 ((cpL La La t (t + 1) (p - t)).set t (nI (dgt n R p))))) := hvH.set (by omega) (by omega)
        obtain ⟨hO2, hN2, -⟩ := id hvd
        have hmv := rwL_mv2 (by omega) h1n hRm hp ht hlt hLal hLaR
        refine xj_aload_n dX0_jumps_103 rfl rfl ?_
        refine xj_aload dX0_jumps_104 rfl rfl ?_
        refine xj_aload dX0_jumps_106 rfl rfl ?_
        refine xj_dV dX0_jumps_108 q728 kV_X0_copy (A_copy hvd hLd (by rw [gset har2]; exact hLr2) hmv hl2) hO2 rfl rfl rfl rfl (Nat.le_of_ble_eq_true rfl) ⟨(Nat.le_of_ble_eq_true rfl), (Nat.le_of_ble_eq_true rfl)⟩ (Nat.le_of_ble_eq_true rfl) (Nat.le_of_ble_eq_true rfl) ?_
        rintro _ _ ⟨rfl, M2, hM2, hM2R, rfl⟩
        exact xj_return dX0_jumps_111 rfl ⟨rfl, ⟨xa', hEx'.wr hxa (by rw [List.length_set, cpL_len]; exact hLal) (by omega) hxr2' hLr2, hxn, hfr'.wr hxa hxn hLa0 hLa0l (by rw [List.length_set, cpL_len]; exact hLal) har2 hLr2 hM2, _, hxa⟩, M2, hM2, hM2R, gset_self (by rw [gset har2]; exact hLr2)⟩
    · have hDp : (0 : Int32) < D := Int32.not_le.mp c58
      have hlt : p < t := jp_gt hDi hDp
      have hDN : D = nI (t - p) := jp_N hDi hlt (by omega)
      refine xj_aload dX0_jumps_61 rfl rfl ?_
      refine xj_iload_n dX0_jumps_63 rfl ?_
      refine xj_ic1 dX0_jumps_64 ?_
      refine xj_iadd dX0_jumps_65 ?_
      refine xj_aload dX0_jumps_66 rfl rfl ?_
      refine xj_iload_n dX0_jumps_68 rfl ?_
      refine xj_iload_n dX0_jumps_69 rfl ?_
      refine xj_copy (t := 1) (sp := p + 1) (dp := p) (N := t - p) dX0_jumps_70 q732 q734 q733 q165 hLa hLa rfl rfl (nI_1 p) rfl hDN (by omega) (by omega) (by omega) (by omega) (by omega) (fun i_ hi => by rw [x_getD (hLaR _ (by omega))]; exact c_fit8 _ (dgt_lt n R _)) (Nat.le_of_ble_eq_true rfl) ⟨(Nat.le_of_ble_eq_true rfl), (Nat.le_of_ble_eq_true rfl)⟩ ?_
      have hLb : ((H.set a (cI 1 La)).set a (cI 1 (cpL La La (p + 1) (p) (t - p))))[a]? = some (cI 1 (cpL La La (p + 1) (p) (t - p))) := gset_self hLa
      rw [gset_set] at hLb ⊢
      refine xj_iload_n dX0_jumps_73 rfl ?_
      refine xj_if_ge (tgt := 94) dX0_jumps_74 rfl (fun c74 => ?_) (fun c74 => absurd (Int32.le_of_lt hDp) c74)
      have hLc : (H.set a (cI 1 (cpL La La (p + 1) p (t - p))))[a]? = some (cI 1 (cpL La La (p + 1) p (t - p))) := gset_self hLa0
      have hrc : (H.set a (cI 1 (cpL La La (p + 1) p (t - p))))[r]? = some (cI 1 L) := by rw [gset har]; exact hLr
      have hvc : cV d e n (H.set a (cI 1 (cpL La La (p + 1) p (t - p)))) := hvH.set (by omega) (by omega)
      obtain ⟨hO1, hN1, -⟩ := id hvc
      refine xj_aload dX0_jumps_94 rfl rfl ?_
      refine xj_iload_n dX0_jumps_96 rfl ?_
      refine xj_iload_n dX0_jumps_97 rfl ?_
      refine xj_iadd dX0_jumps_98 ?_
      refine xj_aload_n dX0_jumps_99 rfl rfl ?_
      refine xj_iload_n dX0_jumps_100 rfl ?_
      refine xj_bald dX0_jumps_101 hrc rfl (by omega) (hR p hp) ?_
      refine xj_bast dX0_jumps_102 hLc hDt (by omega) (by rw [cpL_len, hLal]; exact ht) (c_b8 _ (dgt_lt n R p)) ?_
      rw [gset_set]
      have hLd : (H.set a (cI 1 ((cpL La La (p + 1) p (t - p)).set t (nI (dgt n R p)))))[a]? = some (cI 1 ((cpL La La (p + 1) p (t - p)).set t (nI (dgt n R p)))) := gset_self hLa0
      have hvd : cV d e n (H.set a (cI 1 ((cpL La La (p + 1) p (t - p)).set t (nI (dgt n R p))))) := hvH.set (by omega) (by omega)
      obtain ⟨hO2, hN2, -⟩ := id hvd
      have hmv := rwL_mv1 (by omega) h1n hRm hp ht hlt hLal hLaR
      refine xj_aload_n dX0_jumps_103 rfl rfl ?_
      refine xj_aload dX0_jumps_104 rfl rfl ?_
      refine xj_aload dX0_jumps_106 rfl rfl ?_
      refine xj_dV dX0_jumps_108 q728 kV_X0_copy (A_copy hvd hLd (by rw [gset har2]; exact hLr2) hmv hl2) hO2 rfl rfl rfl rfl (Nat.le_of_ble_eq_true rfl) ⟨(Nat.le_of_ble_eq_true rfl), (Nat.le_of_ble_eq_true rfl)⟩ (Nat.le_of_ble_eq_true rfl) (Nat.le_of_ble_eq_true rfl) ?_
      rintro _ _ ⟨rfl, M2, hM2, hM2R, rfl⟩
      exact xj_return dX0_jumps_111 rfl ⟨rfl, ⟨xa', hEx'.wr hxa (by rw [List.length_set, cpL_len]; exact hLal) (by omega) hxr2' hLr2, hxn, hfr'.wr hxa hxn hLa0 hLa0l (by rw [List.length_set, cpL_len]; exact hLal) har2 hLr2 hM2, _, hxa⟩, M2, hM2, hM2R, gset_self (by rw [gset har2]; exact hLr2)⟩
  cases hxn0 : xa n with
  | some a =>
    rw [hxn0] at hEn
    try rw [hxn0] at main
    obtain ⟨e1_, e2_, La0, e3_, e4_⟩ := hEn
    have hEn : EL[n]? = some (.ref a) ∧ 82 < a ∧ G[a]? = some (cI 1 La0) ∧ La0.length = n := ⟨e1_, e2_, e3_, e4_⟩
    refine xj_aload_n dX0_jumps_0 rfl rfl ?_
    refine xj_get dX0_jumps_1 K0 14 (by decide) q483 hO1 rfl ?_
    refine xj_aload_n dX0_jumps_4 rfl rfl ?_
    refine xj_get dX0_jumps_5 K0 4 (by decide) q473 hO1 rfl ?_
    refine xj_getN dX0_jumps_8 K3 0 (by decide) q321 hN1 (congrArg some hn0) ?_
    refine xj_aald dX0_jumps_11 h17 rfl rfl rfl (by omega) hEn.1 ?_
    refine xj_ifnonnull_r (tgt := 36) dX0_jumps_12 rfl ?_
    refine xj_wk (nc' := 0) (ns' := 0) (Nat.le_of_ble_eq_true rfl) (Nat.le_of_ble_eq_true rfl) ?_
    exact main G a xa La0 hEx hxn0 (fun k => Or.inl rfl) exFr.refl hv hEn.2.2.1 hEn.2.2.2 hL hL2 (fun q => hxr n (by rw [hxn0, q])) (fun q => hxr2 n (by rw [hxn0, q])) hEn.2.1 hxr2
  | none =>
    rw [hxn0] at hEn
    try rw [hxn0] at main
    have hEn : EL[n]? = some .null := hEn (by omega)
    refine xj_aload_n dX0_jumps_0 rfl rfl ?_
    refine xj_get dX0_jumps_1 K0 14 (by decide) q483 hO1 rfl ?_
    refine xj_aload_n dX0_jumps_4 rfl rfl ?_
    refine xj_get dX0_jumps_5 K0 4 (by decide) q473 hO1 rfl ?_
    refine xj_getN dX0_jumps_8 K3 0 (by decide) q321 hN1 (congrArg some hn0) ?_
    refine xj_aald dX0_jumps_11 h17 rfl rfl rfl (by omega) hEn ?_
    refine xj_ifnonnull_n dX0_jumps_12 ?_
    refine xj_aload_n dX0_jumps_15 rfl rfl ?_
    refine xj_get dX0_jumps_16 K0 14 (by decide) q483 hO1 rfl ?_
    refine xj_aload_n dX0_jumps_19 rfl rfl ?_
    refine xj_get dX0_jumps_20 K0 4 (by decide) q473 hO1 rfl ?_
    refine xj_getN dX0_jumps_23 K3 0 (by decide) q321 hN1 (congrArg some hn0) ?_
    refine xj_aload_n dX0_jumps_26 rfl rfl ?_
    refine xj_get dX0_jumps_27 K0 4 (by decide) q473 hO1 rfl ?_
    refine xj_getN dX0_jumps_30 K3 0 (by decide) q321 hN1 (congrArg some hn0) ?_
    refine xj_newB dX0_jumps_33 q374 rfl (by omega) (Nat.le_of_ble_eq_true rfl) (show n ≤ 6 by omega) ?_
    have h17a : (G ++ [cI 1 (List.replicate n 0)])[17]? = some (cR 10 EL) := by rw [List.getElem?_append_left (by omega)]; exact h17
    have hnew : (G ++ [cI 1 (List.replicate n 0)])[G.length]? = some (cI 1 (List.replicate n 0)) := app_at
    refine xj_aastAI (t2 := 1) dX0_jumps_35 h17a rfl hnew rfl rfl rfl (by omega) (by omega) ?_
    refine xj_wk (nc' := 0) (ns' := 0) (Nat.le_of_ble_eq_true rfl) (Nat.zero_le _) ?_
    have hvn : cV d e n ((G ++ [cI 1 (List.replicate n 0)]).set 17 (cR 10 (EL.set n (.ref G.length)))) := (hv.app (by omega)).set (by decide) (by decide)
    exact main ((G ++ [cI 1 (List.replicate n 0)]).set 17 (cR 10 (EL.set n (.ref G.length)))) G.length (xaU xa n G.length) (List.replicate n 0) (hEx.new hxn0 h17 h82 (by omega)) (if_pos rfl) (exN_new hxn0) (exFr_new hxn0 h17) hvn (by rw [gset (by omega)]; exact hnew) (List.length_replicate ..) (by rw [gset (show 17 ≠ r from fun q => by rw [← q, h17] at hL; cases hL), List.getElem?_append_left hrl]; exact hL) (by rw [gset (show 17 ≠ r2 from fun q => by rw [← q, h17] at hL2; cases hL2), List.getElem?_append_left hr2l]; exact hL2) (by omega) (by omega) h82 (fun k q => by unfold xaU at q; by_cases e_ : k = n; (rw [if_pos e_] at q; cases q; omega); (rw [if_neg e_] at q; exact hxr2 k q))
theorem A_jumpsZ {r r2 R p : Nat} {D : Int32} {L L2 : List Int32} {xa : Nat → Option Nat}  (hv : cV d e n G) (hEx : cEx xa G) (hL : G[r]? = some (cI 1 L)) (hR : rwL n R L) (hRm : R ∈ rws n) (hp : p < n) (hL2 : G[r2]? = some (cI 1 L2)) (hl2 : n ≤ L2.length) (hl100 : L2.length < 100) (hrr : r ≠ r2) (hxr : ∀ k, xa k ≠ some r) (hxr2 : ∀ k, xa k ≠ some r2) (h82 : 82 < G.length) (hDi : ¬ (0 ≤ (p : Int) + D.toInt ∧ (p : Int) + D.toInt < n)) : xMet E yX0_jumps cX0_jumps 6 none 1 4 416 [.ref 0, .ref r, .int (nI p), .int D, .ref r2] G (xth "java/lang/ArrayIndexOutOfBoundsException" none (fun G' => ∃ xa', cEx xa' G' ∧ exN xa xa' G.length ∧ exFr xa [] G G')) := by
  obtain ⟨hO, hN, hn0, h1n, hn6⟩ := id hv
  obtain ⟨EL, h17, hEl, hEk⟩ := id hEx
  have hEn := hEk n
  have hrl := (List.getElem?_eq_some_iff.mp hL).1
  have hr2l := (List.getElem?_eq_some_iff.mp hL2).1
  have hO1 := hO
  have hN1 := hN
  refine xMet.of (lv := [some (.ref 0), some (.ref r), some (.int (nI p)), some (.int D), some (.ref r2), none]) rfl rfl (Nat.le_of_ble_eq_true rfl) ?_
  have main : ∀ (H : xH) (a : Nat) (xa' : Nat → Option Nat) (La0 : List Int32), cEx xa' H → xa' n = some a → exN xa xa' G.length → exFr xa [] G H → cV d e n H → H[a]? = some (cI 1 La0) → La0.length = n → H[r]? = some (cI 1 L) → H[r2]? = some (cI 1 L2) → a ≠ r → a ≠ r2 → 82 < a → (∀ k, xa' k ≠ some r2) → xJ E (yX0_jumps, cX0_jumps, 6, none, []) (xR 1 4 416) (xth "java/lang/ArrayIndexOutOfBoundsException" none (fun G' => ∃ xa', cEx xa' G' ∧ exN xa xa' G.length ∧ exFr xa [] G G')) 3 410 36 [some (.ref 0), some (.ref r), some (.int (nI p)), some (.int D), some (.ref r2), none] [] H := by
    intro H a xa' La0 hEx' hxa hxn hfr' hvH hLa0 hLa0l hLr hLr2 har har2 ha82 hxr2'
    obtain ⟨hO1, hN1, -⟩ := id hvH
    obtain ⟨EL', h17', hEl', hEk'⟩ := id hEx'
    have hEn := hEk' n
    rw [hxa] at hEn
    have hlen : a < G.length ∨ G.length ≤ a := Nat.lt_or_ge _ _
    refine xj_aload_n dX0_jumps_36 rfl rfl ?_
    refine xj_get dX0_jumps_37 K0 14 (by decide) q483 hO1 rfl ?_
    refine xj_aload_n dX0_jumps_40 rfl rfl ?_
    refine xj_get dX0_jumps_41 K0 4 (by decide) q473 hO1 rfl ?_
    refine xj_getN dX0_jumps_44 K3 0 (by decide) q321 hN1 (congrArg some hn0) ?_
    refine xj_aald dX0_jumps_47 h17' rfl rfl rfl (by omega) hEn.1 ?_
    refine xj_ast5 dX0_jumps_48 rfl rfl ?_
    refine xj_aload_n dX0_jumps_50 rfl rfl ?_
    refine xj_aload_n dX0_jumps_51 rfl rfl ?_
    refine xj_aload dX0_jumps_52 rfl rfl ?_
    refine xj_dV dX0_jumps_54 q728 kV_X0_copy (A_copy hvH hLr hLa0 hR (by omega)) hO1 rfl rfl rfl rfl (Nat.le_of_ble_eq_true rfl) ⟨(Nat.le_of_ble_eq_true rfl), (Nat.le_of_ble_eq_true rfl)⟩ (Nat.le_of_ble_eq_true rfl) (Nat.le_of_ble_eq_true rfl) ?_
    rintro _ _ ⟨rfl, La, hLal, hLaR, rfl⟩
    rw [hLa0l] at hLal
    have hLa : (H.set a (cI 1 La))[a]? = some (cI 1 La) := gset_self hLa0
    have hv2 : cV d e n (H.set a (cI 1 La)) := hvH.set (by omega) (by omega)
    obtain ⟨hO1, hN1, -⟩ := id hv2
    have hEx1 := hEx'.wr1 hxa hLal (by omega)
    have hfr1 := hfr'.wr1 hxa hxn hLa0 hLa0l hLal
    refine xj_iload_n dX0_jumps_57 rfl ?_
    refine xj_if_le (tgt := 73) dX0_jumps_58 rfl (fun c58 => ?_) (fun c58 => ?_)
    · refine xj_iload_n dX0_jumps_73 rfl ?_
      refine xj_if_ge (tgt := 94) dX0_jumps_74 rfl (fun c74 => ?_) (fun c74 => ?_)
      · exact absurd (jp_z c58 c74 hp) hDi
      · have hDn : D < 0 := Int32.not_le.mp c74
        refine xj_aload dX0_jumps_77 rfl rfl ?_
        refine xj_iload_n dX0_jumps_79 rfl ?_
        refine xj_iload_n dX0_jumps_80 rfl ?_
        refine xj_iadd dX0_jumps_81 ?_
        refine xj_aload dX0_jumps_82 rfl rfl ?_
        refine xj_iload_n dX0_jumps_84 rfl ?_
        refine xj_iload_n dX0_jumps_85 rfl ?_
        refine xj_iadd dX0_jumps_86 ?_
        refine xj_ic1 dX0_jumps_87 ?_
        refine xj_iadd dX0_jumps_88 ?_
        refine xj_iload_n dX0_jumps_89 rfl ?_
        refine xj_ineg dX0_jumps_90 ?_
        exact xj_copyZ dX0_jumps_91 q732 q734 q733 q165 hLa hLa ⟨rfl, hLal⟩ ⟨rfl, hLal⟩ rfl rfl (by omega) (by omega) (jo_2 hp (by omega) hDi hDn) (xrm_R (Nat.le_of_ble_eq_true rfl) (Nat.le_of_ble_eq_true rfl) (Nat.le_of_ble_eq_true rfl)) (Nat.le_of_ble_eq_true rfl) (fun j => xjT_out (fun _ hx => by cases hx) ⟨rfl, xa', hEx1.app, hxn, hfr1.app⟩)
    · have hDp : (0 : Int32) < D := Int32.not_le.mp c58
      refine xj_aload dX0_jumps_61 rfl rfl ?_
      refine xj_iload_n dX0_jumps_63 rfl ?_
      refine xj_ic1 dX0_jumps_64 ?_
      refine xj_iadd dX0_jumps_65 ?_
      refine xj_aload dX0_jumps_66 rfl rfl ?_
      refine xj_iload_n dX0_jumps_68 rfl ?_
      refine xj_iload_n dX0_jumps_69 rfl ?_
      exact xj_copyZ dX0_jumps_70 q732 q734 q733 q165 hLa hLa ⟨rfl, hLal⟩ ⟨rfl, hLal⟩ rfl rfl (by omega) (by omega) (jo_1 hp (by omega) hDi hDp) (xrm_R (Nat.le_of_ble_eq_true rfl) (Nat.le_of_ble_eq_true rfl) (Nat.le_of_ble_eq_true rfl)) (Nat.le_of_ble_eq_true rfl) (fun j => xjT_out (fun _ hx => by cases hx) ⟨rfl, xa', hEx1.app, hxn, hfr1.app⟩)
  cases hxn0 : xa n with
  | some a =>
    rw [hxn0] at hEn
    try rw [hxn0] at main
    obtain ⟨e1_, e2_, La0, e3_, e4_⟩ := hEn
    have hEn : EL[n]? = some (.ref a) ∧ 82 < a ∧ G[a]? = some (cI 1 La0) ∧ La0.length = n := ⟨e1_, e2_, e3_, e4_⟩
    refine xj_aload_n dX0_jumps_0 rfl rfl ?_
    refine xj_get dX0_jumps_1 K0 14 (by decide) q483 hO1 rfl ?_
    refine xj_aload_n dX0_jumps_4 rfl rfl ?_
    refine xj_get dX0_jumps_5 K0 4 (by decide) q473 hO1 rfl ?_
    refine xj_getN dX0_jumps_8 K3 0 (by decide) q321 hN1 (congrArg some hn0) ?_
    refine xj_aald dX0_jumps_11 h17 rfl rfl rfl (by omega) hEn.1 ?_
    refine xj_ifnonnull_r (tgt := 36) dX0_jumps_12 rfl ?_
    refine xj_wk (nc' := 3) (ns' := 410) (Nat.le_of_ble_eq_true rfl) (Nat.le_of_ble_eq_true rfl) ?_
    exact main G a xa La0 hEx hxn0 (fun k => Or.inl rfl) exFr.refl hv hEn.2.2.1 hEn.2.2.2 hL hL2 (fun q => hxr n (by rw [hxn0, q])) (fun q => hxr2 n (by rw [hxn0, q])) hEn.2.1 hxr2
  | none =>
    rw [hxn0] at hEn
    try rw [hxn0] at main
    have hEn : EL[n]? = some .null := hEn (by omega)
    refine xj_aload_n dX0_jumps_0 rfl rfl ?_
    refine xj_get dX0_jumps_1 K0 14 (by decide) q483 hO1 rfl ?_
    refine xj_aload_n dX0_jumps_4 rfl rfl ?_
    refine xj_get dX0_jumps_5 K0 4 (by decide) q473 hO1 rfl ?_
    refine xj_getN dX0_jumps_8 K3 0 (by decide) q321 hN1 (congrArg some hn0) ?_
    refine xj_aald dX0_jumps_11 h17 rfl rfl rfl (by omega) hEn ?_
    refine xj_ifnonnull_n dX0_jumps_12 ?_
    refine xj_aload_n dX0_jumps_15 rfl rfl ?_
    refine xj_get dX0_jumps_16 K0 14 (by decide) q483 hO1 rfl ?_
    refine xj_aload_n dX0_jumps_19 rfl rfl ?_
    refine xj_get dX0_jumps_20 K0 4 (by decide) q473 hO1 rfl ?_
    refine xj_getN dX0_jumps_23 K3 0 (by decide) q321 hN1 (congrArg some hn0) ?_
    refine xj_aload_n dX0_jumps_26 rfl rfl ?_
    refine xj_get dX0_jumps_27 K0 4 (by decide) q473 hO1 rfl ?_
    refine xj_getN dX0_jumps_30 K3 0 (by decide) q321 hN1 (congrArg some hn0) ?_
    refine xj_newB dX0_jumps_33 q374 rfl (by omega) (Nat.le_of_ble_eq_true rfl) (by omega) ?_
    have h17a : (G ++ [cI 1 (List.replicate n 0)])[17]? = some (cR 10 EL) := by rw [List.getElem?_append_left (by omega)]; exact h17
    have hnew : (G ++ [cI 1 (List.replicate n 0)])[G.length]? = some (cI 1 (List.replicate n 0)) := app_at
    refine xj_aastAI (t2 := 1) dX0_jumps_35 h17a rfl hnew rfl rfl rfl (by omega) (by omega) ?_
    refine xj_wk (nc' := 3) (ns' := 410) (Nat.le_of_ble_eq_true rfl) (by omega) ?_
    have hvn : cV d e n ((G ++ [cI 1 (List.replicate n 0)]).set 17 (cR 10 (EL.set n (.ref G.length)))) := (hv.app (by omega)).set (by decide) (by decide)
    exact main ((G ++ [cI 1 (List.replicate n 0)]).set 17 (cR 10 (EL.set n (.ref G.length)))) G.length (xaU xa n G.length) (List.replicate n 0) (hEx.new hxn0 h17 h82 (by omega)) (if_pos rfl) (exN_new hxn0) (exFr_new hxn0 h17) hvn (by rw [gset (by omega)]; exact hnew) (List.length_replicate ..) (by rw [gset (show 17 ≠ r from fun q => by rw [← q, h17] at hL; cases hL), List.getElem?_append_left hrl]; exact hL) (by rw [gset (show 17 ≠ r2 from fun q => by rw [← q, h17] at hL2; cases hL2), List.getElem?_append_left hr2l]; exact hL2) (by omega) (by omega) h82 (fun k q => by unfold xaU at q; by_cases e_ : k = n; (rw [if_pos e_] at q; cases q; omega); (rw [if_neg e_] at q; exact hxr2 k q))
theorem A_jump {x v D : Int32} {xa : Nat → Option Nat}  (hv : cV d e n G) (hs : sIn d) (hc : scr G) (hEx : cEx xa G) (h82 : 82 < G.length) : xMetW E yX0_jump cX0_jump 5 (some FieldType.int) [(29, 80, 81, 341)] 3 4 416 [.ref 0, .int x, .int v, .int D] G (xre (fun v_ G' => v_ = some (.int (o_jump n x v D)) ∧ cJx d xa G G')) := by
  obtain ⟨hO, hN, hn0, h1n, hn6⟩ := id hv
  have hP := cPo.refl hv hs hc
  obtain ⟨L1, hl1, h11⟩ := hc.at (r := 11) (by decide) (by decide)
  obtain ⟨L2, hl2, h12⟩ := hc.at (r := 12) (by decide) (by decide)
  refine xMetW.of (lv := [some (.ref 0), some (.int x), some (.int v), some (.int D), none]) rfl rfl (Nat.le_of_ble_eq_true rfl) ?_
  refine xj_aload_n dX0_jump_0 rfl rfl ?_
  refine xj_iload_n dX0_jump_1 rfl ?_
  refine xj_aload_n dX0_jump_2 rfl rfl ?_
  refine xj_get dX0_jump_3 K0 8 (by decide) q477 hO rfl ?_
  refine xj_dV dX0_jump_6 q596 kV_X0_read (A_read hv h11 (by decide) (by decide) (by omega) (by omega)) hO rfl rfl rfl rfl (Nat.le_of_ble_eq_true rfl) ⟨(Nat.le_of_ble_eq_true rfl), (Nat.le_of_ble_eq_true rfl)⟩ (Nat.le_of_ble_eq_true rfl) (Nat.le_of_ble_eq_true rfl) ?_
  rintro _ _ ⟨rfl, M, hM, hRx, rfl⟩
  have hv2 : cV d e n (G.set 11 (cI 1 M)) := hv.set (by decide) (by decide)
  obtain ⟨hO2, hN2, -⟩ := id hv2
  have hP2 : cPo d G (G.set 11 (cI 1 M)) := hP.row (by decide) (by decide) (by omega)
  have g11 : (G.set 11 (cI 1 M))[11]? = some (cI 1 M) := gset_self h11
  have g12 : (G.set 11 (cI 1 M))[12]? = some (cI 1 L2) := by rw [gset (by decide)]; exact h12
  have hEx2 : cEx xa (G.set 11 (cI 1 M)) := hEx.oth (x := cI 1 M) (fun k q => by have := hEx.big q; omega) (by decide)
  have hJ0 : cJx d xa G (G.set 11 (cI 1 M)) := cJx.row hv hs hc hEx (by omega)
  refine xj_if_eq (tgt := 27) dX0_jump_9 rfl (fun c9 => ?_) (fun c9 => ?_)
  · refine xj_icm1 dX0_jump_27 ?_
    exact xj_ireturn dX0_jump_28 rfl rfl ⟨by unfold o_jump; first | (rw [b1_z c9]; rfl) | (rw [b1_z c24, Bool.and_false]; rfl), hJ0⟩
  · refine xj_iload_n dX0_jump_12 rfl ?_
    refine xj_ic1 dX0_jump_13 ?_
    refine xj_aload_n dX0_jump_14 rfl rfl ?_
    refine xj_get dX0_jump_15 K0 4 (by decide) q473 hO2 rfl ?_
    refine xj_getN dX0_jump_18 K3 0 (by decide) q321 hN2 (congrArg some hn0) ?_
    refine xj_cS dX0_jump_21 q585 kS_X0_isIn A_isIn rfl rfl (Nat.le_of_ble_eq_true rfl) ⟨(Nat.le_of_ble_eq_true rfl), (Nat.le_of_ble_eq_true rfl)⟩ (Nat.le_of_ble_eq_true rfl) (Nat.le_of_ble_eq_true rfl) ?_
    rw [inC_in1 (by omega)]
    refine xj_if_ne (tgt := 29) dX0_jump_24 rfl (fun c24 => ?_) (fun c24 => ?_)
    · have hbb := b1_nz c9
      obtain ⟨R, hR, rfl⟩ := rowB_t (by omega) h1n hbb
      have hRM := hRx R hR rfl
      have tR := tn_nI (by omega) hR
      have hvb := b1_nz c24
      obtain ⟨k, hk, rfl, hk31⟩ := in1_t hvb
      obtain ⟨hpl, hpd⟩ := f_plc n (by omega) R hR k hk
      have tk : tn (nI (k + 1)) = k + 1 := nI_clamp hk31
      have hoj : o_jump n (nI R) (nI (k + 1)) D = o_jumped n R (k + 1) D := by unfold o_jump; rw [hbb, hvb, tR, tk]; rfl
      have hpd2 : o_jumped n R (k + 1) D = o_jumped n R (dgt n R (plc n R (k + 1) n 0)) D := by rw [hpd]
      refine xj_aload_n dX0_jump_29 rfl rfl ?_
      refine xj_get dX0_jump_30 K0 8 (by decide) q477 hO2 rfl ?_
      refine xj_iload_n dX0_jump_33 rfl ?_
      refine xj_cS dX0_jump_34 q721 kS_X0_placeOf (A_placeOf g11 hRM (by omega) (by omega) hpl) rfl rfl (Nat.le_of_ble_eq_true rfl) ⟨(Nat.le_of_ble_eq_true rfl), (Nat.le_of_ble_eq_true rfl)⟩ (Nat.le_of_ble_eq_true rfl) (Nat.le_of_ble_eq_true rfl) ?_
      refine xj_ist4 dX0_jump_37 rfl ?_
      by_cases hDi0 : 0 ≤ ((plc n R (k + 1) n 0) : Int) + D.toInt ∧ ((plc n R (k + 1) n 0) : Int) + D.toInt < n
      · obtain ⟨t, hDi⟩ : ∃ t : Nat, ((plc n R (k + 1) n 0) : Int) + D.toInt = t := ⟨(((plc n R (k + 1) n 0) : Int) + D.toInt).toNat, by omega⟩
        have ht : t < n := by omega
        refine xj_aload_n dX0_jump_39 rfl rfl ?_
        refine xj_aload_n dX0_jump_40 rfl rfl ?_
        refine xj_get dX0_jump_41 K0 8 (by decide) q477 hO2 rfl ?_
        refine xj_iload dX0_jump_44 rfl ?_
        refine xj_iload_n dX0_jump_46 rfl ?_
        refine xj_aload_n dX0_jump_47 rfl rfl ?_
        refine xj_get dX0_jump_48 K0 9 (by decide) q478 hO2 rfl ?_
        refine xj_dV dX0_jump_51 q724 kV_X0_jumps (A_jumps (t := t) hv2 hEx2 g11 hRM hR hpl g12 (by omega) (by omega) (by decide) (fun k q => by have := hEx.big q; omega) (fun k q => by have := hEx.big q; omega) (by rw [List.length_set]; exact h82) ht hDi) hO2 rfl rfl rfl rfl (Nat.le_of_ble_eq_true rfl) ⟨(Nat.le_of_ble_eq_true rfl), (Nat.le_of_ble_eq_true rfl)⟩ (Nat.le_trans (cx_le _) (by decide)) (Nat.le_trans (Nat.mul_le_mul_left 6 (cx_le _)) (by decide)) ?_
        rintro _ H ⟨rfl, ⟨xa', hE3, hxn, hf3, -⟩, M2, hM2, hM2R, h12b⟩
        have k0 : H[0]? = some (cO 0 (cFs d)) := (hf3.2.2 0 (by rw [List.length_set]; omega) (by decide) (by decide) (fun k q => by have := hEx.big q; omega)).trans hO2
        have k4 : H[4]? = some (cO 3 (oFs e)) := (hf3.2.2 4 (by rw [List.length_set]; omega) (by decide) (by decide) (fun k q => by have := hEx.big q; omega)).trans hN2
        have k11 : H[11]? = some (cI 1 M) := (hf3.2.2 11 (by rw [List.length_set]; omega) (by decide) (by decide) (fun k q => by have := hEx.big q; omega)).trans g11
        have hv3 : cV d e n H := ⟨k0, k4, hn0, h1n, hn6⟩
        have hJ : cJx d xa G H := hJ0.tr hf3 hxn hE3 k0 (by omega) h12b hEx hs h82
        have hDt : nI (plc n R (k + 1) n 0) + D = nI t := jp_t hDi hpl ht (by omega)
        refine xj_aload_n dX0_jump_54 rfl rfl ?_
        refine xj_get dX0_jump_55 K0 8 (by decide) q477 k0 rfl ?_
        refine xj_iload dX0_jump_58 rfl ?_
        refine xj_iload_n dX0_jump_60 rfl ?_
        refine xj_cS dX0_jump_61 q735 kS_X0_mayPass (A_mayPass k11 hRM (by omega) hpl ht hDt) rfl rfl (Nat.le_of_ble_eq_true rfl) ⟨(Nat.le_of_ble_eq_true rfl), (Nat.le_of_ble_eq_true rfl)⟩ (Nat.le_of_ble_eq_true rfl) (Nat.le_of_ble_eq_true rfl) ?_
        refine xj_if_eq (tgt := 78) dX0_jump_64 rfl (fun c64 => ?_) (fun c64 => ?_)
        · refine xj_bipush (v := -3) dX0_jump_78 rfl ?_
          exact xj_ireturn dX0_jump_80 rfl rfl ⟨by rw [hoj, hpd2, jmp_in (by omega) h1n hR hpl ht hDi]; first | (rw [b1_nz c64]; rfl) | (rw [b1_z c64]; rfl), hJ⟩
        · refine xj_aload_n dX0_jump_67 rfl rfl ?_
          refine xj_aload_n dX0_jump_68 rfl rfl ?_
          refine xj_get dX0_jump_69 K0 9 (by decide) q478 k0 rfl ?_
          refine xj_cV dX0_jump_72 q632 kV_X0_told (A_told hv3 h12b hM2R (by have := (jm_ok (by omega) h1n hR hpl ht).2.1; exact rw_lt (by omega) this)) k0 rfl rfl rfl rfl (Nat.le_of_ble_eq_true rfl) ⟨(Nat.le_of_ble_eq_true rfl), (Nat.le_of_ble_eq_true rfl)⟩ (Nat.le_of_ble_eq_true rfl) (Nat.le_of_ble_eq_true rfl) ?_
          refine xj_goto (tgt := 80) dX0_jump_75 rfl ?_
          exact xj_ireturn dX0_jump_80 rfl rfl ⟨by rw [hoj, hpd2, jmp_in (by omega) h1n hR hpl ht hDi]; first | (rw [b1_nz c64]; rfl) | (rw [b1_z c64]; rfl), hJ⟩
      · have hDi := hDi0
        refine xj_aload_n dX0_jump_39 rfl rfl ?_
        refine xj_aload_n dX0_jump_40 rfl rfl ?_
        refine xj_get dX0_jump_41 K0 8 (by decide) q477 hO2 rfl ?_
        refine xj_iload dX0_jump_44 rfl ?_
        refine xj_iload_n dX0_jump_46 rfl ?_
        refine xj_aload_n dX0_jump_47 rfl rfl ?_
        refine xj_get dX0_jump_48 K0 9 (by decide) q478 hO2 rfl ?_
        refine xj_tV dX0_jump_51 q724 kV_X0_jumps (A_jumpsZ hv2 hEx2 g11 hRM hR hpl g12 (by omega) (by omega) (by decide) (fun k q => by have := hEx.big q; omega) (fun k q => by have := hEx.big q; omega) (by rw [List.length_set]; exact h82) hDi) hO2 rfl rfl rfl rfl (Nat.le_of_ble_eq_true rfl) ⟨(Nat.le_of_ble_eq_true rfl), (Nat.le_of_ble_eq_true rfl)⟩ (Nat.le_of_ble_eq_true rfl) (Nat.le_of_ble_eq_true rfl) ?_
        rintro H ⟨xa', hE3, hxn, hf3⟩
        have k0 : H[0]? = some (cO 0 (cFs d)) := (hf3.2.2 0 (by rw [List.length_set]; omega) (by decide) (by decide) (fun k q => by have := hEx.big q; omega)).trans hO2
        have k12 : H[12]? = some (cI 1 L2) := (hf3.2.2 12 (by rw [List.length_set]; omega) (by decide) (by decide) (fun k q => by have := hEx.big q; omega)).trans g12
        have hJ : cJx d xa G H := hJ0.tr (hf3.mono (by intro i hi; cases hi)) hxn hE3 k0 hl2 k12 hEx hs h82
        refine xjT_catchV [] (29, 80, 81, 341) [] rfl (fun z hz => by cases hz) rfl (by decide) q689 (Or.inr cy_AI_IO) dX0_jump_81 (Nat.le_of_ble_eq_true rfl) rfl ?_
        refine xj_bipush (v := -3) dX0_jump_83 rfl ?_
        exact xj_ireturn dX0_jump_85 rfl rfl ⟨by rw [hoj, hpd2, jmp_out (by omega) h1n hR hpl hDi], hJ⟩
    · refine xj_icm1 dX0_jump_27 ?_
      exact xj_ireturn dX0_jump_28 rfl rfl ⟨by unfold o_jump; first | (rw [b1_z c9]; rfl) | (rw [b1_z c24, Bool.and_false]; rfl), hJ0⟩
end A42
