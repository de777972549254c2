/-! ===== the class: the list ===== -/
set_option maxRecDepth 100000
theorem kV_X0_findList : xsV yX0_findList cX0_findList 4 none 0 := ⟨q1403, qs62, q151, q1404, by decide, by decide, by decide +kernel⟩
theorem kI_X23_init : xsI yX23_init cX23_init 3 1 := ⟨q1408, q186, q1409, rfl, by decide, by decide, by decide +kernel⟩
theorem kV_X23_goesOn : xsV yX23_goesOn cX23_goesOn 3 (some FieldType.boolean) 2 := ⟨q1429, q1430, q186, q1431, by decide, by decide, by decide +kernel⟩
/-- the class's list -/
def lcF (n g : Nat) : Nat → Nat → List Nat → List Int32 → List Nat
  | 0, _, l, _ => l
  | f + 1, r, l, S => if nbF n g r S n = -3 then l else lcF n g f (tn (nbF n g r S n)) (l ++ [tn (nbF n g r S n)]) (S.set (rk n (tn (nbF n g r S n))) 1)
def lcA (n g : Nat) : List Nat := lcF n g 121 (rb n 0) [rb n 0] (S0 n)
theorem lc_end {n g f r : Nat} {l : List Nat} {S : List Int32} (h : nbF n g r S n = -3) : lcF n g (f + 1) r l S = l := by
  show (if _ then _ else _) = _
  rw [if_pos h]
theorem lc_go {n g f r : Nat} {l : List Nat} {S : List Int32} (h : nbF n g r S n ≠ -3) : lcF n g (f + 1) r l S = lcF n g f (tn (nbF n g r S n)) (l ++ [tn (nbF n g r S n)]) (S.set (rk n (tn (nbF n g r S n))) 1) := by
  show (if _ then _ else _) = _
  rw [if_neg h]
theorem nb_1 {n g r v : Nat} {S : List Int32} (h : v ≤ 1) : nbF n g r S v = -3 := by
  match v, h with
  | 0, _ => rfl
  | 1, _ => rfl
theorem lc_new {n g r : Nat} {S : List Int32} (hn : n < 7) (hr : r ∈ rws n) (hS : S.length = 120) (hn5 : n < 6) (h : nbB n S (nbF n g r S n) = true) : nbF n g r S n ≠ -3 ∧ S[rk n (tn (nbF n g r S n))]? = some 0 ∧ tn (nbF n g r S n) ∈ rws n := by
  unfold nbB at h
  rw [Bool.and_eq_true] at h
  have h3 := of_decide_eq_true h.1
  have h0 := of_decide_eq_true h.2
  rcases nbF_row (g := g) (S := S) hn hr n (Nat.le_refl _) with q | ⟨q, q1, q2, q3⟩
  · exact absurd q h3
  · rw [q2, tn_nI hn q1] at h0 ⊢
    have := f_rk5 n hn5 q q1
    exact ⟨nI_n3 hn q1, by rw [gD_at (by omega), h0], q1⟩
/-- what the making of a list leaves alone -/
def fxA (xa : Nat → Option Nat) (G H : xH) : Prop := G.length ≤ H.length ∧ gsm G H ∧ ∀ i, i < G.length → i ∉ [0, 25, 26] → i ≠ 17 → (∀ k, xa k ≠ some i) → H[i]? = G[i]?
theorem fxA.of {xa : Nat → Option Nat} {G H : xH} {x : xC} (h : gfa [0, 25, 26, G.length] (G ++ [x]) H) : fxA xa G H := by
  refine ⟨by have := h.1; rw [List.length_append] at this; omega, fun i y hi hy => ?_, fun i hi hw _ _ => ?_⟩
  · have hl := (List.getElem?_eq_some_iff.mp hy).1
    have hnd : i ∉ [0, 25, 26, G.length] := by
      have := hi.1
      simp only [List.mem_cons, List.not_mem_nil, or_false]; omega
    exact ⟨y, by rw [h.2 i (by rw [List.length_append]; omega) hnd, List.getElem?_append_left hl]; exact hy, smK.refl y⟩
  · rw [h.2 i (by rw [List.length_append]; omega) (by simp only [List.mem_cons, List.not_mem_nil, or_false] at hw ⊢; omega), List.getElem?_append_left hi]
theorem fxA.st {xa xb : Nat → Option Nat} {G H K : xH} (h : fxA xa G H) (hx : exN xa xb G.length) (h2 : exFr xb [0, 25, 26, G.length + 1, G.length + 2] H K) : fxA xa G K := by
  obtain ⟨a1, a2, a3⟩ := h
  obtain ⟨b1, b2, b3⟩ := h2
  refine ⟨by omega, a2.trans b2, fun i hi hw h17 hk => (b3 i (by omega) ?_ h17 (fun k q => hk k (exN_at hx q hi))).trans (a3 i hi hw h17 hk)⟩
  simp only [List.mem_cons, List.not_mem_nil, or_false] at hw ⊢
  omega
theorem fxA.end {xa : Nat → Option Nat} {G H : xH} (h : fxA xa G H) : exFr xa [0, 25, 26] G H := h
theorem nI_m1' {v : Nat} (h : 1 ≤ v) : nI v + (-1) = nI (v - 1) := by rw [← nI_sub1 h, Int32.sub_eq_add_neg]
theorem f_plc0 : ∀ n, n < 7 → 1 ≤ n → plc n (rb n 0) n n 0 = n - 1 := by decide +kernel
theorem i_lt {i : Int32} {m : Nat} (h0 : 0 ≤ i) (h : i < nI m) (hm : m < 2 ^ 31) : ∃ j : Nat, j < m ∧ i = nI j := by
  have h1 := Int32.lt_iff_toInt_lt.mp h
  rw [nI_toInt hm] at h1
  obtain ⟨j, j1, j2⟩ := i_nat (s := i) (Int32.not_lt.mpr h0) (b := m) (by omega)
  subst j2
  rw [nI_toInt (by omega)] at h1
  exact ⟨j, by omega, rfl⟩
theorem lcF_pre {n g : Nat} : ∀ (f r : Nat) (l : List Nat) (S : List Int32), ∃ ex, lcF n g f r l S = l ++ ex := by
  intro f
  induction f with
  | zero => intro r l S; exact ⟨[], (List.append_nil _).symm⟩
  | succ f ih =>
    intro r l S
    by_cases h : nbF n g r S n = -3
    · rw [lc_end h]; exact ⟨[], (List.append_nil _).symm⟩
    · rw [lc_go h]
      obtain ⟨ex, e⟩ := ih (tn (nbF n g r S n)) (l ++ [tn (nbF n g r S n)]) (S.set (rk n (tn (nbF n g r S n))) 1)
      exact ⟨[tn (nbF n g r S n)] ++ ex, by rw [e, List.append_assoc]⟩
theorem ls_lc {n g j : Nat} (hn : n < 7) (hn5 : n < 6) (hj : j < 2 ^ 31) : ∀ (f f' r : Nat) (l : List Nat) (S : List Int32), r ∈ rws n → S.length = 120 → l.length + zc S = 120 → zc S < f → zc S < f' →
    (j < (lsF n g (nI j) f (nbF n g r S n) l S).length ↔ j < (lcF n g f' r l S).length) ∧ (j < (lcF n g f' r l S).length → (lsF n g (nI j) f (nbF n g r S n) l S).getD j 0 = (lcF n g f' r l S).getD j 0) := by
  intro f
  induction f with
  | zero => intro f' r l S _ _ _ h; exact absurd h (Nat.not_lt_zero _)
  | succ f ih =>
    intro f' r l S hr hS hl hz hz'
    have hl120 : l.length ≤ 120 := by omega
    obtain ⟨f', rfl⟩ : ∃ f0, f' = f0 + 1 := ⟨f' - 1, by omega⟩
    rcases nbF_row (g := g) (S := S) hn hr n (Nat.le_refl _) with q | ⟨q, q1, q2, q3⟩
    · rw [lc_end q]
      have e : lsF n g (nI j) (f + 1) (nbF n g r S n) l S = l := by
        show (if _ ∨ _ then _ else _) = _
        rw [if_pos (Or.inl q)]
      rw [e]
      exact ⟨Iff.rfl, fun _ => rfl⟩
    · have hne : nbF n g r S n ≠ -3 := by rw [q2]; exact nI_n3 hn q1
      by_cases c : nI j < nI l.length
      · have hjl : j < l.length := by
          have := Int32.lt_iff_toInt_lt.mp c
          rw [nI_toInt hj, nI_toInt (by omega)] at this
          omega
        have e : lsF n g (nI j) (f + 1) (nbF n g r S n) l S = l := by
          show (if _ ∨ _ then _ else _) = _
          rw [if_pos (Or.inr c)]
        obtain ⟨ex, ee⟩ := lcF_pre (n := n) (g := g) (f' + 1) r l S
        rw [e, ee]
        refine ⟨⟨fun _ => by rw [List.length_append]; omega, fun _ => hjl⟩, fun _ => ?_⟩
        rw [List.getD_eq_getElem?_getD, List.getD_eq_getElem?_getD, List.getElem?_append_left hjl]
      · have hjl : l.length ≤ j := by
          apply Nat.le_of_not_lt
          intro h
          exact c (nI_lt h (by omega))
        have e : lsF n g (nI j) (f + 1) (nbF n g r S n) l S = lsF n g (nI j) f (nbF n g q (S.set (rk n q) 1) n) (l ++ [q]) (S.set (rk n q) 1) := by
          show (if _ ∨ _ then _ else _) = _
          rw [if_neg (fun h => h.elim hne c), q2, tn_nI hn q1]
        rw [e, lc_go hne, q2, tn_nI hn q1]
        have hk := f_rk5 n hn5 q q1
        have hz1 := zc_set S (rk n q) (by rw [gD_at (by omega), q3])
        exact ih f' q (l ++ [q]) (S.set (rk n q) 1) q1 (by rw [List.length_set]; exact hS) (by rw [List.length_append, List.length_singleton]; omega) (by omega) (by omega)
theorem lcF_len {n g : Nat} (hn : n < 7) (hn5 : n < 6) : ∀ (f r : Nat) (l : List Nat) (S : List Int32), r ∈ rws n → S.length = 120 → l.length + zc S = 120 → (lcF n g f r l S).length ≤ 120 := by
  intro f
  induction f with
  | zero => intro r l S _ _ h; show l.length ≤ 120; omega
  | succ f ih =>
    intro r l S hr hS h
    rcases nbF_row (g := g) (S := S) hn hr n (Nat.le_refl _) with q | ⟨q, q1, q2, q3⟩
    · rw [lc_end q]; omega
    · rw [lc_go (by rw [q2]; exact nI_n3 hn q1), q2, tn_nI hn q1]
      have hk := f_rk5 n hn5 q q1
      have hz1 := zc_set S (rk n q) (by rw [gD_at (by omega), q3])
      exact ih q (l ++ [q]) (S.set (rk n q) 1) q1 (by rw [List.length_set]; exact hS) (by rw [List.length_append, List.length_singleton]; omega)
theorem lc_len {n g : Nat} (hn : n < 7) (hn5 : n < 6) (h1 : 1 ≤ n) : (lcA n g).length < 2 ^ 31 := Nat.lt_of_le_of_lt (lcF_len hn hn5 121 (rb n 0) [rb n 0] (S0 n) (rb_mem (show n < 7 by omega) h1 (wy_pos n (by omega))) (by unfold S0; rw [List.length_set, List.length_replicate]) (S0_z n hn5 h1)) (by decide)
theorem lsF_len {n g : Nat} {i : Int32} (hn : n < 7) (hn5 : n < 6) : ∀ (f : Nat) (r : Nat) (l : List Nat) (S : List Int32), r ∈ rws n → S.length = 120 → l.length + zc S = 120 → (lsF n g i f (nbF n g r S n) l S).length ≤ 120 := by
  intro f
  induction f with
  | zero => intro r l S _ _ h; show l.length ≤ 120; omega
  | succ f ih =>
    intro r l S hr hS h
    show (if nbF n g r S n = -3 ∨ i < nI l.length then l else lsF n g i f (nbF n g (tn (nbF n g r S n)) (S.set (rk n (tn (nbF n g r S n))) 1) n) (l ++ [tn (nbF n g r S n)]) (S.set (rk n (tn (nbF n g r S n))) 1)).length ≤ 120
    by_cases c : nbF n g r S n = -3 ∨ i < nI l.length
    · rw [if_pos c]; omega
    · rw [if_neg c]
      rcases nbF_row (g := g) (S := S) hn hr n (Nat.le_refl _) with q | ⟨q, q1, q2, q3⟩
      · exact absurd (Or.inl q) c
      · rw [q2, tn_nI hn q1]
        have hk := f_rk5 n hn5 q q1
        have hz1 := zc_set S (rk n q) (by rw [gD_at (by omega), q3])
        exact ih q (l ++ [q]) (S.set (rk n q) 1) q1 (by rw [List.length_set]; exact hS) (by rw [List.length_append, List.length_singleton]; omega)
theorem ls_len {n g f r : Nat} {i : Int32} {l : List Nat} {S : List Int32} (hn : n < 7) (hn5 : n < 6) (hz : l.length + zc S = 120) (hr : r ∈ rws n) (hS : S.length = 120) : (lsF n g i f (nbF n g r S n) l S).length < 2 ^ 31 := Nat.lt_of_le_of_lt (lsF_len hn hn5 f r l S hr hS hz) (by decide)
theorem ls_law {n g : Nat} {i : Int32} (hn : n < 7) (h1 : 1 ≤ n) (hn5 : n < 6) (hi : 0 ≤ i) : o_listed n g i = if i < nI (lcA n g).length then nI ((lcA n g).getD (tn i) 0) else -3 := by
  have hb := Int32.toInt_lt i
  obtain ⟨j, hj, rfl⟩ := i_nat (s := i) (Int32.not_lt.mpr hi) (b := 2147483647) (by omega)
  have hj31 : j < 2 ^ 31 := by omega
  have hr0 := rb_mem (show n < 7 by omega) h1 (wy_pos n (by omega))
  have hz := S0_z n hn5 h1
  rw [List.length_singleton] at hz
  have e1 : lsA n g (nI j) = lsF n g (nI j) 120 (nbF n g (rb n 0) (S0 n) n) [rb n 0] (S0 n) := by
    show (if _ ∨ _ then _ else _) = _
    rw [if_neg (fun h => h.elim (nI_n3 hn hr0) (fun c => absurd c (Int32.not_lt.mpr hi))), tn_nI hn hr0]
    rfl
  have hS0 : (S0 n).length = 120 := by unfold S0; rw [List.length_set, List.length_replicate]
  obtain ⟨a1, a2⟩ := ls_lc (g := g) (j := j) hn hn5 hj31 120 121 (rb n 0) [rb n 0] (S0 n) hr0 hS0 (by rw [List.length_singleton]; omega) (by omega) (by omega)
  have lA : (lcA n g).length < 2 ^ 31 := lc_len hn hn5 h1
  have lB : (lsA n g (nI j)).length < 2 ^ 31 := by rw [e1]; exact ls_len hn hn5 (by rw [List.length_singleton]; omega) hr0 hS0
  unfold o_listed
  rw [if_neg (Int32.not_lt.mpr hi), if_neg (show ¬ n = 6 by omega), show tn (nI j) = j from nI_clamp hj31]
  have key : (nI j < nI (lsA n g (nI j)).length) ↔ (nI j < nI (lcA n g).length) := by
    rw [Int32.lt_iff_toInt_lt, Int32.lt_iff_toInt_lt, nI_toInt hj31, nI_toInt lA, nI_toInt lB, e1]
    have : j < (lsF n g (nI j) 120 (nbF n g (rb n 0) (S0 n) n) [rb n 0] (S0 n)).length ↔ j < (lcA n g).length := a1
    omega
  by_cases c : nI j < nI (lcA n g).length
  · rw [if_pos (key.mpr c), if_pos c, e1]
    congr 1
    apply a2
    have := Int32.lt_iff_toInt_lt.mp c
    rw [nI_toInt hj31, nI_toInt lA] at this
    show j < (lcA n g).length
    omega
  · rw [if_neg (fun h => c (key.mp h)), if_neg c]
theorem cJx.refl {d e : Nat → Value} {n : Nat} {xa : Nat → Option Nat} {G : xH} (hv : cV d e n G) (hs : sIn d) (hc : scr G) (hEx : cEx xa G) : cJx d xa G G := ⟨d, xa, fun _ _ => rfl, hs, hv.1, hc, hEx, fun k => Or.inl rfl, exFr.refl⟩
theorem cJx.li {d : Nat → Value} {xa xb : Nat → Option Nat} {G H : xH} {l : List Nat} {LL S : List Int32} (hs : sIn d) (hc : scr G) (hEx : cEx xa G) (hf : exFr xa [0, 25, 26] G H) (hx : exN xa xb G.length) (hE : cEx xb H) (h0 : H[0]? = some (cO 0 (cFs (cu d 28 (.int (nI l.length)))))) (hLL : LL.length = 120) (h25 : H[25]? = some (cI 0 LL)) (hS : S.length = 120) (h26 : H[26]? = some (cI 2 S)) (h82 : 82 < G.length) : cJx d xa G H := by
  have kp : ∀ i, i < 42 → i ∉ [0, 25, 26] → i ≠ 17 → H[i]? = G[i]? := fun i hi hw h17 => hf.2.2 i (by omega) hw h17 (fun k q => by have := hEx.big q; omega)
  obtain ⟨⟨q1, F, f1, f2⟩, q2, -, ⟨B, b1, b2⟩⟩ := hc
  refine ⟨_, xb, fun i hi => ?_, fun i hi => ?_, h0, ⟨⟨fun i i1 i2 => ?_, F, f1, by rw [kp 21 (by decide) (by decide) (by decide)]; exact f2⟩, fun i i1 i2 => ?_, ⟨S, hS, h26⟩, ⟨B, b1, by rw [kp 20 (by decide) (by decide) (by decide)]; exact b2⟩⟩, hE, hx, hf.mono (fun i hi => ?_)⟩
  · unfold cu; rw [if_neg (fun q => hi (by rw [q]; decide))]
  · unfold cu
    by_cases q : i = 28
    · rw [if_pos q]; exact ⟨_, rfl⟩
    · rw [if_neg q]; exact hs i hi
  · rw [kp i (by omega) (by simp only [List.mem_cons, List.not_mem_nil, or_false]; omega) (by omega)]; exact q1 i i1 i2
  · by_cases e : i = 25
    · rw [e]; exact ⟨LL, hLL, h25⟩
    · rw [kp i (by omega) (by simp only [List.mem_cons, List.not_mem_nil, or_false]; omega) (by omega)]; exact q2 i i1 i2
  · simp only [List.mem_cons, List.not_mem_nil, or_false] at hi
    rcases hi with rfl | rfl | rfl <;> decide
section A45
variable {E : xE} {G : xH} {d e : Nat → Value} {n : Nat}
theorem A_findList {g : Nat} {LL S00 : List Int32} {xa : Nat → Option Nat}  (hv : cV d e n G) (hn3 : e 3 = .long (lN g)) (hg : g < 2 ^ 64) (h82 : 82 < G.length) (hn5 : n < 6) (h25 : G[25]? = some (cI 0 LL)) (hLL : LL.length = 120) (h26 : G[26]? = some (cI 2 S00)) (hS00 : S00.length = 120) (hEx : cEx xa G) : xMet E yX0_findList cX0_findList 4 none 6 4 21 [.ref 0] G (xre (fun v_ G' => v_ = none ∧ ∃ a R S xa', cLi n d e a R (lcA n g) S xa' G' ∧ exN xa xa' G.length ∧ exFr xa [0, 25, 26] G G')) := by
  obtain ⟨hO, hN, hn0, h1n, hn6⟩ := id hv
  refine xMet.of (lv := [some (.ref 0), none, none, none]) rfl rfl (Nat.le_of_ble_eq_true rfl) ?_
  refine xj_new (fs := [.null, .null, .null]) dX0_findList_0 K23 q1405 q1406 q186 rfl (Nat.le_of_ble_eq_true rfl) (Nat.le_of_ble_eq_true rfl) ?_
  refine xj_dup dX0_findList_3 rfl ?_
  refine xj_aload_n dX0_findList_4 rfl rfl ?_
  refine xj_dI dX0_findList_5 q1407 kI_X23_init (A_listerInit (a := G.length) (hv.app (by omega)) app_at (by rw [List.length_append]; rfl) h82 hn5 (by rw [List.getElem?_append_left (by omega)]; exact h25) hLL (by rw [List.getElem?_append_left (by omega)]; exact h26) hS00 hEx.app) rfl rfl (Nat.le_of_ble_eq_true rfl) ⟨(Nat.le_of_ble_eq_true rfl), (Nat.le_of_ble_eq_true rfl)⟩ (Nat.le_of_ble_eq_true rfl) (Nat.le_of_ble_eq_true rfl) ?_
  rintro _ H1 ⟨rfl, hli0, hg0⟩
  have hfx0 : fxA xa G H1 := fxA.of hg0
  refine xj_astn1 dX0_findList_8 rfl rfl ?_
  refine xj_wk (nc' := cx (xa n)) (ns' := 6 * cx (xa n)) (cx_le _) (by have := cx_le (xa n); show 6 * cx (xa n) ≤ 6; omega) ?_
  have lo : ∀ (K : Nat) (f : Nat) (r : Nat) (l : List Nat) (S : List Int32) (xb : Nat → Option Nat) (H : xH), f < K → (lcF n g f r l S = lcA n g) → (zc S < f) → (cLi n d e G.length r l S xb H) → ((∃ b, xb n = some b) ∨ r = rb n 0) → (exN xa xb G.length) → (fxA xa G H) → xJ E (yX0_findList, cX0_findList, 4, none, []) (xR 6 4 21) (xre (fun v_ G' => v_ = none ∧ ∃ a R S xa', cLi n d e a R (lcA n g) S xa' G' ∧ exN xa xa' G.length ∧ exFr xa [0, 25, 26] G G')) (cx (xb n)) (6 * cx (xb n)) 9 [some (.ref 0), some (.ref G.length), none, none] [] H := by
    intro K
    induction K with
    | zero => intro f r l S xb H h; exact absurd h (Nat.not_lt_zero _)
    | succ K ih_lo =>
      intro f r l S xb H hK hs hz hli hcx hxn hfr
      obtain ⟨hv_, hA_, -, -, -, ⟨hS, -⟩, -, hrm, hlz, -⟩ := id hli
      obtain ⟨hO_, hN_, -⟩ := id hv_
      obtain ⟨f, rfl⟩ : ∃ f0, f = f0 + 1 := ⟨f - 1, by omega⟩
      refine xj_aload_n dX0_findList_9 rfl rfl ?_
      refine xj_get dX0_findList_10 K0 4 (by decide) q473 hO_ rfl ?_
      refine xj_getN dX0_findList_13 K3 0 (by decide) q321 hN_ (congrArg some hn0) ?_
      refine xj_istn2 dX0_findList_16 rfl ?_
      have lv : ∀ (K : Nat) (v : Nat) (xb : Nat → Option Nat) (H : xH), v < K → (v ≤ n) → (1 ≤ v) → (nbF n g r S v = nbF n g r S n) → (cLi n d e G.length r l S xb H) → ((∃ b, xb n = some b) ∨ (r = rb n 0 ∧ v = n)) → (exN xa xb G.length) → (fxA xa G H) → xJ E (yX0_findList, cX0_findList, 4, none, []) (xR 6 4 21) (xre (fun v_ G' => v_ = none ∧ ∃ a R S xa', cLi n d e a R (lcA n g) S xa' G' ∧ exN xa xa' G.length ∧ exFr xa [0, 25, 26] G G')) (cx (xb n)) (6 * cx (xb n)) 17 [some (.ref 0), some (.ref G.length), some (.int (nI v)), none] [] H := by
        intro K
        induction K with
        | zero => intro v xb H h; exact absurd h (Nat.not_lt_zero _)
        | succ K ih_lv =>
          intro v xb H hK hvn hv1 hX hli hcx hxn hfr
          obtain ⟨hv_, hA_, -⟩ := id hli
          obtain ⟨hO_, hN_, -⟩ := id hv_
          refine xj_iload_n dX0_findList_17 rfl ?_
          refine xj_ic1 dX0_findList_18 ?_
          refine xj_icmp_le (tgt := 60) dX0_findList_19 rfl (fun c19 => ?_) (fun c19 => ?_)
          · refine xj_goto (tgt := 63) dX0_findList_60 rfl ?_
            exact xj_return dX0_findList_63 rfl ⟨rfl, G.length, r, S, xb, by rw [← hs, lc_end (by rw [← hX]; exact nb_1 (v := v) (by have : v ≤ 1 := (nI_leI (b := 1) (by omega) (by decide)).mp c19; omega))]; exact hli, hxn, hfr.end⟩
          · have hv2 : 2 ≤ v := by have : ¬ v ≤ 1 := fun h => c19 (nI_le (b := 1) h (by decide)); omega
            refine xj_icm1 dX0_findList_22 ?_
            refine xj_istn3 dX0_findList_23 rfl ?_
            refine xj_iload_n dX0_findList_24 rfl ?_
            refine xj_ic2 dX0_findList_25 ?_
            refine xj_icmp_ge (tgt := 54) dX0_findList_26 rfl (fun c26 => absurd c26 (by decide)) (fun c26 => ?_)
            refine xj_aload_n dX0_findList_29 rfl rfl ?_
            refine xj_iload_n dX0_findList_30 rfl ?_
            refine xj_iload_n dX0_findList_31 rfl ?_
            refine xj_dV dX0_findList_32 q1428 kV_X23_goesOn (A_goesOnL (u := false) hli hn3 hg h82 hn5 (by omega) (by omega)) hA_ rfl rfl rfl rfl (Nat.le_of_ble_eq_true rfl) ⟨(Nat.le_of_ble_eq_true rfl), (Nat.le_of_ble_eq_true rfl)⟩ (Nat.le_refl _) (Nat.le_refl _) ?_
            rintro _ H1 ⟨rfl, xc, hcl, hfs, hkp, hxy, hfy⟩
            have hsm : ∃ b, xc n = some b := (by rcases hcx with ⟨b, hb⟩ | ⟨q1, q2⟩; (exact hkp b hb); (exact hfs q2 (by rw [q1, q2, f_plc0 n (by omega) h1n]; omega) rfl))
            obtain ⟨b0, hb0_⟩ := hsm
            have hc0 : cx (xc n) = 0 := by rw [hb0_]; rfl
            have hxz : exN xa xc G.length := hxn.tr hxy hfr.1
            have hfz : fxA xa G H1 := hfr.st hxn hfy
            refine xj_if_eq (tgt := 41) dX0_findList_35 rfl (fun c35 => ?_) (fun c35 => ?_)
            · have hb0 := b1_z c35
              rw [hb0, if_neg (by decide)] at hcl
              obtain ⟨hv1_, hA1, -⟩ := id hcl
              have hli1 := hcl
              have hcx1 : ∃ b, xc n = some b := ⟨b0, hb0_⟩
              have hxn1 := hxz
              have hfr1 := hfz
              refine xj_wk (nc' := cx (xc n)) (ns' := 6 * cx (xc n)) (by rw [hc0]; exact Nat.zero_le _) (by rw [hc0]; exact Nat.zero_le _) ?_
              refine xj_iload_n dX0_findList_41 rfl ?_
              refine xj_if_le (tgt := 48) dX0_findList_42 rfl (fun c42 => ?_) (fun c42 => absurd (by decide) c42)
              refine xj_iinc3 (cst := 2) dX0_findList_48 rfl rfl ?_
              refine xj_goto (tgt := 24) dX0_findList_51 rfl ?_
              refine xj_iload_n dX0_findList_24 rfl ?_
              refine xj_ic2 dX0_findList_25 ?_
              refine xj_icmp_ge (tgt := 54) dX0_findList_26 rfl (fun c26 => absurd c26 (by decide)) (fun c26 => ?_)
              refine xj_aload_n dX0_findList_29 rfl rfl ?_
              refine xj_iload_n dX0_findList_30 rfl ?_
              refine xj_iload_n dX0_findList_31 rfl ?_
              refine xj_dV dX0_findList_32 q1428 kV_X23_goesOn (A_goesOnL (u := true) hli1 hn3 hg h82 hn5 (by omega) (by omega)) hA1 rfl rfl rfl rfl (Nat.le_of_ble_eq_true rfl) ⟨(Nat.le_of_ble_eq_true rfl), (Nat.le_of_ble_eq_true rfl)⟩ (Nat.le_refl _) (Nat.le_refl _) ?_
              rintro _ H2 ⟨rfl, xd, hcl, hfs, hkp, hxy, hfy⟩
              have hsm : ∃ b, xd n = some b := (by obtain ⟨b, hb⟩ := hcx1; exact hkp b hb)
              obtain ⟨b0, hb0_⟩ := hsm
              have hc0 : cx (xd n) = 0 := by rw [hb0_]; rfl
              have hxz : exN xa xd G.length := hxn1.tr hxy hfr1.1
              have hfz : fxA xa G H2 := hfr1.st hxn1 hfy
              refine xj_if_eq (tgt := 41) dX0_findList_35 rfl (fun c35 => ?_) (fun c35 => ?_)
              · have hb1 := b1_z c35
                rw [hb1, if_neg (by decide)] at hcl
                refine xj_wk (nc' := cx (xd n)) (ns' := 6 * cx (xd n)) (by rw [hc0]; exact Nat.zero_le _) (by rw [hc0]; exact Nat.zero_le _) ?_
                refine xj_iload_n dX0_findList_41 rfl ?_
                refine xj_if_le (tgt := 48) dX0_findList_42 rfl (fun c42 => absurd c42 (by decide)) (fun c42 => ?_)
                refine xj_goto (tgt := 54) dX0_findList_45 rfl ?_
                refine xj_iinc2 (cst := (-1)) dX0_findList_54 rfl rfl ?_
                rw [nI_m1' (by omega)]
                refine xj_goto (tgt := 17) dX0_findList_57 rfl ?_
                exact xj_fg3 (ih_lv (v - 1) xd H2 (by omega) (by omega) (by omega) ((nb_s hv2 hb0 hb1).trans hX) hcl (Or.inl ⟨b0, hb0_⟩) hxz hfz)
              · have hbt := b1_nz c35
                rw [hbt, if_pos rfl] at hcl
                have hXX : (nrs n g r v true) = nbF n g r S n := (nb_t1 hv2 hb0 hbt rfl).trans hX
                rw [hXX] at hcl
                obtain ⟨hq3, hq0, hqm⟩ := lc_new (by omega) hrm hS hn5 (by rw [← hXX]; exact hbt)
                have hzc := zc_set S _ hq0
                refine xj_wk (nc' := cx (xd n)) (ns' := 6 * cx (xd n)) (by rw [hc0]; exact Nat.zero_le _) (by rw [hc0]; exact Nat.zero_le _) ?_
                refine xj_goto (tgt := 9) dX0_findList_38 rfl ?_
                exact xj_fg2 (xj_fg3 (ih_lo f (tn (nbF n g r S n)) _ _ xd H2 (by omega) (by rw [← hs]; exact (lc_go hq3).symm) (by omega) hcl (Or.inl ⟨b0, hb0_⟩) hxz hfz))
            · have hbt := b1_nz c35
              rw [hbt, if_pos rfl] at hcl
              have hXX : (nrs n g r v false) = nbF n g r S n := (nb_t0 hv2 hbt rfl).trans hX
              rw [hXX] at hcl
              obtain ⟨hq3, hq0, hqm⟩ := lc_new (by omega) hrm hS hn5 (by rw [← hXX]; exact hbt)
              have hzc := zc_set S _ hq0
              refine xj_wk (nc' := cx (xc n)) (ns' := 6 * cx (xc n)) (by rw [hc0]; exact Nat.zero_le _) (by rw [hc0]; exact Nat.zero_le _) ?_
              refine xj_goto (tgt := 9) dX0_findList_38 rfl ?_
              exact xj_fg2 (xj_fg3 (ih_lo f (tn (nbF n g r S n)) _ _ xc H1 (by omega) (by rw [← hs]; exact (lc_go hq3).symm) (by omega) hcl (Or.inl ⟨b0, hb0_⟩) hxz hfz))
      exact lv (n + 1) n xb H (by omega) (Nat.le_refl _) h1n rfl hli (hcx.imp id (fun q => ⟨q, rfl⟩)) hxn hfr
  exact lo 122 121 (rb n 0) [rb n 0] (S0 n) xa H1 (by omega) rfl (by have := S0_z n hn5 h1n; rw [List.length_singleton] at this; omega) hli0 (Or.inr rfl) (fun k => Or.inl rfl) hfx0
theorem A_listed {i : Int32} {g : Nat} {xa : Nat → Option Nat}  (hv : cV d e n G) (hn3 : e 3 = .long (lN g)) (hg : g < 2 ^ 64) (hs : sIn d) (hc : scr G) (hEx : cEx xa G) (h82 : 82 < G.length) : xMet E yX0_listed cX0_listed 2 (some FieldType.int) 7 4 21 [.ref 0, .int i] G (xre (fun v_ G' => v_ = some (.int (o_listed n g i)) ∧ cJx d xa G G')) := by
  obtain ⟨hO, hN, hn0, h1n, hn6⟩ := id hv
  refine xMet.of (lv := [some (.ref 0), some (.int i)]) rfl rfl (Nat.le_of_ble_eq_true rfl) ?_
  refine xj_iload_n dX0_listed_0 rfl ?_
  refine xj_if_ge (tgt := 6) dX0_listed_1 rfl (fun c1 => ?_) (fun c1 => ?_)
  · refine xj_aload_n dX0_listed_6 rfl rfl ?_
    refine xj_get dX0_listed_7 K0 4 (by decide) q473 hO rfl ?_
    refine xj_getN dX0_listed_10 K3 0 (by decide) q321 hN (congrArg some hn0) ?_
    refine xj_ic5 dX0_listed_13 ?_
    refine xj_icmp_le (tgt := 20) dX0_listed_14 rfl (fun c14 => ?_) (fun c14 => ?_)
    · have hn5 : n < 6 := by have : n ≤ 5 := (nI_leI (b := 5) (by omega) (by decide)).mp c14; omega
      obtain ⟨LL0, hLL0, h25⟩ := hc.2.1 25 (by decide) (by decide)
      obtain ⟨S00, hS00, h26⟩ := hc.2.2.1
      refine xj_aload_n dX0_listed_20 rfl rfl ?_
      refine xj_dV dX0_listed_21 q1401 kV_X0_findList (A_findList hv hn3 hg h82 hn5 h25 hLL0 h26 hS00 hEx) hO rfl rfl rfl rfl (Nat.le_of_ble_eq_true rfl) ⟨(Nat.le_of_ble_eq_true rfl), (Nat.le_of_ble_eq_true rfl)⟩ (Nat.le_of_ble_eq_true rfl) (Nat.le_of_ble_eq_true rfl) ?_
      rintro _ H ⟨rfl, a, R, S, xa', hli, hxn, hfr⟩
      obtain ⟨hv_, hA_, hR_, -, ⟨LL, hLL, k25, hLl⟩, ⟨hS, k26⟩, hE, hrm, hlz, hxk⟩ := id hli
      obtain ⟨hO_, hN_, -⟩ := id hv_
      have hJ : cJx d xa G H := cJx.li hs hc hEx hfr hxn hE hO_ hLL k25 hS k26 h82
      refine xj_iload_n dX0_listed_24 rfl ?_
      refine xj_aload_n dX0_listed_25 rfl rfl ?_
      refine xj_get dX0_listed_26 K0 28 (by decide) q500 hO_ rfl ?_
      refine xj_icmp_ge (tgt := 41) dX0_listed_29 rfl (fun c29 => ?_) (fun c29 => ?_)
      · refine xj_bipush (v := -3) dX0_listed_41 rfl ?_
        exact xj_ireturn dX0_listed_43 rfl rfl ⟨by rw [ls_law (by omega) h1n hn5 c1]; first | (rw [if_pos (Int32.not_le.mp c29), show tn (nI j) = j from nI_clamp (by omega), List.getD_eq_getElem?_getD, hx]; rfl) | (rw [if_neg (Int32.not_lt.mpr c29)]), hJ⟩
      · obtain ⟨j, hj, rfl⟩ : ∃ j : Nat, j < (lcA n g).length ∧ i = nI j := i_lt c1 (Int32.not_le.mp c29) (by omega)
        obtain ⟨x, hx⟩ : ∃ x, (lcA n g)[j]? = some x := ⟨_, List.getElem?_eq_getElem hj⟩
        refine xj_aload_n dX0_listed_32 rfl rfl ?_
        refine xj_get dX0_listed_33 K0 26 (by decide) q496 hO_ rfl ?_
        refine xj_iload_n dX0_listed_36 rfl ?_
        refine xj_iald dX0_listed_37 k25 rfl (by omega) (hLl j x hx) ?_
        refine xj_goto (tgt := 43) dX0_listed_38 rfl ?_
        exact xj_ireturn dX0_listed_43 rfl rfl ⟨by rw [ls_law (by omega) h1n hn5 c1]; first | (rw [if_pos (Int32.not_le.mp c29), show tn (nI j) = j from nI_clamp (by omega), List.getD_eq_getElem?_getD, hx]; rfl) | (rw [if_neg (Int32.not_lt.mpr c29)]), hJ⟩
    · refine xj_bipush (v := -4) dX0_listed_17 rfl ?_
      exact xj_ireturn dX0_listed_19 rfl rfl ⟨by have h6 : n = 6 := (by have : 5 < n := Nat.lt_of_not_le fun q => c14 (nI_le (b := 5) q (by decide)); omega); unfold o_listed; rw [if_neg (Int32.not_lt.mpr c1), if_pos h6], cJx.refl hv hs hc hEx⟩
  · refine xj_icm1 dX0_listed_4 ?_
    exact xj_ireturn dX0_listed_5 rfl rfl ⟨by unfold o_listed; rw [if_pos (Int32.not_le.mp c1)], cJx.refl hv hs hc hEx⟩
end A45
