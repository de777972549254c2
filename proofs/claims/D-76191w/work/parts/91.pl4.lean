/-! ===== plain law: the least row above two rows, the greatest below ===== -/
set_option maxRecDepth 100000
def lcN : Nat → List (Nat × List (Nat × Nat))
  | 1 => lc1
  | 2 => lc2
  | 3 => lc3
  | 4 => lc4
  | 5 => lc5
  | 6 => lc6
  | _ => []
theorem f_cl {n : Nat} (hn : n < 7) (h1 : 1 ≤ n) : allC (clQ n) (lcN n) 0 = true := by
  match n, hn, h1 with
  | 1, _, _ => exact f_cl1
  | 2, _, _ => exact f_cl2
  | 3, _, _ => exact f_cl3
  | 4, _, _ => exact f_cl4
  | 5, _, _ => exact f_cl5
  | 6, _, _ => exact f_cl6
theorem f_wfC : ∀ n, n < 7 → wfC (lcN n) = true := by decide +kernel
theorem f_lcT : ∀ n, n < 7 → ((lcN n).all fun q => q.2.all fun x => (tls n).contains (q.1, x.1, x.2)) = true := by decide +kernel
theorem f_alL : ∀ n, n < 7 → orL (fun q : Nat × List (Nat × Nat) => 2 ^ q.1) (lcN n) 0 = alP n := by decide +kernel
theorem al_mem {n i : Nat} (hn : n < 7) (h : (alP n).testBit i = true) : i ∈ (lcN n).map (·.1) := by
  rw [← f_alL n hn, orL_bit, Nat.zero_testBit, Bool.false_or, List.any_eq_true] at h
  obtain ⟨q, hq, hb⟩ := h
  rw [Nat.testBit_two_pow] at hb
  exact List.mem_map.mpr ⟨q, hq, of_decide_eq_true hb⟩
theorem cotr_or {l : List (Nat × Nat × Nat)} {s t : Nat} (h1 : cotr l s = true) (h2 : cotr l t = true) : cotr l (s ||| t) = true := by
  unfold cotr at *
  rw [List.all_eq_true] at *
  intro q hq
  have a := h1 q hq
  have b := h2 q hq
  simp only [Nat.testBit_or]
  revert a b
  cases s.testBit q.1 <;> cases s.testBit q.2.1 <;> cases s.testBit q.2.2 <;> cases t.testBit q.1 <;> cases t.testBit q.2.1 <;> cases t.testBit q.2.2 <;> decide
theorem row_of {n R : Nat} (hn : n < 7) (h1 : 1 ≤ n) (hR : R < 10 ^ n) (hm : mask n R = 2 ^ n - 1) : R ∈ rws n := by
  have hp : (10 : Nat) ^ n < 2 ^ 31 := Nat.lt_of_le_of_lt (Nat.pow_le_pow_right (by decide) (show n ≤ 6 by omega)) (by decide)
  have h31 : R < 2 ^ 31 := by omega
  have : rowB n (nI R) = true := by rw [rowB_in h31 (nI_lt hR hp), hm, beq_self_eq_true]
  obtain ⟨S, hS, e⟩ := rowB_t hn h1 this
  rw [(nI_eq h31 (R31 hn hS)).mp e]; exact hS
theorem cl_row {n s : Nat} (hn : n < 7) (h1 : 1 ≤ n) (hs : sbs s (alP n)) (hc : cotr (tls n) s = true) : ∃ R ∈ rws n, iv6 n R = cpN n s := by
  have h := allC_ok _ 0 s (f_cl hn h1) (f_wfC n hn) (fun i hi => by rw [Nat.zero_testBit] at hi; cases hi) (fun i hi => Or.inr (al_mem hn (hs i hi))) (fun q hq hb x hx => by
    have hm := List.all_eq_true.mp (List.all_eq_true.mp (f_lcT n hn) q hq) x hx
    have hc' := List.all_eq_true.mp hc _ (List.contains_iff_mem.mp hm)
    simp only [hb, Bool.not_true, Bool.false_or] at hc'
    exact hc')
  unfold clQ at h
  simp only [fz_eq, Bool.and_eq_true] at h
  exact ⟨_, row_of hn h1 (blt_t h.1) (Nat.eq_of_beq_eq_true h.2.1), Nat.eq_of_beq_eq_true h.2.2⟩
/-! what follows stays below -/
def tlsC (n : Nat) : Bool := (List.range 7).all fun w => (List.range 7).all fun lo => (List.range 7).all fun m => !(Nat.ble 1 lo && (Nat.blt lo m && (Nat.blt m (lo + w) && Nat.ble (lo + w) n))) || (tls n).contains (pr lo (lo + w), pr lo m, pr m (lo + w))
theorem f_tlsC : ∀ n, n < 7 → tlsC n = true := by decide +kernel
theorem f_tls (n : Nat) (hn : n < 7) (w : Nat) (hw : w < 7) (lo : Nat) (hlo : lo < 7) (m : Nat) (hm : m < 7) (h1 : 1 ≤ lo) (h2 : lo < m) (h3 : m < lo + w) (h4 : lo + w ≤ n) : (pr lo (lo + w), pr lo m, pr m (lo + w)) ∈ tls n := by
  have h := List.all_eq_true.mp (List.all_eq_true.mp (List.all_eq_true.mp (f_tlsC n hn) w (List.mem_range.mpr hw)) lo (List.mem_range.mpr hlo)) m (List.mem_range.mpr hm)
  have b1 : Nat.ble 1 lo = true := Nat.ble_eq.mpr h1
  have b2 : Nat.blt lo m = true := Nat.ble_eq.mpr h2
  have b3 : Nat.blt m (lo + w) = true := Nat.ble_eq.mpr h3
  have b4 : Nat.ble (lo + w) n = true := Nat.ble_eq.mpr h4
  rw [b1, b2, b3, b4] at h
  exact List.contains_iff_mem.mp h
theorem cp_keep {n s T : Nat} (hn : n < 7) (hT : trs (tls n) T = true) (h : sbs s T) : sbs (cpN n s) T := by
  have hI : ∀ (lo w : Nat), 1 ≤ lo → lo + w ≤ n → ∀ (k m s : Nat), lo < m → m + k ≤ lo + w → sbs s T → sbs (lpN (cpI lo w) m k s) T := by
    intro lo w hlo hw k
    induction k with
    | zero => intro m s _ _ h; exact h
    | succ k ih =>
      intro m s hm hk h
      rw [lpN_s]
      refine ih (m + 1) _ (by omega) (by omega) ?_
      unfold cpI
      refine sbs_or.mpr ⟨h, ?_⟩
      by_cases c : (s.testBit (pr lo m) && s.testBit (pr m (lo + w))) = true
      · rw [if_pos c]
        rw [Bool.and_eq_true] at c
        have hq := List.all_eq_true.mp hT _ (f_tls n hn w (by omega) lo (by omega) m (by omega) hlo hm (by omega) hw)
        simp only [h _ c.1, h _ c.2, Bool.and_self, Bool.not_true, Bool.or_false] at hq
        intro i hi
        rw [Nat.testBit_two_pow] at hi
        rw [← of_decide_eq_true hi]; exact hq
      · rw [if_neg c]; intro i hi; rw [Nat.zero_testBit] at hi; cases hi
  have hM : ∀ (w : Nat), 1 ≤ w → ∀ (k lo s : Nat), 1 ≤ lo → lo + k + w ≤ n + 1 → sbs s T → sbs (lpN (cpM w) lo k s) T := by
    intro w hw1 k
    induction k with
    | zero => intro lo s _ _ h; exact h
    | succ k ih =>
      intro lo s hlo hk h
      rw [lpN_s]
      refine ih (lo + 1) _ (by omega) (by omega) ?_
      exact hI lo w hlo (by omega) _ _ _ (by omega) (by omega) h
  have hW : ∀ (k w s : Nat), 1 ≤ w → w + k ≤ n → sbs s T → sbs (lpN (cpW n) w k s) T := by
    intro k
    induction k with
    | zero => intro w s _ _ h; exact h
    | succ k ih =>
      intro w s hw1 hk h
      rw [lpN_s]
      refine ih (w + 1) _ (by omega) (by omega) ?_
      exact hM w hw1 _ 1 s (by omega) (by omega) h
  by_cases h2 : 2 ≤ n
  · exact hW (n - 2) 2 s (by omega) (by omega) h
  · unfold cpN; rw [show n - 2 = 0 by omega]; exact h
theorem cp_sup {n s : Nat} : sbs s (cpN n s) := by
  have hI : ∀ (lo w k m s : Nat), sbs s (lpN (cpI lo w) m k s) := by
    intro lo w k
    induction k with
    | zero => intro m s i hi; exact hi
    | succ k ih =>
      intro m s
      rw [lpN_s]
      exact sbs.trans (fun i hi => by unfold cpI; rw [Nat.testBit_or, hi]; rfl) (ih (m + 1) _)
  have hM : ∀ (w k lo s : Nat), sbs s (lpN (cpM w) lo k s) := by
    intro w k
    induction k with
    | zero => intro m s i hi; exact hi
    | succ k ih => intro m s; rw [lpN_s]; exact sbs.trans (hI _ _ _ _ _) (ih (m + 1) _)
  have hW : ∀ (k w s : Nat), sbs s (lpN (cpW n) w k s) := by
    intro k
    induction k with
    | zero => intro m s i hi; exact hi
    | succ k ih => intro m s; rw [lpN_s]; exact sbs.trans (hM _ _ _ _) (ih (m + 1) _)
  exact hW _ _ _
theorem rb_ex {n R : Nat} (hn : n < 7) (h1 : 1 ≤ n) (hr : R ∈ rws n) : ∃ i, i < wy n ∧ rb n i = R := by
  obtain ⟨i, hi, e⟩ := List.mem_iff_getElem.mp hr
  rw [f_cnt n hn h1] at hi
  refine ⟨i, hi, ?_⟩
  have := (f_rb n hn h1 i hi).1
  rw [List.getElem?_eq_getElem (by rw [f_cnt n hn h1]; exact hi), e] at this
  exact (Option.some.inj this).symm
theorem jnS_min {n B : Nat} : ∀ (k i : Nat) (s : Nat × Nat), (lpN (jnF n B) i k s).2 ≤ s.2 ∧ ∀ j, i ≤ j → j < i + k → B &&& inv n (rb n j) = B → (lpN (jnF n B) i k s).2 ≤ pc64 (inv n (rb n j)) := by
  intro k
  induction k with
  | zero => intro i s; exact ⟨Nat.le_refl _, fun j h1 h2 => by omega⟩
  | succ k ih =>
    intro i s
    rw [lpN_s]
    obtain ⟨q1, q2⟩ := ih (i + 1) (jnF n B i s)
    have h0 : (jnF n B i s).2 ≤ s.2 := by
      unfold jnF
      split
      · rename_i c; exact Nat.le_of_lt c.2
      · exact Nat.le_refl _
    refine ⟨Nat.le_trans q1 h0, fun j h1 h2 hB => ?_⟩
    by_cases e : j = i
    · subst e
      refine Nat.le_trans q1 ?_
      unfold jnF
      split
      · exact Nat.le_refl _
      · rename_i c
        exact Nat.le_of_not_lt fun q => c ⟨hB, q⟩
    · exact q2 j (by omega) (by omega) hB
theorem jnS_pc {n B : Nat} (hn : n < 7) (h1 : 1 ≤ n) (hB : B &&& inv n (rb n (wy n - 1)) = B) : (lpN (jnF n B) 0 (wy n) (0, 99)).2 = pc64 (inv n (jnS n B)) := by
  have key : ∀ (k i : Nat) (s : Nat × Nat), (s.2 = pc64 (inv n s.1) ∨ s = (0, 99)) → ((lpN (jnF n B) i k s).2 = pc64 (inv n (lpN (jnF n B) i k s).1) ∨ lpN (jnF n B) i k s = (0, 99)) := by
    intro k
    induction k with
    | zero => intro i s h; exact h
    | succ k ih =>
      intro i s h
      rw [lpN_s]
      refine ih (i + 1) _ ?_
      unfold jnF
      split
      · exact Or.inl rfl
      · exact h
  have hw : 0 < wy n := (wy_in n hn).1
  rcases key (wy n) 0 (0, 99) (Or.inr rfl) with h | h
  · exact h
  · have h2 := (jnS_min (n := n) (B := B) (wy n) 0 (0, 99)).2 (wy n - 1) (Nat.zero_le _) (by omega) hB
    rw [h] at h2
    have := pc64_le (inv n (rb n (wy n - 1)))
    exact absurd h2 (by show ¬ (99 ≤ _); omega)
theorem jn_law {n a b : Nat} (hn : n < 7) (h1 : 1 ≤ n) (ha : a ∈ rws n) (hb : b ∈ rws n) : cpN n (iv6 n a ||| iv6 n b) = iv6 n (jnS n (inv n a ||| inv n b)) := by
  have hB : (inv n a ||| inv n b) &&& inv n (rb n (wy n - 1)) = inv n a ||| inv n b := by rw [Nat.and_or_distrib_right, f_rev n hn h1 a ha, f_rev n hn h1 b hb]
  have hJm := jn2_mem hn h1 ha hb
  have hJs := sbs_and.mp (jnS_sup hn h1 hB)
  generalize hJ : jnS n (inv n a ||| inv n b) = J at hJm hJs ⊢
  have ra := row_ok hn ha
  have rb' := row_ok hn hb
  have rJ := row_ok hn hJm
  obtain ⟨R, hR, e⟩ := cl_row hn h1 (s := iv6 n a ||| iv6 n b) (sbs_or.mpr ⟨sbs_and.mp ra.2.2.2.2.1, sbs_and.mp rb'.2.2.2.2.1⟩) (cotr_or ra.2.2.1 rb'.2.2.1)
  have hsJ : sbs (iv6 n a ||| iv6 n b) (iv6 n J) := sbs_or.mpr ⟨(iv_sbs hn ha hJm).mpr (sbs_or.mp hJs).1, (iv_sbs hn hb hJm).mpr (sbs_or.mp hJs).2⟩
  have hRJ : sbs (iv6 n R) (iv6 n J) := by rw [e]; exact cp_keep hn rJ.2.2.2.1 hsJ
  have hsR : sbs (iv6 n a ||| iv6 n b) (iv6 n R) := by rw [e]; exact cp_sup
  have hBR : sbs (inv n a ||| inv n b) (inv n R) := sbs_or.mpr ⟨(iv_sbs hn ha hR).mp (sbs_or.mp hsR).1, (iv_sbs hn hb hR).mp (sbs_or.mp hsR).2⟩
  obtain ⟨i, hi, ei⟩ := rb_ex hn h1 hR
  have hmin := (jnS_min (n := n) (B := inv n a ||| inv n b) (wy n) 0 (0, 99)).2 i (Nat.zero_le _) (by omega) (by rw [ei]; exact sbs_and.mpr hBR)
  rw [jnS_pc hn h1 hB, hJ, ei] at hmin
  rw [← e]
  refine (pc_mono 64 _ _ (Nat.lt_trans (iv6_lt hn hJm) (by decide)) (Nat.le_refl _) (Nat.lt_trans (iv6_lt hn hR) (by decide)) hRJ).2 ?_
  rw [rJ.2.2.2.2.2, (row_ok hn hR).2.2.2.2.2]
  exact hmin
/-! the greatest row below two rows: all turned round -/
def tnC (n R : Nat) : Bool := fz (trn n R n 0) fun S => Nat.beq (mask n S) (2 ^ n - 1) && (Nat.blt S (10 ^ n) && (Nat.beq (trn n S n 0) R && Nat.beq (andn (alP n) (iv6 n R)) (iv6 n S)))
theorem f_tnC : ∀ n, n < 7 → ∀ R ∈ rws n, tnC n R = true := by decide +kernel
theorem tn_ok {n R : Nat} (hn : n < 7) (h1 : 1 ≤ n) (hr : R ∈ rws n) : trn n R n 0 ∈ rws n ∧ trn n (trn n R n 0) n 0 = R ∧ andn (alP n) (iv6 n R) = iv6 n (trn n R n 0) := by
  have h := f_tnC n hn R hr
  unfold tnC at h
  simp only [fz_eq, Bool.and_eq_true] at h
  exact ⟨row_of hn h1 (blt_t h.2.1) (Nat.eq_of_beq_eq_true h.1), Nat.eq_of_beq_eq_true h.2.2.1, Nat.eq_of_beq_eq_true h.2.2.2⟩
theorem andn_bit {a b i : Nat} (ha : a < 2 ^ 64) : (andn a b).testBit i = (a.testBit i && !b.testBit i) := by
  unfold andn
  rw [Nat.testBit_and, Nat.testBit_xor, Nat.testBit_two_pow_sub_one]
  by_cases hi : i < 64
  · rw [decide_eq_true hi]; cases a.testBit i <;> cases b.testBit i <;> rfl
  · rw [Nat.testBit_lt_two_pow (Nat.lt_of_lt_of_le ha (Nat.pow_le_pow_right (by decide) (by omega)))]; rfl
theorem tn_sbs {n a b : Nat} (hn : n < 7) (h1 : 1 ≤ n) (ha : a ∈ rws n) (hb : b ∈ rws n) (h : sbs (iv6 n a) (iv6 n b)) : sbs (iv6 n (trn n b n 0)) (iv6 n (trn n a n 0)) := by
  have hal : alP n < 2 ^ 64 := Nat.lt_trans (f_alP n hn) (by decide)
  rw [← (tn_ok hn h1 ha).2.2, ← (tn_ok hn h1 hb).2.2]
  intro i hi
  rw [andn_bit hal, Bool.and_eq_true] at hi ⊢
  refine ⟨hi.1, ?_⟩
  cases hc : (iv6 n a).testBit i with
  | false => rfl
  | true => rw [h i hc] at hi; exact absurd hi.2 (by decide)
theorem mtS_max {n B : Nat} : ∀ (k i : Nat) (s : Nat × Nat), s.2 ≤ (lpN (mtF n B) i k s).2 ∧ ∀ j, i ≤ j → j < i + k → inv n (rb n j) &&& B = inv n (rb n j) → pc64 (inv n (rb n j)) + 1 ≤ (lpN (mtF n B) i k s).2 := by
  intro k
  induction k with
  | zero => intro i s; exact ⟨Nat.le_refl _, fun j h1 h2 => by omega⟩
  | succ k ih =>
    intro i s
    rw [lpN_s]
    obtain ⟨q1, q2⟩ := ih (i + 1) (mtF n B i s)
    have h0 : s.2 ≤ (mtF n B i s).2 := by
      unfold mtF
      split
      · rename_i c; exact Nat.le_of_lt c.2
      · exact Nat.le_refl _
    refine ⟨Nat.le_trans h0 q1, fun j h1 h2 hB => ?_⟩
    by_cases e : j = i
    · subst e
      refine Nat.le_trans ?_ q1
      unfold mtF
      split
      · exact Nat.le_refl _
      · rename_i c
        exact Nat.le_of_not_lt fun q => c ⟨hB, q⟩
    · exact q2 j (by omega) (by omega) hB
theorem mtS_pc {n B : Nat} (hn : n < 7) (h1 : 1 ≤ n) : (lpN (mtF n B) 0 (wy n) (0, 0)).2 = pc64 (inv n (mtS n B)) + 1 := by
  have key : ∀ (k i : Nat) (s : Nat × Nat), (s.2 = pc64 (inv n s.1) + 1 ∨ s = (0, 0)) → ((lpN (mtF n B) i k s).2 = pc64 (inv n (lpN (mtF n B) i k s).1) + 1 ∨ lpN (mtF n B) i k s = (0, 0)) := by
    intro k
    induction k with
    | zero => intro i s h; exact h
    | succ k ih =>
      intro i s h
      rw [lpN_s]
      refine ih (i + 1) _ ?_
      unfold mtF
      split
      · exact Or.inl rfl
      · exact h
  have hw : 0 < wy n := (wy_in n hn).1
  rcases key (wy n) 0 (0, 0) (Or.inr rfl) with h | h
  · exact h
  · have h2 := (mtS_max (n := n) (B := B) (wy n) 0 (0, 0)).2 0 (Nat.zero_le _) (by omega) (by rw [f_id0 n hn h1]; exact Nat.zero_and _)
    rw [h] at h2
    exact absurd h2 (by show ¬ (_ ≤ 0); omega)
theorem mt_law {n a b : Nat} (hn : n < 7) (h1 : 1 ≤ n) (ha : a ∈ rws n) (hb : b ∈ rws n) : andn (alP n) (cpN n (andn (alP n) (iv6 n a) ||| andn (alP n) (iv6 n b))) = iv6 n (mtS n (inv n a &&& inv n b)) := by
  obtain ⟨ta, ta2, ta3⟩ := tn_ok hn h1 ha
  obtain ⟨tb, tb2, tb3⟩ := tn_ok hn h1 hb
  rw [ta3, tb3, jn_law hn h1 ta tb]
  have hJm := jn2_mem hn h1 ta tb
  have hB : (inv n (trn n a n 0) ||| inv n (trn n b n 0)) &&& inv n (rb n (wy n - 1)) = inv n (trn n a n 0) ||| inv n (trn n b n 0) := by rw [Nat.and_or_distrib_right, f_rev n hn h1 _ ta, f_rev n hn h1 _ tb]
  have hJs := sbs_and.mp (jnS_sup hn h1 hB)
  have hcp := jn_law hn h1 ta tb
  generalize hJ : jnS n (inv n (trn n a n 0) ||| inv n (trn n b n 0)) = J at hJm hJs hcp ⊢
  obtain ⟨tJ, tJ2, tJ3⟩ := tn_ok hn h1 hJm
  rw [tJ3]
  have hKm := mtS_mem (B := inv n a &&& inv n b) hn h1
  have hKs := sbs_and.mp (mtS_sub (B := inv n a &&& inv n b) hn h1)
  have hpc := mtS_pc (B := inv n a &&& inv n b) hn h1
  have hmax := (mtS_max (n := n) (B := inv n a &&& inv n b) (wy n) 0 (0, 0)).2
  generalize hK : mtS n (inv n a &&& inv n b) = K at hKm hKs hpc ⊢
  have and_sbs : ∀ {A : Nat}, sbs A (inv n a &&& inv n b) ↔ sbs A (inv n a) ∧ sbs A (inv n b) := fun {A} => by
    constructor
    · intro h; exact ⟨fun i hi => by have := h i hi; rw [Nat.testBit_and, Bool.and_eq_true] at this; exact this.1, fun i hi => by have := h i hi; rw [Nat.testBit_and, Bool.and_eq_true] at this; exact this.2⟩
    · rintro ⟨q1, q2⟩ i hi; rw [Nat.testBit_and, q1 i hi, q2 i hi]; rfl
  -- the turned join lies below both
  have hJa : sbs (iv6 n (trn n J n 0)) (iv6 n a) := by
    have := tn_sbs hn h1 ta hJm ((iv_sbs hn ta hJm).mpr (sbs_or.mp hJs).1)
    rwa [ta2] at this
  have hJb : sbs (iv6 n (trn n J n 0)) (iv6 n b) := by
    have := tn_sbs hn h1 tb hJm ((iv_sbs hn tb hJm).mpr (sbs_or.mp hJs).2)
    rwa [tb2] at this
  -- K lies below the turned join
  obtain ⟨tK, tK2, tK3⟩ := tn_ok hn h1 hKm
  have hKa := (iv_sbs hn hKm ha).mpr (and_sbs.mp hKs).1
  have hKb := (iv_sbs hn hKm hb).mpr (and_sbs.mp hKs).2
  have hKJ : sbs (iv6 n K) (iv6 n (trn n J n 0)) := by
    have h3 : sbs (iv6 n J) (iv6 n (trn n K n 0)) := by
      rw [← hcp]
      exact cp_keep hn (row_ok hn tK).2.2.2.1 (sbs_or.mpr ⟨tn_sbs hn h1 hKm ha hKa, tn_sbs hn h1 hKm hb hKb⟩)
    have := tn_sbs hn h1 hJm tK h3
    rwa [tK2] at this
  obtain ⟨i, hi, ei⟩ := rb_ex hn h1 tJ
  have hm := hmax i (Nat.zero_le _) (by omega) (by rw [ei]; exact sbs_and.mpr (and_sbs.mpr ⟨(iv_sbs hn tJ ha).mp hJa, (iv_sbs hn tJ hb).mp hJb⟩))
  rw [hpc, ei] at hm
  refine ((pc_mono 64 _ _ (Nat.lt_trans (iv6_lt hn tJ) (by decide)) (Nat.le_refl _) (Nat.lt_trans (iv6_lt hn hKm) (by decide)) hKJ).2 ?_).symm
  rw [(row_ok hn tJ).2.2.2.2.2, (row_ok hn hKm).2.2.2.2.2]
  omega
