/-! ===== plain law: the class's ways up are those of the reference ===== -/
set_option maxRecDepth 100000
def rrC (n i : Nat) : Bool := fz (rb n i) fun R => Nat.beq (rk n R) i
theorem f_rrC : ∀ n, n < 7 → ∀ i, i < wy n → rrC n i = true := by decide +kernel
theorem rk_rb {n i : Nat} (hn : n < 7) (hi : i < wy n) : rk n (rb n i) = i := by
  have h := f_rrC n hn i hi
  unfold rrC at h
  rw [fz_eq] at h
  exact Nat.eq_of_beq_eq_true h
theorem rb_rk {n R : Nat} (hn : n < 7) (h1 : 1 ≤ n) (hr : R ∈ rws n) : rb n (rk n R) = R ∧ rk n R < wy n := by
  obtain ⟨i, hi, rfl⟩ := rb_ex hn h1 hr
  rw [rk_rb hn hi]
  exact ⟨rfl, hi⟩
theorem wy_120 : ∀ n, n < 6 → wy n ≤ 120 := by decide +kernel
theorem wy_pos : ∀ n, n < 7 → 0 < wy n := by decide +kernel
theorem setD {F : List Int32} {j k : Nat} {x : Int32} (hj : j < F.length) : (F.set j x).getD k 0 = if k = j then x else F.getD k 0 := by
  rw [List.getD_eq_getElem?_getD, List.getD_eq_getElem?_getD]
  by_cases e : k = j
  · subst e; rw [List.getElem?_set_self hj, if_pos rfl]; rfl
  · rw [List.getElem?_set_ne (fun q => e q.symm), if_neg e]
/-- numbers from -1 to B -/
def okF (F : List Int32) (B : Nat) : Prop := F.length = 120 ∧ ∀ k, k < 120 → -1 ≤ (F.getD k 0).toInt ∧ (F.getD k 0).toInt ≤ B
theorem okF.mono {F : List Int32} {B C : Nat} (h : okF F B) (hB : B ≤ C) : okF F C := ⟨h.1, fun k hk => ⟨(h.2 k hk).1, by have := (h.2 k hk).2; omega⟩⟩
theorem i_ge0' {a : Int32} : 0 ≤ a ↔ 0 ≤ a.toInt := Int32.le_iff_toInt_le
theorem okF_nat {F : List Int32} {B k : Nat} (h : okF F B) (hk : k < 120) (h0 : 0 ≤ (F.getD k 0).toInt) : ∃ x : Nat, x ≤ B ∧ F.getD k 0 = nI x :=
  i_nat (Int32.not_lt.mpr (Int32.le_iff_toInt_le.mpr h0)) (h.2 k hk).2
theorem okF_set {F : List Int32} {B j : Nat} {x : Nat} (h : okF F B) (hj : j < 120) (hx : x ≤ B + 1) (hB : B < 2 ^ 30) : okF (F.set j (nI x)) (B + 1) := by
  refine ⟨by rw [List.length_set]; exact h.1, fun k hk => ?_⟩
  rw [setD (by rw [h.1]; exact hj)]
  by_cases e : k = j
  · rw [if_pos e, nI_toInt (by omega)]; omega
  · rw [if_neg e]; have := h.2 k hk; omega
/-- one step -/
theorem clS_ok {n i v B : Nat} {s : List Int32 × List Int32} (h : okF s.1 B) (hi : i < 120) (hj : rk n v < 120) (h0 : 0 ≤ (s.1.getD i 0).toInt) (hB : B < 2 ^ 30) : okF (clS n i v s).1 (B + 1) ∧ (∀ k, k < 120 → 0 ≤ (s.1.getD k 0).toInt → 0 ≤ ((clS n i v s).1.getD k 0).toInt) ∧ 0 ≤ ((clS n i v s).1.getD (rk n v) 0).toInt ∧ ∀ k, k < 120 → 0 ≤ ((clS n i v s).1.getD k 0).toInt → 0 ≤ (s.1.getD k 0).toInt ∨ k = rk n v := by
  obtain ⟨x, hx, ex⟩ := okF_nat h hi h0
  have e1 : s.1.getD i 0 + 1 = nI (x + 1) := by rw [ex]; exact nI_1 x
  have key : ∃ y : Nat, y ≤ B + 1 ∧ (clS n i v s).1 = s.1.set (rk n v) (nI y) := by
    show ∃ y : Nat, y ≤ B + 1 ∧ s.1.set (rk n v) (if s.1.getD (rk n v) 0 < s.1.getD i 0 + 1 then s.1.getD i 0 + 1 else s.1.getD (rk n v) 0) = s.1.set (rk n v) (nI y)
    by_cases c : s.1.getD (rk n v) 0 < s.1.getD i 0 + 1
    · rw [if_pos c, e1]; exact ⟨x + 1, by omega, rfl⟩
    · rw [if_neg c]
      have c2 : nI (x + 1) ≤ s.1.getD (rk n v) 0 := by rw [← e1]; exact Int32.not_lt.mp c
      have c3 := Int32.le_iff_toInt_le.mp c2
      rw [nI_toInt (by omega)] at c3
      obtain ⟨y, hy, ey⟩ := okF_nat h hj (by omega)
      exact ⟨y, by omega, by rw [ey]⟩
  obtain ⟨y, hy, ey⟩ := key
  have hl : rk n v < s.1.length := by rw [h.1]; exact hj
  rw [ey]
  refine ⟨okF_set h hj hy hB, fun k hk q => ?_, ?_, fun k hk q => ?_⟩
  · rw [setD hl]
    by_cases e : k = rk n v
    · rw [if_pos e, nI_toInt (by omega)]; omega
    · rw [if_neg e]; exact q
  · rw [setD hl, if_pos rfl, nI_toInt (by omega)]; omega
  · rw [setD hl] at q
    by_cases e : k = rk n v
    · exact Or.inr e
    · rw [if_neg e] at q; exact Or.inl q
theorem clV_ok {n i : Nat} (hi : i < 120) : ∀ (l : List Nat) (s : List Int32 × List Int32) (B : Nat), okF s.1 B → B + l.length < 2 ^ 30 → (∀ v ∈ l, rk n v < 120) → 0 ≤ (s.1.getD i 0).toInt → okF (clV n i l s).1 (B + l.length) ∧ (∀ k, k < 120 → 0 ≤ (s.1.getD k 0).toInt → 0 ≤ ((clV n i l s).1.getD k 0).toInt) ∧ (∀ v ∈ l, 0 ≤ ((clV n i l s).1.getD (rk n v) 0).toInt) ∧ ∀ k, k < 120 → 0 ≤ ((clV n i l s).1.getD k 0).toInt → 0 ≤ (s.1.getD k 0).toInt ∨ ∃ v ∈ l, k = rk n v := by
  intro l
  induction l with
  | nil => intro s B h _ _ _; exact ⟨h, fun _ _ q => q, fun v hv => (by cases hv), fun _ _ q => Or.inl q⟩
  | cons v l ih =>
    intro s B h hB hr h0
    rw [List.length_cons] at hB
    obtain ⟨a1, a2, a3, a4⟩ := clS_ok (v := v) h hi (hr v List.mem_cons_self) h0 (by omega)
    obtain ⟨b1, b2, b3, b4⟩ := ih (clS n i v s) (B + 1) a1 (by omega) (fun u hu => hr u (List.mem_cons_of_mem _ hu)) (a2 i hi h0)
    refine ⟨by rw [List.length_cons, show B + (l.length + 1) = B + 1 + l.length by omega]; exact b1, fun k hk q => b2 k hk (a2 k hk q), fun u hu => ?_, fun k hk q => ?_⟩
    · rcases List.mem_cons.mp hu with rfl | hu
      · exact b2 _ (hr u List.mem_cons_self) a3
      · exact b3 u hu
    · rcases b4 k hk q with q | ⟨u, hu, e⟩
      · rcases a4 k hk q with q | q
        · exact Or.inl q
        · exact Or.inr ⟨v, List.mem_cons_self, q⟩
      · exact Or.inr ⟨u, List.mem_cons_of_mem _ hu, e⟩
/-- ahead of row j of level w -/
def upP2 (n g w j : Nat) (s : List Int32 × List Int32) : Prop := okF s.1 (6 * (w * wy n + j)) ∧ (∀ i, i < wy n → 0 ≤ (s.1.getD i 0).toInt → lst n g (rb n i) = true) ∧ 0 ≤ (s.1.getD 0 0).toInt ∧
  ∀ c i, c < wy n → i < wy n → lst n g (rb n c) = true → (pc64 (inv n (rb n c)) < w ∨ (pc64 (inv n (rb n c)) = w ∧ c < j)) → rb n i ∈ rot n g (rb n c) false → 0 ≤ (s.1.getD i 0).toInt
theorem up_in {n g w : Nat} (hn : n < 6) (h1 : 1 ≤ n) (hc : cls n g) (hw : w ≤ 15) : ∀ (k j : Nat) (s : List Int32 × List Int32), j + k = wy n → upP2 n g w j s → lpN (fwI n g w) j k s = lpN (clI n g w) j k s ∧ upP2 n g (w + 1) 0 (lpN (clI n g w) j k s) := by
  have hn7 : n < 7 := by omega
  have hwy := wy_120 n hn
  intro k
  induction k with
  | zero =>
    intro j s hj h
    obtain ⟨p1, p2, p3, p4⟩ := h
    have e0 : (w + 1) * wy n = w * wy n + wy n := by rw [Nat.add_mul, Nat.one_mul]
    refine ⟨rfl, p1.mono (by rw [e0]; omega), p2, p3, fun c i hc' hi hl hq hr => p4 c i hc' hi hl ?_ hr⟩
    rcases hq with q | ⟨q, q2⟩
    · by_cases e : pc64 (inv n (rb n c)) = w
      · exact Or.inr ⟨e, by omega⟩
      · exact Or.inl (by omega)
    · omega
  | succ k ih =>
    intro j s hj h
    have hjw : j < wy n := by omega
    obtain ⟨p1, p2, p3, p4⟩ := h
    have hR := rb_mem hn7 h1 hjw
    have key : fwI n g w j s = clI n g w j s ∧ upP2 n g w (j + 1) (clI n g w j s) := by
      unfold fwI clI
      rw [f_tri1 hn7 hR]
      have bm : 6 * (w * wy n + j) ≤ 6 * (w * wy n + (j + 1)) := by omega
      by_cases e : pc64 (inv n (rb n j)) = w
      · by_cases hl : lst n g (rb n j) = true
        · have h0 : 0 ≤ (s.1.getD j 0).toInt := by
            by_cases ej : rb n j = rb n 0
            · have : j = 0 := by
                have := congrArg (rk n) ej
                rwa [rk_rb hn7 hjw, rk_rb hn7 (wy_pos n hn7)] at this
              rw [this]; exact p3
            · obtain ⟨c, c1, c2, c3, c4, -⟩ := up_to hn7 hc hR hl ej
              obtain ⟨ic, hic, rfl⟩ := rb_ex hn7 h1 c1
              exact p4 ic j hic hjw c2 (Or.inl (by omega)) c4
          rw [if_pos ⟨i_ge0'.mpr h0, e⟩, if_pos ⟨e, hl⟩]
          have hrl := rot_le (n := n) (g := g) (r := rb n j) (t := false)
          have hb6 : 6 * (w * wy n + j) + (rot n g (rb n j) false).length < 2 ^ 30 := by
            have : w * wy n ≤ 15 * 120 := Nat.mul_le_mul hw hwy
            omega
          obtain ⟨q1, q2, q3, q4⟩ := clV_ok (n := n) (i := j) (by omega) (rot n g (rb n j) false) s _ p1 hb6 (fun v hv => f_rk5 n hn v (rot_mem hn7 hR v hv)) h0
          refine ⟨rfl, q1.mono (by omega), fun i hi hh => ?_, q2 0 (by decide) p3, fun c i hc' hi hlc hq hr => ?_⟩
          · rcases q4 i (by omega) hh with q | ⟨v, hv, ev⟩
            · exact p2 i hi q
            · obtain ⟨v1, v2⟩ := rot_lst hn7 hR hv
              rw [ev, (rb_rk hn7 h1 v2).1]; exact v1
          · by_cases ec : c = j
            · subst ec
              have := q3 _ hr
              rwa [rk_rb hn7 hi] at this
            · refine q2 i (by omega) (p4 c i hc' hi hlc ?_ hr)
              rcases hq with q | ⟨q, q'⟩
              · exact Or.inl q
              · exact Or.inr ⟨q, by omega⟩
        · have h0 : ¬ 0 ≤ s.1.getD j 0 := fun q => hl (p2 j hjw (i_ge0'.mp q))
          rw [if_neg (fun q => h0 q.1), if_neg (fun q => hl q.2)]
          refine ⟨rfl, p1.mono bm, p2, p3, fun c i hc' hi hlc hq hr => p4 c i hc' hi hlc ?_ hr⟩
          rcases hq with q | ⟨q, q'⟩
          · exact Or.inl q
          · refine Or.inr ⟨q, ?_⟩
            have : c ≠ j := fun e => hl (e ▸ hlc)
            omega
      · rw [if_neg (fun q => e q.2), if_neg (fun q => e q.1)]
        refine ⟨rfl, p1.mono bm, p2, p3, fun c i hc' hi hlc hq hr => p4 c i hc' hi hlc ?_ hr⟩
        rcases hq with q | ⟨q, q'⟩
        · exact Or.inl q
        · refine Or.inr ⟨q, ?_⟩
          have : c ≠ j := fun e' => e (e' ▸ q)
          omega
    show lpN (fwI n g w) (j + 1) k (fwI n g w j s) = lpN (clI n g w) (j + 1) k (clI n g w j s) ∧ _
    rw [key.1]
    exact ih (j + 1) _ (by omega) key.2
theorem up_out {n g : Nat} (hn : n < 6) (h1 : 1 ≤ n) (hc : cls n g) : ∀ (k w : Nat) (s : List Int32 × List Int32), w + k ≤ 15 → upP2 n g w 0 s → lpN (fwO n g) w k s = lpN (clO n g) w k s := by
  intro k
  induction k with
  | zero => intro w s _ _; rfl
  | succ k ih =>
    intro w s hw h
    obtain ⟨e1, e2⟩ := up_in (w := w) hn h1 hc (by omega) (wy n) 0 s (by omega) h
    show lpN (fwO n g) (w + 1) k (fwO n g w s) = lpN (clO n g) (w + 1) k (clO n g w s)
    have : fwO n g w s = clO n g w s := e1
    rw [this]
    exact ih (w + 1) _ (by omega) e2
def tpC (n R : Nat) : Bool := !Nat.beq (pc64 (inv n R)) (n * (n - 1) / 2) || (List.range (n - 1)).all fun p => isD n R p
theorem f_tpC : ∀ n, n < 7 → ∀ R ∈ rws n, tpC n R = true := by decide +kernel
theorem rot_top {n g R : Nat} (hn : n < 7) (hr : R ∈ rws n) (h : pc64 (inv n R) = n * (n - 1) / 2) : rot n g R false = [] := by
  have hd : ∀ p, p < n - 1 → isD n R p = true := by
    have h0 := f_tpC n hn R hr
    unfold tpC at h0
    rw [h, Nat.beq_refl, Bool.not_true, Bool.false_or] at h0
    exact fun p hp => List.all_eq_true.mp h0 p (List.mem_range.mpr hp)
  have hg : gos n false g R = R := gos_none ((pin_none _ _).mpr fun q _ hq c => by rw [hd q (by omega)] at c; cases c.1)
  apply List.eq_nil_iff_forall_not_mem.mpr
  intro v hv
  obtain ⟨p, p1, p2, _⟩ := mem_rot.mp hv
  rw [hg, hd p p1] at p2
  cases p2
theorem cl_top {n g : Nat} (hn : n < 7) (h1 : 1 ≤ n) : ∀ (k j : Nat) (s : List Int32 × List Int32), j + k ≤ wy n → lpN (clI n g (n * (n - 1) / 2)) j k s = s := by
  intro k
  induction k with
  | zero => intro j s _; rfl
  | succ k ih =>
    intro j s hj
    show lpN _ (j + 1) k (clI n g (n * (n - 1) / 2) j s) = s
    have : clI n g (n * (n - 1) / 2) j s = s := by
      unfold clI
      by_cases c : pc64 (inv n (rb n j)) = n * (n - 1) / 2 ∧ lst n g (rb n j) = true
      · rw [if_pos c, rot_top hn (rb_mem hn h1 (by omega)) c.1]; rfl
      · rw [if_neg c]
    rw [this]
    exact ih (j + 1) s (by omega)
theorem f_pr15 : ∀ n, n < 6 → n * (n - 1) / 2 ≤ 10 := by decide +kernel
def ini : List Int32 := (List.replicate 120 (-1)).set 0 0
theorem ini_at : ∀ k, k < 120 → (k = 0 ∧ (ini.getD k 0).toInt = 0) ∨ (k ≠ 0 ∧ (ini.getD k 0).toInt = -1) := by decide +kernel
theorem f_ic0 : ∀ n, n < 7 → 1 ≤ n → icnt n (rb n 0) = 0 := by decide +kernel
theorem fw_cl {n g : Nat} (hn : n < 6) (h1 : 1 ≤ n) (hc : cls n g) : fwA n g = clA n g := by
  have hn7 : n < 7 := by omega
  have hp := f_pr15 n hn
  unfold fwA clA
  rw [lpN_last, Nat.zero_add, up_out hn h1 hc (n * (n - 1) / 2) 0 _ (by omega) ?_]
  · exact (cl_top hn7 h1 (wy n) 0 _ (by omega)).symm
  · show upP2 n g 0 0 (ini, ini)
    refine ⟨⟨by decide +kernel, fun k hk => ?_⟩, fun i hi h0 => ?_, ?_, fun c i _ _ _ hq _ => ?_⟩
    · rcases ini_at k hk with ⟨_, e⟩ | ⟨_, e⟩
      · show -1 ≤ (ini.getD k 0).toInt ∧ (ini.getD k 0).toInt ≤ _
        rw [e]; omega
      · show -1 ≤ (ini.getD k 0).toInt ∧ (ini.getD k 0).toInt ≤ _
        rw [e]; omega
    · have := wy_120 n hn
      have h0 : 0 ≤ (ini.getD i 0).toInt := h0
      rcases ini_at i (by omega) with ⟨e, _⟩ | ⟨_, e⟩
      · subst e
        have hm := rb_mem hn7 h1 hi
        cases hl : lst n g (rb n 0) with
        | true => rfl
        | false =>
          unfold lst at hl
          cases hpn : pin n (rb n 0) true g (n - 1) 0 with
          | none => rw [hpn] at hl; cases hl
          | some q =>
            obtain ⟨-, q1, q2, -⟩ := pin_some _ _ _ hpn
            have m := gmu_step hn7 hm (show q < n - 1 by omega) q2
            have m0 : icnt n (sw n (rb n 0) q) < icnt n (rb n 0) := m
            have z : icnt n (rb n 0) = 0 := f_ic0 n hn7 h1
            omega
      · omega
    · show 0 ≤ (ini.getD 0 0).toInt
      decide +kernel
    · rcases hq with q | ⟨_, q⟩ <;> omega
