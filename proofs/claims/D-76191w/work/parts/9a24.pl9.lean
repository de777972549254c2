/-! ===== plain law: how far classes are from each other is found ===== -/
set_option maxRecDepth 100000
theorem cl_conn {n g : Nat} (hn : n < 7) (hc : cls n g) {S : Nat → Prop} (hS : ∀ r, S r → r ∈ rws n ∧ lst n g r = true) (hcl : ∀ r v, S r → (v ∈ rot n g r true ∨ v ∈ rot n g r false) → S v) {a : Nat} (ha : S a) : ∀ (K b : Nat), pc64 (inv n b) < K → b ∈ rws n → lst n g b = true → S b := by
  have down : ∀ (K r : Nat), pc64 (inv n r) < K → S r → S (rb n 0) := by
    intro K
    induction K with
    | zero => intro r h; exact absurd h (Nat.not_lt_zero _)
    | succ K ih =>
      intro r hK hr
      by_cases e : r = rb n 0
      · rw [← e]; exact hr
      · obtain ⟨h1, h2⟩ := hS r hr
        obtain ⟨c, c1, c2, c3, -, p, p1, p2, p3⟩ := up_to hn hc h1 h2 e
        refine ih c (by omega) (hcl r c hr (Or.inl (mem_rot.mpr ⟨p, p1, ?_, ?_⟩)))
        · rw [lst_gos h2]; exact p2
        · rw [lst_gos h2]; exact p3
  have h0 := down _ a (Nat.lt_succ_self _) ha
  intro K
  induction K with
  | zero => intro b h; exact absurd h (Nat.not_lt_zero _)
  | succ K ih =>
    intro b hK hb hl
    by_cases e : b = rb n 0
    · rw [e]; exact h0
    · obtain ⟨c, c1, c2, c3, c4, -⟩ := up_to hn hc hb hl e
      exact hcl c b (ih c (by omega) c1 c2) (Or.inr c4)
def nng (x : Int32) : Bool := decide (0 ≤ x.toInt)
/-- a queue and how far -/
def apInv (n g : Nat) (s : List Int32 × List Nat) : Prop := okF s.1 s.2.length ∧ s.1.countP nng = s.2.length ∧ (∀ q ∈ s.2, q ∈ rws n ∧ lst n g q = true ∧ 0 ≤ (s.1.getD (rk n q) 0).toInt) ∧ ∀ R ∈ rws n, 0 ≤ (s.1.getD (rk n R) 0).toInt → R ∈ s.2
theorem rk_inj {n a b : Nat} (hn : n < 7) (h1 : 1 ≤ n) (ha : a ∈ rws n) (hb : b ∈ rws n) (h : rk n a = rk n b) : a = b := by
  rw [← (rb_rk hn h1 ha).1, h, (rb_rk hn h1 hb).1]
theorem apS_ok {n g q v : Nat} {s : List Int32 × List Nat} (hn : n < 6) (h1 : 1 ≤ n) (h : apInv n g s) (hq : q ∈ s.2) (hv : v ∈ rws n) (hl : lst n g v = true) : ∃ s', apS n q v s = some s' ∧ apInv n g s' ∧ v ∈ s'.2 ∧ ∃ ex, s'.2 = s.2 ++ ex := by
  have hn7 : n < 7 := by omega
  obtain ⟨i1, i2, i3, i4⟩ := h
  have hk := f_rk5 n hn v hv
  have hlen : rk n v < s.1.length := by rw [i1.1]; exact hk
  unfold apS
  by_cases c : s.1.getD (rk n v) 0 < 0
  · have cn : ¬ 0 ≤ (s.1.getD (rk n v) 0).toInt := fun e => absurd c (Int32.not_lt.mpr (i_ge0'.mpr e))
    have hcell : s.1.getD (rk n v) 0 = s.1[rk n v] := by rw [List.getD_eq_getElem?_getD, List.getElem?_eq_getElem hlen]; rfl
    have hlt : s.2.length < 120 := by
      rw [← i2]
      apply Nat.lt_of_le_of_ne
      · rw [← i1.1]; exact List.countP_le_length
      · intro e
        rw [← i1.1] at e
        have := List.countP_eq_length.mp e _ (List.getElem_mem hlen)
        rw [← hcell] at this
        exact cn (of_decide_eq_true this)
    obtain ⟨x, hx, ex⟩ := okF_nat i1 (f_rk5 n hn q (i3 q hq).1) (i3 q hq).2.2
    have e1 : s.1.getD (rk n q) 0 + 1 = nI (x + 1) := by rw [ex]; exact nI_1 x
    rw [if_pos c, if_pos hlt, e1]
    refine ⟨_, rfl, ⟨?_, ?_, fun u hu => ?_, fun R hR h0 => ?_⟩, ?_, [v], rfl⟩
    · show okF (s.1.set _ _) (s.2 ++ [v]).length
      rw [List.length_append, List.length_singleton]
      exact okF_set i1 hk (by omega) (by omega)
    · show (s.1.set _ _).countP nng = (s.2 ++ [v]).length
      rw [List.countP_set hlen, List.length_append, List.length_singleton, i2, ← hcell]
      have a1 : nng (s.1.getD (rk n v) 0) = false := decide_eq_false cn
      have a2 : nng (nI (x + 1)) = true := decide_eq_true (by rw [nI_toInt (by omega)]; omega)
      rw [a1, a2]; rfl
    · show u ∈ rws n ∧ lst n g u = true ∧ 0 ≤ ((s.1.set _ _).getD (rk n u) 0).toInt
      rw [setD hlen]
      rcases List.mem_append.mp hu with hu | hu
      · obtain ⟨b1, b2, b3⟩ := i3 u hu
        refine ⟨b1, b2, ?_⟩
        by_cases e : rk n u = rk n v
        · rw [if_pos e, nI_toInt (by omega)]; omega
        · rw [if_neg e]; exact b3
      · rw [List.mem_singleton.mp hu, if_pos rfl, nI_toInt (by omega)]
        exact ⟨hv, hl, by omega⟩
    · have h0 : 0 ≤ ((s.1.set (rk n v) (nI (x + 1))).getD (rk n R) 0).toInt := h0
      rw [setD hlen] at h0
      show R ∈ s.2 ++ [v]
      by_cases e : rk n R = rk n v
      · rw [rk_inj hn7 h1 hR hv e]; exact List.mem_append_right _ List.mem_cons_self
      · rw [if_neg e] at h0
        exact List.mem_append_left _ (i4 R hR h0)
    · exact List.mem_append_right _ List.mem_cons_self
  · rw [if_neg c]
    have h0 : 0 ≤ (s.1.getD (rk n v) 0).toInt := i_ge0'.mp (Int32.not_lt.mp c)
    exact ⟨s, rfl, ⟨i1, i2, i3, i4⟩, i4 v hv h0, [], (List.append_nil _).symm⟩
theorem apV_ok {n g q : Nat} (hn : n < 6) (h1 : 1 ≤ n) : ∀ (l : List Nat) (s : List Int32 × List Nat), apInv n g s → q ∈ s.2 → (∀ v ∈ l, v ∈ rws n ∧ lst n g v = true) → ∃ s', apV n q l s = some s' ∧ apInv n g s' ∧ (∀ v ∈ l, v ∈ s'.2) ∧ ∃ ex, s'.2 = s.2 ++ ex := by
  intro l
  induction l with
  | nil => intro s h _ _; exact ⟨s, rfl, h, fun v hv => (by cases hv), [], (List.append_nil _).symm⟩
  | cons v l ih =>
    intro s h hq hl
    obtain ⟨s1, a1, a2, a3, ex, a4⟩ := apS_ok hn h1 h hq (hl v List.mem_cons_self).1 (hl v List.mem_cons_self).2
    obtain ⟨s2, b1, b2, b3, ex2, b4⟩ := ih s1 a2 (by rw [a4]; exact List.mem_append_left _ hq) (fun u hu => hl u (List.mem_cons_of_mem _ hu))
    refine ⟨s2, ?_, b2, fun u hu => ?_, ex ++ ex2, by rw [b4, a4, List.append_assoc]⟩
    · show (match apS n q v s with | none => none | some s' => apV n q l s') = some s2
      rw [a1]; exact b1
    · rcases List.mem_cons.mp hu with rfl | hu
      · rw [b4]; exact List.mem_append_left _ a3
      · exact b3 u hu
theorem apF_ok {n g a b : Nat} (hn : n < 6) (h1 : 1 ≤ n) (hc : cls n g) (hb : b ∈ rws n) (hlb : lst n g b = true) : ∀ (f k : Nat) (s : List Int32 × List Nat), k + f = 121 → apInv n g s → k ≤ s.2.length → a ∈ s.2 → (∀ (i q : Nat), i < k → s.2[i]? = some q → ∀ v, (v ∈ rot n g q true ∨ v ∈ rot n g q false) → v ∈ s.2) → ∃ v, apF n g b f k s = some v := by
  have hn7 : n < 7 := by omega
  intro f
  induction f with
  | zero =>
    intro k s hk h hl _ _
    exfalso
    have := h.2.1
    have := List.countP_le_length (p := nng) (l := s.1)
    have := h.1.1
    omega
  | succ f ih =>
    intro k s hk h hl ha hcl
    show ∃ v, (if 0 ≤ s.1.getD (rk n b) 0 then some (s.1.getD (rk n b) 0) else match apW n g k s with | none => none | some s2 => apF n g b f (k + 1) s2) = some v
    by_cases c : 0 ≤ s.1.getD (rk n b) 0
    · rw [if_pos c]; exact ⟨_, rfl⟩
    · rw [if_neg c]
      have hkl : k < s.2.length := by
        apply Nat.lt_of_le_of_ne hl
        intro e
        have hbq := cl_conn (S := fun r => r ∈ s.2) hn7 hc (fun r hr => ⟨(h.2.2.1 r hr).1, (h.2.2.1 r hr).2.1⟩) (fun r v hr hv => by
          obtain ⟨i, hi, ei⟩ := List.getElem_of_mem hr
          exact hcl i r (by omega) (by rw [List.getElem?_eq_getElem hi, ei]) v hv) ha _ b (Nat.lt_succ_self _) hb hlb
        exact c (i_ge0'.mpr (h.2.2.1 b hbq).2.2)
      obtain ⟨q, eq⟩ : ∃ q, s.2[k]? = some q := ⟨_, List.getElem?_eq_getElem hkl⟩
      have hq : q ∈ s.2 := List.mem_of_getElem? eq
      have hqr := (h.2.2.1 q hq).1
      obtain ⟨s1, a1, a2, a3, ex1, a4⟩ := apV_ok hn h1 (rot n g q true) s h hq (fun v hv => ⟨(rot_lst hn7 hqr hv).2, (rot_lst hn7 hqr hv).1⟩)
      obtain ⟨s2, b1, b2, b3, ex2, b4⟩ := apV_ok (q := q) hn h1 (rot n g q false) s1 a2 (by rw [a4]; exact List.mem_append_left _ hq) (fun v hv => ⟨(rot_lst hn7 hqr hv).2, (rot_lst hn7 hqr hv).1⟩)
      have e1 : apW n g k s = some s2 := by
        unfold apW
        rw [eq]
        show (match apV n q (rot n g q true) s with | none => none | some s1 => apV n q (rot n g q false) s1) = some s2
        rw [a1]; exact b1
      have hpre : s2.2 = s.2 ++ (ex1 ++ ex2) := by rw [b4, a4, List.append_assoc]
      rw [e1]
      refine ih (k + 1) s2 (by omega) b2 (by rw [hpre, List.length_append]; omega) (by rw [hpre]; exact List.mem_append_left _ ha) (fun i r hi er v hv => ?_)
      have hil : i < s.2.length := by omega
      rw [hpre, List.getElem?_append_left hil] at er
      by_cases e : i = k
      · subst e
        rw [eq] at er
        cases er
        rcases hv with hv | hv
        · rw [b4]; exact List.mem_append_left _ (a3 v hv)
        · exact b3 v hv
      · rw [hpre]; exact List.mem_append_left _ (hcl i r (by omega) er v hv)
theorem ap_ini (k : Nat) (hk : k < 120) : ((List.replicate 120 (-1 : Int32)).set k 0).countP nng = 1 := by
  rw [List.countP_set (by rw [List.length_replicate]; exact hk), List.countP_replicate, List.getElem_replicate]
  rfl
theorem ap_some {n g a b : Nat} (hn : n < 6) (h1 : 1 ≤ n) (hc : cls n g) (ha : a ∈ rws n) (hla : lst n g a = true) (hb : b ∈ rws n) (hlb : lst n g b = true) : ∃ v, apA n g a b = some v := by
  have hn7 : n < 7 := by omega
  have hk := f_rk5 n hn a ha
  have hlen : rk n a < (List.replicate 120 (-1 : Int32)).length := by rw [List.length_replicate]; exact hk
  have rep : ∀ k, k < 120 → (List.replicate 120 (-1 : Int32)).getD k 0 = -1 := fun k hk => by rw [List.getD_eq_getElem?_getD, List.getElem?_replicate, if_pos hk]; rfl
  refine apF_ok (a := a) hn h1 hc hb hlb 121 0 _ rfl ⟨⟨by rw [List.length_set, List.length_replicate], fun k hk' => ?_⟩, ap_ini _ hk, fun q hq => ?_, fun R hR h0 => ?_⟩ (Nat.zero_le _) List.mem_cons_self (fun i q hi => absurd hi (Nat.not_lt_zero _))
  · show -1 ≤ (((List.replicate 120 (-1 : Int32)).set (rk n a) 0).getD k 0).toInt ∧ _ ≤ _
    rw [setD hlen]
    by_cases e : k = rk n a
    · rw [if_pos e]; exact ⟨by decide, by show (0 : Int) ≤ ((1 : Nat) : Int); decide⟩
    · rw [if_neg e, rep k hk']; exact ⟨by decide, by show (-1 : Int) ≤ ((1 : Nat) : Int); decide⟩
  · rw [List.mem_singleton.mp hq]
    refine ⟨ha, hla, ?_⟩
    show 0 ≤ (((List.replicate 120 (-1 : Int32)).set (rk n a) 0).getD (rk n a) 0).toInt
    rw [setD hlen, if_pos rfl]; decide
  · have h0 : 0 ≤ (((List.replicate 120 (-1 : Int32)).set (rk n a) 0).getD (rk n R) 0).toInt := h0
    rw [setD hlen] at h0
    by_cases e : rk n R = rk n a
    · rw [rk_inj hn7 h1 hR ha e]; exact List.mem_cons_self
    · rw [if_neg e, rep _ (f_rk5 n hn R hR)] at h0
      exact absurd h0 (by decide)
theorem o_apart_some {n g : Nat} {x y : Int32} (hn : n < 7) (h1 : 1 ≤ n) (hc : cls n g) : ∃ v, o_apart n g x y = some v := by
  unfold o_apart
  by_cases hb : (rowB n x && rowB n y) = true
  · rw [if_pos hb]
    by_cases h6 : n = 6
    · rw [if_pos h6]; exact ⟨_, rfl⟩
    · rw [if_neg h6]
      rw [Bool.and_eq_true] at hb
      obtain ⟨R, hR, rfl⟩ := rowB_t hn h1 hb.1
      obtain ⟨S, hS, rfl⟩ := rowB_t hn h1 hb.2
      rw [tn_nI hn hR, tn_nI hn hS]
      exact ap_some (by omega) h1 hc (gos_mem' hn hR) (gos_lst hn hR) (gos_mem' hn hS) (gos_lst hn hS)
  · rw [if_neg hb]; exact ⟨_, rfl⟩
