/-! ===== plain law: rows with the same least one are those between the least and the greatest ===== -/
set_option maxRecDepth 100000
def foT : Nat → List Nat
  | 2 => [1]
  | 3 => [7, 2, 4, 14]
  | 4 => [127, 42, 84, 8, 16, 32, 64, 1022, 280, 608, 1912]
  | 5 => [32767, 10922, 21844, 2184, 4368, 8736, 17472, 128, 256, 512, 1024, 2048, 4096, 8192, 16384, 4194302, 1382808, 2778720, 262528, 525824, 1054720, 2121728, 33521656, 9176960, 19953664, 62685056]
  | 6 => [2147483647, 715827882, 1431655764, 143165576, 286331152, 572662304, 1145324608, 8421504, 16843008, 33686016, 67372032, 134744064, 269488128, 538976256, 1077952512, 32768, 65536, 131072, 262144, 524288, 1048576, 2097152, 4194304, 8388608, 16777216, 33554432, 67108864, 134217728, 268435456, 536870912, 1073741824, 70368744177662, 23455245900184, 46911350793824, 4690129551744, 9380309632512, 18760821381120, 37522451226624, 274878005248, 549756207104, 1099513200640, 2199029547008, 4398071676928, 8796193685504, 17592588697600, 35185982701568, 9007197107257336, 2969557694646144, 5967257783531520, 563774587633664, 1129198449590272, 2264994079047680, 4556378198769664, 71987210261364608, 19707371546705920, 42850169296781312, 134615134881415168]
  | _ => []
def foC (n x : Nat) : Bool := Nat.beq (fo n x) ((foT n).getD x 0)
theorem f_foC : ∀ n, n < 7 → ∀ x, x < na n → foC n x = true := by decide +kernel
theorem f_fo {n x : Nat} (hn : n < 7) (hx : x < na n) : fo n x = (foT n).getD x 0 := Nat.eq_of_beq_eq_true (f_foC n hn x hx)
def fob (n x y : Nat) : Bool := ((foT n).getD x 0).testBit y
/-- closed under forcing -/
def cls (n g : Nat) : Prop := ∀ x, x < na n → g.testBit x = true → ∀ y, (fo n x).testBit y = true → g.testBit y = true
theorem cls.fob {n g x y : Nat} (h : cls n g) (hn : n < 7) (hx : x < na n) (hg : g.testBit x = true) (hb : fob n x y = true) : g.testBit y = true := h x hx hg y (by rw [f_fo hn hx]; exact hb)
/-- two places apart -/
def sqC (n R : Nat) : Bool := (List.range (n - 1)).all fun q => (List.range (q - 1)).all fun p => fz (sw n R p) fun A => fz (sw n R q) fun B =>
  Nat.beq (sw n A q) (sw n B p) && (Nat.beq (aa n A q) (aa n R q) && (Nat.beq (aa n B p) (aa n R p) && ((isD n A q == isD n R q) && (isD n B p == isD n R p))))
theorem f_sqC : ∀ n, n < 7 → ∀ R ∈ rws n, sqC n R = true := by decide +kernel
theorem f_sq {n R p q : Nat} (hn : n < 7) (hr : R ∈ rws n) (hp : p + 1 < q) (hq : q < n - 1) : sw n (sw n R p) q = sw n (sw n R q) p ∧ aa n (sw n R p) q = aa n R q ∧ aa n (sw n R q) p = aa n R p ∧ isD n (sw n R p) q = isD n R q ∧ isD n (sw n R q) p = isD n R p := by
  have h := List.all_eq_true.mp (List.all_eq_true.mp (f_sqC n hn R hr) q (List.mem_range.mpr hq)) p (List.mem_range.mpr (by omega))
  rw [fz_eq, fz_eq, Bool.and_eq_true, Bool.and_eq_true, Bool.and_eq_true, Bool.and_eq_true] at h
  exact ⟨Nat.eq_of_beq_eq_true h.1, Nat.eq_of_beq_eq_true h.2.1, Nat.eq_of_beq_eq_true h.2.2.1, eq_of_beq h.2.2.2.1, eq_of_beq h.2.2.2.2⟩
/-- two places side by side, both drops or both rises: A is the row behind the first, B behind the second -/
def hxC (n R : Nat) : Bool := (List.range (n - 2)).all fun p => if isD n R p == isD n R (p + 1) then (fz (sw n R p) fun A => fz (sw n R (p + 1)) fun B => fz (sw n A (p + 1)) fun A2 => fz (sw n B p) fun B2 => fz (aa n R p) fun x => fz (aa n R (p + 1)) fun y => fz (aa n A (p + 1)) fun u => fz (aa n B p) fun v =>
  (Nat.beq (sw n A2 p) (sw n B2 (p + 1)) && ((isD n A (p + 1) == isD n R p) && ((isD n A2 p == isD n R p) && ((isD n B p == isD n R p) && (isD n B2 (p + 1) == isD n R p))))) && (Nat.beq (aa n A2 p) y && (Nat.beq (aa n B2 (p + 1)) x && (fob n x u && (fob n y u && (fob n x v && fob n y v)))))) else true
theorem f_hxC : ∀ n, n < 7 → ∀ R ∈ rws n, hxC n R = true := by decide +kernel
theorem f_hx {n R p : Nat} (hn : n < 7) (hr : R ∈ rws n) (hp : p + 1 < n - 1) (hd : isD n R p = isD n R (p + 1)) :
    (sw n (sw n (sw n R p) (p + 1)) p = sw n (sw n (sw n R (p + 1)) p) (p + 1) ∧ isD n (sw n R p) (p + 1) = isD n R p ∧ isD n (sw n (sw n R p) (p + 1)) p = isD n R p ∧ isD n (sw n R (p + 1)) p = isD n R p ∧ isD n (sw n (sw n R (p + 1)) p) (p + 1) = isD n R p) ∧
    (aa n (sw n (sw n R p) (p + 1)) p = aa n R (p + 1) ∧ aa n (sw n (sw n R (p + 1)) p) (p + 1) = aa n R p ∧ fob n (aa n R p) (aa n (sw n R p) (p + 1)) = true ∧ fob n (aa n R (p + 1)) (aa n (sw n R p) (p + 1)) = true ∧ fob n (aa n R p) (aa n (sw n R (p + 1)) p) = true ∧ fob n (aa n R (p + 1)) (aa n (sw n R (p + 1)) p) = true) := by
  have h := List.all_eq_true.mp (f_hxC n hn R hr) p (List.mem_range.mpr (by omega))
  rw [if_pos (by rw [hd]; exact beq_self_eq_true _)] at h
  simp only [fz_eq, Bool.and_eq_true] at h
  obtain ⟨⟨h1, h2, h3, h4, h5⟩, h6, h7, h8, h9, h10, h11⟩ := h
  exact ⟨⟨Nat.eq_of_beq_eq_true h1, eq_of_beq h2, eq_of_beq h3, eq_of_beq h4, eq_of_beq h5⟩, Nat.eq_of_beq_eq_true h6, Nat.eq_of_beq_eq_true h7, h8, h9, h10, h11⟩
/-- a place at which a row goes on -/
def goP (n g : Nat) (t : Bool) (r p : Nat) : Prop := p < n - 1 ∧ isD n r p = t ∧ g.testBit (aa n r p) = true
theorem gos_dia {n g K r p q : Nat} {t : Bool} (hn : n < 7) (hc : cls n g) (ih : ∀ s, s ∈ rws n → gmu n t s < K → ∀ p, goP n g t s p → gos n t g (sw n s p) = gos n t g s) (hr : r ∈ rws n) (hK : gmu n t r < K + 1) (hpq : p < q) (hp : goP n g t r p) (hq : goP n g t r q) : gos n t g (sw n r p) = gos n t g (sw n r q) := by
  obtain ⟨p1, p2, p3⟩ := hp
  obtain ⟨q1, q2, q3⟩ := hq
  have mA := gmu_step hn hr p1 p2
  have mB := gmu_step hn hr q1 q2
  have hA := f_sw hn hr p1
  have hB := f_sw hn hr q1
  by_cases e : p + 1 < q
  · obtain ⟨s1, s2, s3, s4, s5⟩ := f_sq hn hr e q1
    have a1 := ih _ hA (by omega) q ⟨q1, by rw [s4]; exact q2, by rw [s2]; exact q3⟩
    have b1 := ih _ hB (by omega) p ⟨p1, by rw [s5]; exact p2, by rw [s3]; exact p3⟩
    rw [← a1, ← b1, s1]
  · obtain rfl : q = p + 1 := by omega
    obtain ⟨⟨h1, h2, h3, h4, h5⟩, h6, h7, h8, h9, h10, h11⟩ := f_hx hn hr q1 (by rw [p2, q2])
    have hx := (f_aa n hn r hr p p1).1
    have hA2 := f_sw hn hA q1
    have hB2 := f_sw hn hB p1
    have gA : goP n g t (sw n r p) (p + 1) := ⟨q1, by rw [h2]; exact p2, hc.fob hn hx p3 h8⟩
    have gB : goP n g t (sw n r (p + 1)) p := ⟨p1, by rw [h4]; exact p2, hc.fob hn hx p3 h10⟩
    have mA2 := gmu_step hn hA gA.1 gA.2.1
    have mB2 := gmu_step hn hB gB.1 gB.2.1
    have a1 := ih _ hA (by omega) _ gA
    have a2 := ih _ hA2 (by omega) p ⟨p1, by rw [h3]; exact p2, by rw [h6]; exact q3⟩
    have b1 := ih _ hB (by omega) _ gB
    have b2 := ih _ hB2 (by omega) (p + 1) ⟨q1, by rw [h5]; exact p2, by rw [h7]; exact p3⟩
    rw [← a1, ← a2, ← b1, ← b2, h1]
theorem gos_step {n g : Nat} {t : Bool} (hn : n < 7) (hc : cls n g) : ∀ (K r : Nat), gmu n t r < K → r ∈ rws n → ∀ p, goP n g t r p → gos n t g (sw n r p) = gos n t g r := by
  intro K
  induction K with
  | zero => intro r h; exact absurd h (Nat.not_lt_zero _)
  | succ K ih =>
    intro r hK hr p hp
    cases h0 : pin n r t g (n - 1) 0 with
    | none => exact absurd ⟨hp.2.1, hp.2.2⟩ ((pin_none _ _).mp h0 p (Nat.zero_le _) (by have := hp.1; omega))
    | some q =>
      obtain ⟨-, q1, q2, q3⟩ := pin_some _ _ _ h0
      have hq : goP n g t r q := ⟨by omega, q2, q3⟩
      rw [gos_some hn hr h0]
      have ih2 : ∀ s, s ∈ rws n → gmu n t s < K → ∀ p, goP n g t s p → gos n t g (sw n s p) = gos n t g s := fun s hs hk => ih s hk hs
      rcases Nat.lt_trichotomy p q with h | h | h
      · exact gos_dia hn hc ih2 hr hK h hp hq
      · rw [h]
      · exact (gos_dia hn hc ih2 hr hK h hq hp).symm
theorem gos_go {n g r p : Nat} {t : Bool} (hn : n < 7) (hc : cls n g) (hr : r ∈ rws n) (hp : goP n g t r p) : gos n t g (sw n r p) = gos n t g r := gos_step hn hc 16 r (gmu_lt hn hr) hr p hp
/-! order -/
def idC (n R : Nat) : Bool := (List.range (n - 1)).all fun p => fz (sw n R p) fun A => isD n A p == !isD n R p
theorem f_idC : ∀ n, n < 7 → ∀ R ∈ rws n, idC n R = true := by decide +kernel
theorem subB_iff {n a b : Nat} : subB n a b = true ↔ sbs (inv n a) (inv n b) := by unfold subB; rw [beq_iff_eq]; exact sbs_and
theorem subB_refl {n a : Nat} : subB n a a = true := subB_iff.mpr (fun _ h => h)
theorem subB_trans {n a b c : Nat} (h1 : subB n a b = true) (h2 : subB n b c = true) : subB n a c = true := subB_iff.mpr ((subB_iff.mp h1).trans (subB_iff.mp h2))
theorem subB_dn {n r p : Nat} (hn : n < 7) (hr : r ∈ rws n) (hp : p < n - 1) (hd : isD n r p = true) : subB n (sw n r p) r = true := by
  rw [subB_iff, f_ivdn hn hr hp (of_decide_eq_true hd)]
  intro i hi
  rw [Nat.testBit_or, hi]; rfl
theorem subB_up {n r p : Nat} (hn : n < 7) (hr : r ∈ rws n) (hp : p < n - 1) (hd : isD n r p = false) : subB n r (sw n r p) = true := by
  rw [subB_iff, f_ivup hn hr hp (of_decide_eq_false hd)]
  intro i hi
  rw [Nat.testBit_or, hi]; rfl
def rwC (n R : Nat) : Bool := Nat.beq (rwN n (iv6 n R)) R
theorem f_rwC : ∀ n, n < 7 → ∀ R ∈ rws n, rwC n R = true := by decide +kernel
theorem inv_inj {n a b : Nat} (hn : n < 7) (ha : a ∈ rws n) (hb : b ∈ rws n) (h : inv n a = inv n b) : a = b := by
  have e1 := Nat.eq_of_beq_eq_true (f_rwC n hn a ha)
  have e2 := Nat.eq_of_beq_eq_true (f_rwC n hn b hb)
  rw [← e1, ← e2, ← (row_ok hn ha).1, ← (row_ok hn hb).1, h]
theorem subB_anti {n a b : Nat} (hn : n < 7) (ha : a ∈ rws n) (hb : b ∈ rws n) (h1 : subB n a b = true) (h2 : subB n b a = true) : a = b := inv_inj hn ha hb ((subB_iff.mp h1).anti (subB_iff.mp h2))
theorem gos_ord {n g : Nat} (hn : n < 7) : ∀ (K r : Nat) (t : Bool), gmu n t r < K → r ∈ rws n → (if t then subB n (gos n t g r) r else subB n r (gos n t g r)) = true := by
  intro K
  induction K with
  | zero => intro r t h; exact absurd h (Nat.not_lt_zero _)
  | succ K ih =>
    intro r t hK hr
    cases h0 : pin n r t g (n - 1) 0 with
    | none => rw [gos_none h0]; cases t <;> exact subB_refl
    | some q =>
      obtain ⟨-, q1, q2, q3⟩ := pin_some _ _ _ h0
      rw [gos_some hn hr h0]
      have := ih _ t (by have := gmu_step hn hr (show q < n - 1 by omega) q2; omega) (f_sw hn hr (show q < n - 1 by omega))
      cases t with
      | true => exact subB_trans this (subB_dn hn hr (by omega) q2)
      | false => exact subB_trans (subB_up hn hr (by omega) q2) this
theorem gos_dn {n g r : Nat} (hn : n < 7) (hr : r ∈ rws n) : subB n (gos n true g r) r = true := gos_ord hn 16 r true (gmu_lt hn hr) hr
theorem gos_up {n g r : Nat} (hn : n < 7) (hr : r ∈ rws n) : subB n r (gos n false g r) = true := gos_ord hn 16 r false (gmu_lt hn hr) hr
/-- a row right below another one: so are their least ones -/
theorem gos_cov {n g : Nat} (hn : n < 7) (hc : cls n g) : ∀ (K y p : Nat), gmu n true y < K → y ∈ rws n → p < n - 1 → isD n y p = true → subB n (gos n true g (sw n y p)) (gos n true g y) = true := by
  intro K
  induction K with
  | zero => intro y p h; exact absurd h (Nat.not_lt_zero _)
  | succ K ih =>
    intro y p hK hy hp hd
    have hx := f_sw hn hy hp
    cases h0 : pin n y true g (n - 1) 0 with
    | none => rw [gos_none h0]; exact subB_trans (gos_dn hn hx) (subB_dn hn hy hp hd)
    | some q =>
      obtain ⟨-, q1, q2, q3⟩ := pin_some _ _ _ h0
      have q1 : q < n - 1 := by omega
      have hy1 := f_sw hn hy q1
      have my1 := gmu_step hn hy q1 q2
      rw [gos_some hn hy h0]
      by_cases e0 : p = q
      · rw [e0]; exact subB_refl
      by_cases e1 : p + 1 < q
      · obtain ⟨s1, s2, s3, s4, s5⟩ := f_sq hn hy e1 q1
        rw [← gos_go hn hc hx (p := q) ⟨q1, by rw [s4]; exact q2, by rw [s2]; exact q3⟩, s1]
        exact ih _ p (by omega) hy1 hp (by rw [s5]; exact hd)
      by_cases e2 : q + 1 < p
      · obtain ⟨s1, s2, s3, s4, s5⟩ := f_sq hn hy e2 hp
        rw [← gos_go hn hc hx (p := q) ⟨q1, by rw [s5]; exact q2, by rw [s3]; exact q3⟩, ← s1]
        exact ih _ p (by omega) hy1 hp (by rw [s4]; exact hd)
      have hxq := (f_aa n hn y hy q q1).1
      by_cases e3 : q = p + 1
      · subst e3
        obtain ⟨⟨h1, h2, h3, h4, h5⟩, h6, h7, h8, h9, h10, h11⟩ := f_hx hn hy q1 (by rw [hd, q2])
        have gA : goP n g true (sw n y p) (p + 1) := ⟨q1, by rw [h2]; exact hd, hc.fob hn hxq q3 h9⟩
        have hA2 := f_sw hn hx q1
        have gA2 : goP n g true (sw n (sw n y p) (p + 1)) p := ⟨hp, by rw [h3]; exact hd, by rw [h6]; exact q3⟩
        have gB : goP n g true (sw n y (p + 1)) p := ⟨hp, by rw [h4]; exact hd, hc.fob hn hxq q3 h11⟩
        have hB2 := f_sw hn hy1 hp
        have mB2 := gmu_step hn hy1 gB.1 gB.2.1
        rw [← gos_go hn hc hx gA, ← gos_go hn hc hA2 gA2, h1, ← gos_go hn hc hy1 gB]
        exact ih _ (p + 1) (by omega) hB2 q1 (by rw [h5]; exact hd)
      · obtain rfl : p = q + 1 := by omega
        obtain ⟨⟨h1, h2, h3, h4, h5⟩, h6, h7, h8, h9, h10, h11⟩ := f_hx hn hy hp (by rw [hd, q2])
        have gB : goP n g true (sw n y (q + 1)) q := ⟨q1, by rw [h4]; exact q2, hc.fob hn hxq q3 h10⟩
        have hB2 := f_sw hn hx q1
        have gB2 : goP n g true (sw n (sw n y (q + 1)) q) (q + 1) := ⟨hp, by rw [h5]; exact q2, by rw [h7]; exact q3⟩
        have gA : goP n g true (sw n y q) (q + 1) := ⟨hp, by rw [h2]; exact q2, hc.fob hn hxq q3 h8⟩
        have hA2 := f_sw hn hy1 hp
        have mA2 := gmu_step hn hy1 gA.1 gA.2.1
        rw [← gos_go hn hc hx gB, ← gos_go hn hc hB2 gB2, ← h1, ← gos_go hn hc hy1 gA]
        exact ih _ q (by omega) hA2 q1 (by rw [h3]; exact q2)
theorem isD_not {n r p : Nat} {t : Bool} (hn : n < 7) (hr : r ∈ rws n) (hp : p < n - 1) (hd : isD n r p = t) : isD n (sw n r p) p = !t := by
  have h := List.all_eq_true.mp (f_idC n hn r hr) p (List.mem_range.mpr hp)
  rw [fz_eq] at h
  rw [← hd]
  exact eq_of_beq h
theorem isD_sw {n r p : Nat} (hn : n < 7) (hr : r ∈ rws n) (hp : p < n - 1) (hd : isD n r p = false) : isD n (sw n r p) p = true := isD_not hn hr hp hd
theorem gos_mono {n g : Nat} (hn : n < 7) (hc : cls n g) {y : Nat} (hy : y ∈ rws n) : ∀ (K x : Nat), gmu n false x < K → x ∈ rws n → subB n x y = true → subB n (gos n true g x) (gos n true g y) = true := by
  intro K
  induction K with
  | zero => intro x h; exact absurd h (Nat.not_lt_zero _)
  | succ K ih =>
    intro x hK hx hxy
    by_cases e : x = y
    · rw [e]; exact subB_refl
    · obtain ⟨p, p1, p2, p3⟩ := up_ex hn hx hy hxy e
      have hz := f_sw hn hx p1
      have mz := gmu_step hn hx p1 p2
      obtain ⟨e1, e2⟩ := f_sws hn hx p1
      have hd : isD n (sw n x p) p = true := isD_sw hn hx p1 p2
      have := gos_cov hn hc 16 _ p (gmu_lt hn hz) hz p1 hd
      rw [e1] at this
      exact subB_trans this (ih _ (by omega) hz p3)
/-- least and greatest ones of one class -/
theorem gos_ud {n g : Nat} (hn : n < 7) (hc : cls n g) : ∀ (K r : Nat) (t : Bool), gmu n t r < K → r ∈ rws n → gos n (!t) g (gos n t g r) = gos n (!t) g r := by
  intro K
  induction K with
  | zero => intro r t h; exact absurd h (Nat.not_lt_zero _)
  | succ K ih =>
    intro r t hK hr
    cases h0 : pin n r t g (n - 1) 0 with
    | none => rw [gos_none h0]
    | some q =>
      obtain ⟨-, q1, q2, q3⟩ := pin_some _ _ _ h0
      have q1 : q < n - 1 := by omega
      have hz := f_sw hn hr q1
      have mz := gmu_step hn hr q1 q2
      obtain ⟨e1, e2⟩ := f_sws hn hr q1
      rw [gos_some hn hr h0, ih _ t (by omega) hz, ← gos_go hn hc hz (t := !t) (p := q) ⟨q1, isD_not hn hr q1 q2, by rw [e2]; exact q3⟩, e1]
theorem gos_end {n g : Nat} {t : Bool} (hn : n < 7) : ∀ (K r : Nat), gmu n t r < K → r ∈ rws n → pin n (gos n t g r) t g (n - 1) 0 = none := by
  intro K
  induction K with
  | zero => intro r h; exact absurd h (Nat.not_lt_zero _)
  | succ K ih =>
    intro r hK hr
    cases h0 : pin n r t g (n - 1) 0 with
    | none => rw [gos_none h0]; exact h0
    | some q =>
      obtain ⟨-, q1, q2, q3⟩ := pin_some _ _ _ h0
      rw [gos_some hn hr h0]
      exact ih _ (by have := gmu_step hn hr (show q < n - 1 by omega) q2; omega) (f_sw hn hr (show q < n - 1 by omega))
theorem gos_idem {n g r : Nat} {t : Bool} (hn : n < 7) (hr : r ∈ rws n) : gos n t g (gos n t g r) = gos n t g r := gos_none (gos_end hn 16 r (gmu_lt hn hr) hr)
/-- classes are intervals -/
theorem cls_iff {n g r w : Nat} (hn : n < 7) (hc : cls n g) (hr : r ∈ rws n) (hw : w ∈ rws n) : (subB n (gos n true g r) w = true ∧ subB n w (gos n false g r) = true) ↔ gos n true g w = gos n true g r := by
  have hlo := gos_mem' (g := g) (t := true) hn hr
  have hhi := gos_mem' (g := g) (t := false) hn hr
  have hlw := gos_mem' (g := g) (t := true) hn hw
  constructor
  · rintro ⟨h1, h2⟩
    have m1 := gos_mono hn hc hw 16 _ (gmu_lt hn hlo) hlo h1
    have m2 := gos_mono hn hc hhi 16 _ (gmu_lt hn hw) hw h2
    rw [gos_idem hn hr] at m1
    have e := gos_ud hn hc 16 r false (gmu_lt hn hr) hr
    rw [show (!false) = true from rfl] at e
    rw [e] at m2
    exact subB_anti hn hlw hlo m2 m1
  · intro h
    refine ⟨by rw [← h]; exact gos_dn hn hw, ?_⟩
    have e1 := gos_ud hn hc 16 r true (gmu_lt hn hr) hr
    have e2 := gos_ud hn hc 16 w true (gmu_lt hn hw) hw
    rw [show (!true) = false from rfl] at e1 e2
    have : gos n false g r = gos n false g w := by rw [← e1, ← e2, h]
    rw [this]
    exact gos_up hn hw
