/-! ===== plain law: what is gone stays closed under forcing ===== -/
set_option maxRecDepth 100000
def ftC (n : Nat) : Bool := (List.range (na n)).all fun x => (List.range (na n)).all fun y => if ((foT n).getD x 0).testBit y then Nat.beq ((foT n).getD y 0 ||| (foT n).getD x 0) ((foT n).getD x 0) else true
theorem f_ftC : ∀ n, n < 7 → ftC n = true := by decide +kernel
theorem fo_na {n : Nat} (x : Nat) : fo n x < 2 ^ na n := lp_or_lt2 (N := na n) _ (fun p hp => if_lt_pow hp) (na n) 0 0 (by omega) (Nat.two_pow_pos _)
theorem fo_tr {n x y z : Nat} (hn : n < 7) (hx : x < na n) (h1 : (fo n x).testBit y = true) (h2 : (fo n y).testBit z = true) : (fo n x).testBit z = true := by
  have hy : y < na n := bit_lt (fo_na x) h1
  have h := List.all_eq_true.mp (List.all_eq_true.mp (f_ftC n hn) x (List.mem_range.mpr hx)) y (List.mem_range.mpr hy)
  rw [f_fo hn hx] at h1 ⊢
  rw [f_fo hn hy] at h2
  rw [if_pos h1] at h
  rw [← Nat.eq_of_beq_eq_true h, Nat.testBit_or, h2, Bool.true_or]
theorem cls_or {n g f : Nat} (h1 : cls n g) (h2 : cls n f) : cls n (g ||| f) := by
  intro x hx hg y hy
  rw [Nat.testBit_or, Bool.or_eq_true] at hg ⊢
  rcases hg with q | q
  · exact Or.inl (h1 x hx q y hy)
  · exact Or.inr (h2 x hx q y hy)
theorem cls_and {n g f : Nat} (h1 : cls n g) (h2 : cls n f) : cls n (g &&& f) := by
  intro x hx hg y hy
  rw [Nat.testBit_and, Bool.and_eq_true] at hg ⊢
  exact ⟨h1 x hx hg.1 y hy, h2 x hx hg.2 y hy⟩
theorem cls_0 {n : Nat} : cls n 0 := fun x _ hx => by rw [Nat.zero_testBit] at hx; cases hx
theorem cls_fo {n k : Nat} (hn : n < 7) (hk : k < na n) : cls n (fo n k) := fun _ _ hg _ hy => fo_tr hn hk hg hy
theorem cls_clo {n S : Nat} (hn : n < 7) : cls n (clo n S) := by
  intro x _ hg y hy
  obtain ⟨p, q1, q2, q3⟩ := clo_bit.mp hg
  exact clo_bit.mpr ⟨p, q1, q2, fo_tr hn q1 q3 hy⟩
theorem fcr_bit {n a i : Nat} : (fcr n a).testBit i = true ↔ i < na n ∧ (fo n i).testBit a = true := by
  unfold fcr
  rw [lp_or_bit (fun x => if (fo n x).testBit a then 2 ^ x else 0)]
  constructor
  · rintro (h | ⟨p, h1, h2, h3⟩)
    · rw [Nat.zero_testBit] at h; cases h
    · by_cases hs : (fo n p).testBit a = true
      · rw [if_pos hs, Nat.testBit_two_pow] at h3
        have e : p = i := of_decide_eq_true h3
        subst e
        exact ⟨by omega, hs⟩
      · rw [if_neg hs, Nat.zero_testBit] at h3; cases h3
  · rintro ⟨h1, h2⟩
    exact Or.inr ⟨i, Nat.zero_le _, by omega, by rw [if_pos h2, Nat.testBit_two_pow]; exact decide_eq_true rfl⟩
theorem cls_contract {n g : Nat} {x : Int32} (hn : n < 7) (h : cls n g) : cls n (s_contract n g x) := by
  unfold s_contract
  split
  · rename_i hb
    obtain ⟨k, hk, h31, rfl⟩ := inI_t hb
    rw [show tn (nI k) = k from nI_clamp h31]
    exact cls_or h (cls_fo hn hk)
  · exact h
theorem cls_restore {n g : Nat} {x : Int32} (hn : n < 7) (hg : g < 2 ^ 57) (h : cls n g) : cls n (s_restore n g x) := by
  unfold s_restore
  split
  · intro u hu hgu y hy
    have h64 : g < 2 ^ 64 := Nat.lt_trans hg (by decide)
    rw [andn_bit h64, Bool.and_eq_true] at hgu ⊢
    refine ⟨h u hu hgu.1 y hy, ?_⟩
    cases hb : (fcr n (tn x)).testBit y with
    | false => rfl
    | true =>
      have h1 := (fcr_bit.mp hb).2
      have h2 : (fcr n (tn x)).testBit u = true := fcr_bit.mpr ⟨hu, fo_tr hn hu hy h1⟩
      rw [h2] at hgu
      cases hgu.2
  · exact h
theorem cls_comes {n g S : Nat} {w : Int32} (hn : n < 7) (h : cls n g) : cls n (s_comes n g S w) := by
  unfold s_comes
  split
  · exact cls_clo hn
  · split
    · exact cls_or h (cls_clo hn)
    · exact cls_and h (cls_clo hn)
theorem cls_make {n g : Nat} {l : List (Nat × Nat)} {k w : Int32} (hn : n < 7) (h : cls n g) : cls n (s_make n g l k w) := by
  unfold s_make
  split
  · exact cls_comes hn h
  · exact h
theorem cls_text {n g : Nat} {tp : List Nat} {w : Int32} (hn : n < 7) (h : cls n g) : cls n (s_textG n g tp w) := by
  unfold s_textG
  split
  · split
    · exact cls_comes hn h
    · exact h
  · exact h
theorem cls_size {n g : Nat} {v : Int32} (h : cls n g) : cls (s_size n v) (s_sizeG n g v) := by
  unfold s_sizeG s_size
  by_cases hv : in1 v 6 = true
  · rw [if_pos hv, if_pos hv]
    by_cases e : tn v = n
    · rw [if_pos e, e]; exact h
    · rw [if_neg e]; exact cls_0
  · rw [if_neg hv, if_neg hv]; exact h
theorem cls_clp {n t : Nat} (hn : n < 7) (ht : t ∈ rws n) : ∀ (f r g : Nat), r ∈ rws n → subB n r t = true → cls n g → cls n (clp n t f r g) := by
  intro f
  induction f with
  | zero => intro r g _ _ h; exact h
  | succ f ih =>
    intro r g hr hs h
    unfold clp
    split
    · exact h
    · rename_i hne
      obtain ⟨h1, h2, h3⟩ := upP_ok hn hr ht hs hne
      exact ih _ _ (f_sw hn hr h1) h3 (cls_or h (cls_fo hn (f_aa n hn r hr _ h1).1))
theorem cls_collapse {n g : Nat} {x y : Int32} (hn : n < 7) (h1 : 1 ≤ n) (h : cls n g) : cls n (s_collapse n g x y) := by
  unfold s_collapse
  split
  · rename_i hb
    rw [Bool.and_eq_true] at hb
    obtain ⟨a, ha, rfl⟩ := rowB_t hn h1 hb.1
    obtain ⟨b, hb2, rfl⟩ := rowB_t hn h1 hb.2
    have ea : tn (nI a) = a := tn_nI hn ha
    have eb : tn (nI b) = b := tn_nI hn hb2
    rw [ea, eb]
    have hB : (inv n a ||| inv n b) &&& inv n (rb n (wy n - 1)) = inv n a ||| inv n b := by rw [Nat.and_or_distrib_right, f_rev n hn h1 a ha, f_rev n hn h1 b hb2]
    exact cls_clp hn (jnS_mem hn h1 hB) 16 _ _ (mtS_mem hn h1) (mj_sub hn h1 ha hb2) h
  · exact h
/-! bounds -/
theorem lt_contract {n g : Nat} {x : Int32} (hn : n < 7) (h : g < 2 ^ 57) : s_contract n g x < 2 ^ 57 := by
  unfold s_contract
  split
  · exact Nat.or_lt_two_pow h (fo_lt hn _)
  · exact h
theorem lt_restore {n g : Nat} {x : Int32} (h : g < 2 ^ 57) : s_restore n g x < 2 ^ 57 := by
  unfold s_restore
  split
  · exact andn_lt h
  · exact h
theorem lt_comes {n g S : Nat} {w : Int32} (hn : n < 7) (h : g < 2 ^ 57) : s_comes n g S w < 2 ^ 57 := by
  unfold s_comes
  split
  · exact clo_lt hn _
  · split
    · exact Nat.or_lt_two_pow h (clo_lt hn _)
    · exact Nat.lt_of_le_of_lt Nat.and_le_left h
theorem lt_make {n g : Nat} {l : List (Nat × Nat)} {k w : Int32} (hn : n < 7) (h : g < 2 ^ 57) : s_make n g l k w < 2 ^ 57 := by
  unfold s_make
  split
  · exact lt_comes hn h
  · exact h
theorem lt_text {n g : Nat} {tp : List Nat} {w : Int32} (hn : n < 7) (h : g < 2 ^ 57) : s_textG n g tp w < 2 ^ 57 := by
  unfold s_textG
  split
  · split
    · exact lt_comes hn h
    · exact h
  · exact h
theorem lt_collapse {n g : Nat} {x y : Int32} (hn : n < 7) (h : g < 2 ^ 57) : s_collapse n g x y < 2 ^ 57 := by
  unfold s_collapse
  split
  · exact clp_lt hn _ _ _ h
  · exact h
theorem lt_size {n g : Nat} {v : Int32} (h : g < 2 ^ 57) : s_sizeG n g v < 2 ^ 57 := by
  unfold s_sizeG
  split
  · split
    · exact h
    · decide
  · exact h
