/-! ===== the reference: leaves ===== -/
set_option maxRecDepth 100000
theorem K7 : xcls 7 RX7 TX7 50 tyX7 := ⟨rfl, in_X7, tyX7_ok, nmX7⟩
/-- the reference's object: its scalars, its arrays at their addresses -/
def mFs (c : Nat → Value) : List Value := [c 0, c 1, c 2, c 3, .ref 55, .ref 56, c 6, c 7, c 8, c 9, .ref 57, .ref 58, c 12, .ref 59, .ref 60, .ref 61, .ref 62, c 17, .ref 63, .ref 64, .ref 65, .ref 66, .ref 67, c 23, c 24, c 25, c 26, c 27, c 28, .ref 68, .ref 69, .ref 70, .ref 71, .ref 72, .ref 73, .ref 74, c 36, .ref 75, .ref 76, .ref 77, .ref 78, .ref 79, .ref 80, .ref 81, .ref 82, c 45, c 46, c 47, c 48, c 49]
def powL : List Int32 := [1, 10, 100, 1000, 10000, 100000, 1000000]
def wayL : List Int32 := [1, 1, 2, 6, 24, 120, 720]
def wy (n : Nat) : Nat := [1, 1, 2, 6, 24, 120, 720].getD n 0
theorem powL_at {k : Nat} (h : k ≤ 6) : powL[k]? = some (nI (10 ^ k)) := by
  rcases (by omega : k = 0 ∨ k = 1 ∨ k = 2 ∨ k = 3 ∨ k = 4 ∨ k = 5 ∨ k = 6) with h | h | h | h | h | h | h <;> subst h <;> rfl
theorem wayL_at {k : Nat} (h : k ≤ 6) : wayL[k]? = some (nI (wy k)) := by
  rcases (by omega : k = 0 ∨ k = 1 ∨ k = 2 ∨ k = 3 ∨ k = 4 ∨ k = 5 ∨ k = 6) with h | h | h | h | h | h | h <;> subst h <;> rfl
theorem p10_in {k : Nat} (h : k ≤ 6) : 0 < 10 ^ k ∧ 10 ^ k < 2 ^ 31 := by
  rcases (by omega : k = 0 ∨ k = 1 ∨ k = 2 ∨ k = 3 ∨ k = 4 ∨ k = 5 ∨ k = 6) with h | h | h | h | h | h | h <;> subst h <;> decide
/-- what the reference's row methods read -/
def mV (c : Nat → Value) (n : Nat) (G : xH) : Prop := G[54]? = some (cO 7 (mFs c)) ∧ c 0 = .int (nI n) ∧ 1 ≤ n ∧ n ≤ 6 ∧ G[63]? = some (cI 0 powL) ∧ G[64]? = some (cI 0 wayL)
def dgt (n R p : Nat) : Nat := R / 10 ^ (n - 1 - p) % 10
theorem nI_sub1 {n : Nat} (h : 1 ≤ n) : nI n - 1 = nI (n - 1) := pk_sub h
theorem lp_step {α : Type} (f : Nat → α → α) {i N : Nat} (h : i < N) (x : α) : lpN f i (N - i) x = lpN f (i + 1) (N - (i + 1)) (f i x) := by
  rw [show N - i = (N - (i + 1)) + 1 by omega]; rfl
theorem lp_end {α : Type} (f : Nat → α → α) {i N : Nat} (h : N ≤ i) (x : α) : lpN f i (N - i) x = x := by
  rw [show N - i = 0 by omega]; rfl
theorem kS_X7_has : xsS yX7_has cX7_has 3 (some FieldType.boolean) 2 := ⟨q1927, q161, q1928, by decide, by decide, by decide +kernel⟩
section M1
variable {E : xE} {G : xH} {c : Nat → Value} {n : Nat}
theorem M_has {m k : Nat} (hm : m < 2 ^ 64) (hk : k < 64) : xMet E yX7_has cX7_has 3 (some .boolean) 0 0 0 [.long (lN m), .int (nI k)] G (xrv (some (.int (b1 (m.testBit k)))) G) := by
  refine xMet.of rfl rfl (Nat.le_of_ble_eq_true rfl) ?_
  refine xj_lload_n dX7_has_0 rfl ?_
  refine xj_iload_n dX7_has_1 rfl ?_
  refine xj_lushr dX7_has_2 ?_
  refine xj_lc1 dX7_has_3 ?_
  refine xj_land dX7_has_4 ?_
  refine xj_topl (x_bit hm hk) ?_
  refine xj_lc1 dX7_has_5 ?_
  refine xj_lcmp dX7_has_6 ?_
  refine xj_sI_if_ne (tgt := 14) (M := 15) dX7_has_7 rfl (fun c7 k => by
      refine xj_ic0 dX7_has_14 ?_
      exact k) (fun c7 k => by
      refine xj_ic1 dX7_has_10 ?_
      refine xj_goto (tgt := 15) dX7_has_11 rfl ?_
      exact k) ?_
  exact xj_ireturn dX7_has_15 rfl (by revert k; intros; split <;> rfl) (xrv_i (by cases m.testBit k <;> decide))
theorem M_ones {m : Nat} (hm : m < 2 ^ 64) : xMet E yX7_ones cX7_ones 4 (some .int) 1 0 0 [.long (lN m)] G (xrv (some (.int (nI (pc64 m)))) G) := by
  refine xMet.of rfl rfl (Nat.le_of_ble_eq_true rfl) ?_
  refine xj_ic0 dX7_ones_0 ?_
  refine xj_istn2 dX7_ones_1 rfl ?_
  refine xj_ic0 dX7_ones_2 ?_
  refine xj_istn3 dX7_ones_3 rfl ?_
  have loop : ∀ (K i c : Nat), 64 - i < K → i ≤ 64 → lpN (fun k c => c + (if m.testBit k then 1 else 0)) i (64 - i) c = pc64 m → xJ E (yX7_ones, cX7_ones, 4, some .int, []) (xR 1 0 0) (xrv (some (.int (nI (pc64 m)))) G) 0 0 4 [some (.long (lN m)), none, some (.int (nI c)), some (.int (nI i))] [] G := by
    intro K
    induction K with
    | zero => intro i c h; exact absurd h (Nat.not_lt_zero _)
    | succ K ih =>
      intro i c hK hi hr
      refine xj_iload_n dX7_ones_4 rfl ?_
      refine xj_bipush (v := 64) dX7_ones_5 rfl ?_
      refine xj_icmp_ge (tgt := 32) dX7_ones_7 rfl (fun c7 => ?_) (fun c7 => ?_)
      · have hi64 : 64 ≤ i := Nat.le_of_not_lt fun h => absurd c7 (nI_ge h (by decide))
        refine xj_iload_n dX7_ones_32 rfl ?_
        exact xj_ireturn dX7_ones_33 rfl rfl (xrv_i (by rw [← hr, lp_end _ (by omega)]))
      · have hi64 : i < 64 := Nat.lt_of_not_le fun h => c7 (nI_le h (by omega))
        refine xj_iload_n dX7_ones_10 rfl ?_
        refine xj_lload_n dX7_ones_11 rfl ?_
        refine xj_iload_n dX7_ones_12 rfl ?_
        refine xj_cS dX7_ones_13 q1926 kS_X7_has (M_has hm (by omega)) rfl rfl (Nat.le_of_ble_eq_true rfl) ⟨(Nat.le_of_ble_eq_true rfl), (Nat.le_of_ble_eq_true rfl)⟩ (Nat.le_of_ble_eq_true rfl) (Nat.le_of_ble_eq_true rfl) ?_
        refine xj_sI_if_eq (tgt := 23) (M := 24) dX7_ones_16 rfl (fun c16 k => by
            refine xj_ic0 dX7_ones_23 ?_
            exact k) (fun c16 k => by
            refine xj_ic1 dX7_ones_19 ?_
            refine xj_goto (tgt := 24) dX7_ones_20 rfl ?_
            exact k) ?_
        refine xj_top (y := nI (if m.testBit i then 1 else 0)) (by cases m.testBit i <;> decide) ?_
        refine xj_iadd dX7_ones_24 ?_
        rw [nI_add]
        refine xj_istn2 dX7_ones_25 rfl ?_
        refine xj_iinc3 (cst := 1) dX7_ones_26 rfl rfl ?_
        rw [nI_1]
        refine xj_goto (tgt := 4) dX7_ones_29 rfl ?_
        exact ih (i + 1) _ (by omega) (by omega) (by rw [← hr, lp_step _ hi64])
  exact loop 65 0 0 (by omega) (by omega) rfl
theorem M_digit {r p : Nat} (hv : mV c n G) (hr : r < 2 ^ 31) (hp : p < n) : xMet E yX7_digit cX7_digit 3 (some .int) 0 0 0 [.ref 54, .int (nI r), .int (nI p)] G (xrv (some (.int (nI (dgt n r p)))) G) := by
  obtain ⟨hO, hf0, h1n, hn6, hPw, hWy⟩ := hv
  have hq := p10_in (k := n - 1 - p) (by omega)
  refine xMet.of rfl rfl (Nat.le_of_ble_eq_true rfl) ?_
  refine xj_iload_n dX7_digit_0 rfl ?_
  refine xj_aload_n dX7_digit_1 rfl rfl ?_
  refine xj_get dX7_digit_2 K7 18 (by decide) q1947 hO rfl ?_
  refine xj_aload_n dX7_digit_5 rfl rfl ?_
  refine xj_get dX7_digit_6 K7 0 (by decide) q1929 hO (congrArg some hf0) ?_
  refine xj_ic1 dX7_digit_9 ?_
  refine xj_isub dX7_digit_10 ?_
  refine xj_iload_n dX7_digit_11 rfl ?_
  refine xj_isub dX7_digit_12 ?_
  refine xj_iald dX7_digit_13 hPw (by rw [nI_sub1 h1n, pk_sub (by omega)]) (by omega) (powL_at (by omega)) ?_
  refine xj_idiv dX7_digit_14 (nI_ne0 hq.1 hq.2) ?_
  rw [pk_div hr hq.1 hq.2]
  refine xj_bipush (v := 10) dX7_digit_15 rfl ?_
  refine xj_irem dX7_digit_17 (by decide) ?_
  exact xj_ireturn dX7_digit_18 rfl rfl (xrv_i (pk_rem (d := 10) (Nat.lt_of_le_of_lt (Nat.div_le_self _ _) hr) (by decide) (by decide)))
end M1
