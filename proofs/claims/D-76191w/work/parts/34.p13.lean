/-! ===== what is gone, makers ===== -/
set_option maxRecDepth 100000
def cu (c : Nat → Value) (i : Nat) (v : Value) : Nat → Value := fun j => if j = i then v else c j
theorem wb_xor2 {a b : Nat} (ha : a < 2 ^ 64) (hb : b < 2 ^ 64) : lN a ^^^ lN b = lN (a ^^^ b) := by
  apply wb_inj
  apply BitVec.eq_of_toNat_eq
  rw [Int64.toBitVec_xor, BitVec.toNat_xor, wb_tn ha, wb_tn hb, wb_tn (Nat.xor_lt_two_pow ha hb)]
def andn (g f : Nat) : Nat := g &&& (f ^^^ (2 ^ 64 - 1))
theorem andn_lt {g f k : Nat} (h : g < k) : andn g f < k := Nat.lt_of_le_of_lt Nat.and_le_left h
theorem wb_andn {g f : Nat} (hg : g < 2 ^ 64) (hf : f < 2 ^ 64) : lN g &&& (lN f ^^^ -1) = lN (andn g f) := by
  rw [show (-1 : Int64) = lN (2 ^ 64 - 1) from rfl, wb_xor2 hf (by decide), wb_and hg (Nat.xor_lt_two_pow hf (by decide))]
  rfl
/-- closed sets from an arc on -/
def cfr (n : Nat) : Nat → Nat → Nat → Nat → Int32
  | 0, _, _, _ => 1
  | k + 1, a, i, o => if (i ||| o).testBit a then cfr n k (a + 1) i o else cfr n k (a + 1) (i ||| fo n a) o + cfr n k (a + 1) i (o ||| fcr n a)
def o_closed (n g : Nat) (w : Int32) : Int32 := if inI w 2 then (if n = 6 then -4 else cfr n (na n) 0 (if w = 0 then 0 else g) 0) else -1
theorem xR_ok {d d' mc ms mL : Nat} (h : d + 1 ≤ d') (hm : 19 + mL ≤ 64) : d + 41 ≤ (xR d' mc ms).frames ∧ 11019 + mL + 64 * d ≤ (xR d' mc ms).locals := by
  show d + 41 ≤ d' + 40 ∧ 11019 + mL + 64 * d ≤ 11000 + 64 * d'
  omega
/-- between, left, right -/
def bw (n a : Nat) : Nat := aH n a - aL n a - 1
def lf (n a : Nat) : Nat := pc64 (aF n a)
theorem f_lf : ∀ n, n < 7 → ∀ a, a < na n → lf n a ≤ bw n a := by decide +kernel
def sgF (n m a : Nat) : Nat → Bool → Bool := fun e t => t || (lft n a e != m.testBit (e - 2))
def sgB (n m a : Nat) : Bool := lpN (sgF n m a) (aL n a + 1) (aH n a - (aL n a + 1)) false
def tkB (n kd m a : Nat) : Bool :=
  if kd = 1 then decide (0 < lf n a) else if kd = 2 then decide (m < bw n a + 1) else if kd = 3 then decide (0 < lf n a) && decide (0 < bw n a - lf n a)
  else if kd = 4 then sgB n m a else if kd = 5 then decide (m < bw n a + 1) || decide (bw n a - lf n a < lf n a) else false
def tkS (n kd m : Nat) : Nat := lpN (fun x s => s ||| (if tkB n kd m x then 2 ^ x else 0)) 0 (na n) 0
theorem tkS_lt {n kd m : Nat} (hn : n < 7) : tkS n kd m < 2 ^ 57 := lp_or_lt2 (N := na n) _ (fun p hp => if_lt_pow (by have := na_lt n hn; omega)) (na n) 0 0 (by omega) (by decide)
/-- what is gone behind a set came -/
def s_comes (n g S : Nat) (w : Int32) : Nat := if w = 0 then clo n S else if w = 1 then g ||| clo n S else g &&& clo n S
theorem s_comes_lt {n g S : Nat} {w : Int32} (hn : n < 7) (hg : g < 2 ^ 57) : s_comes n g S w < 2 ^ 57 := by
  unfold s_comes
  split
  · exact clo_lt hn S
  · split
    · exact Nat.or_lt_two_pow hg (clo_lt hn S)
    · exact Nat.lt_of_le_of_lt Nat.and_le_left hg
def s_contract (n g : Nat) (x : Int32) : Nat := if inI x (na n) then g ||| fo n (tn x) else g
def o_contract (n g : Nat) (x : Int32) : Int32 := if inI x (na n) then nI (pc64 (g ||| fo n (tn x))) else -1
def s_restore (n g : Nat) (x : Int32) : Nat := if inI x (na n) then andn g (fcr n (tn x)) else g
def o_restore (n g : Nat) (x : Int32) : Int32 := if inI x (na n) then nI (pc64 (andn g (fcr n (tn x)))) else -1
/-- the heap behind a writing of 'gone' -/
def sG (G : xH) (c : Nat → Value) (g : Nat) : xH := G.set 54 (cO 7 (mFs (cu c 3 (.long (lN g)))))
theorem sG_id {G : xH} {c : Nat → Value} {g : Nat} (h : G[54]? = some (cO 7 (mFs c))) (h3 : c 3 = .long (lN g)) : G = sG G c g := by
  unfold sG
  rw [← h3]
  exact (gset_id h).symm
theorem sG_O {G : xH} {c : Nat → Value} {g : Nat} (h : G[54]? = some (cO 7 (mFs c))) : (sG G c g)[54]? = some (cO 7 (mFs (cu c 3 (.long (lN g))))) := gset_self h
