/-! ===== the text: tokens, codes ===== -/
set_option maxRecDepth 100000
def isDg (b : Nat) : Bool := decide (48 ≤ b) && decide (b ≤ 57)
def isLt (b : Nat) : Bool := decide (97 ≤ b) && decide (b ≤ 122)
def spF (tp : List Nat) : Nat → Nat → Nat
  | 0, p => p
  | k + 1, p => if p < tp.length ∧ tp.getD p 0 = 32 then spF tp k (p + 1) else p
def exB (tp : List Nat) (s t : Bool) (p : Nat) : Bool := decide (p < tp.length) && (s && isLt (tp.getD p 0) || t && isDg (tp.getD p 0))
def exF (tp : List Nat) (s t : Bool) : Nat → Nat → Nat
  | 0, p => p
  | k + 1, p => if exB tp s t p then exF tp s t k (p + 1) else p
/-- the token behind e: where it begins, where it ends -/
def nxF (tp : List Nat) (e : Nat) : Nat := spF tp (tp.length - e) e
def nxT (tp : List Nat) (e : Nat) : Nat := if nxF tp e < tp.length then exF tp (isLt (tp.getD (nxF tp e) 0)) (isDg (tp.getD (nxF tp e) 0)) (tp.length - (nxF tp e + 1)) (nxF tp e + 1) else nxF tp e
theorem spF_b (tp : List Nat) : ∀ k p, p + k ≤ tp.length → p ≤ spF tp k p ∧ spF tp k p ≤ p + k := by
  intro k
  induction k with
  | zero => intro p _; exact ⟨Nat.le_refl _, Nat.le_refl _⟩
  | succ k ih =>
    intro p h
    unfold spF
    split
    · have := ih (p + 1) (by omega); omega
    · omega
theorem exF_b (tp : List Nat) (s t : Bool) : ∀ k p, p ≤ exF tp s t k p ∧ exF tp s t k p ≤ p + k := by
  intro k
  induction k with
  | zero => intro p; exact ⟨Nat.le_refl _, Nat.le_refl _⟩
  | succ k ih =>
    intro p
    unfold exF
    split
    · have := ih (p + 1); omega
    · omega
theorem nxF_b {tp : List Nat} {e : Nat} (h : e ≤ tp.length) : e ≤ nxF tp e ∧ nxF tp e ≤ tp.length := by
  have := spF_b tp (tp.length - e) e (by omega)
  unfold nxF; omega
theorem nxT_b {tp : List Nat} {e : Nat} (h : e ≤ tp.length) : nxF tp e ≤ nxT tp e ∧ nxT tp e ≤ tp.length := by
  have h1 := nxF_b h
  unfold nxT
  split
  · have := exF_b tp (isLt (tp.getD (nxF tp e) 0)) (isDg (tp.getD (nxF tp e) 0)) (tp.length - (nxF tp e + 1)) (nxF tp e + 1)
    omega
  · omega
theorem nxT_lt {tp : List Nat} {e : Nat} (h : nxF tp e < tp.length) : nxF tp e < nxT tp e := by
  unfold nxT
  rw [if_pos h]
  have := exF_b tp (isLt (tp.getD (nxF tp e) 0)) (isDg (tp.getD (nxF tp e) 0)) (tp.length - (nxF tp e + 1)) (nxF tp e + 1)
  omega
def tok (tp : List Nat) (e : Nat) : List Nat := (tp.drop (nxF tp e)).take (nxT tp e - nxF tp e)
theorem tok_len {tp : List Nat} {e : Nat} (h : e ≤ tp.length) : (tok tp e).length = nxT tp e - nxF tp e := by
  have := nxT_b h
  unfold tok
  rw [List.length_take, List.length_drop]; omega
/-- the words, by their places -/
def wrd (k : Nat) : List Nat := ([[108, 111, 119], [104, 105, 103, 104], [108, 101, 102, 116], [114, 105, 103, 104, 116], [108, 97, 115, 116], [110, 111, 116], [40], [41], [97, 110, 100], [111, 114], [60], [61], [62]] : List (List Nat)).getD k []
def isW (tp : List Nat) (e k : Nat) : Bool := tok tp e == wrd k
theorem isW_len {tp : List Nat} {e k : Nat} (h : e ≤ tp.length) (hw : isW tp e k = true) : nxT tp e = nxF tp e + (wrd k).length := by
  have h1 : tok tp e = wrd k := eq_of_beq hw
  have h2 := tok_len h
  have := nxT_b h
  rw [h1] at h2; omega
def fct (tp : List Nat) (e : Nat) : Int32 := if isW tp e 0 then -1 else if isW tp e 1 then -2 else if isW tp e 2 then -3 else if isW tp e 3 then -4 else if isW tp e 4 then -5 else 0
/-- the number that digits tell -/
def dgF (tp : List Nat) : Nat → Nat → Nat → Nat
  | 0, _, v => v
  | k + 1, p, v => dgF tp k (p + 1) (10 * v + (tp.getD p 0 - 48))
def pNum (tp : List Nat) (e : Nat) : Nat := dgF tp (nxT tp e - nxF tp e) (nxF tp e) 0
def numB (tp : List Nat) (e : Nat) : Bool := decide (nxF tp e < tp.length) && (isDg (tp.getD (nxF tp e) 0) && decide (nxT tp e - nxF tp e ≤ 4))
def pVal (tp : List Nat) (e : Nat) : Nat ⊕ (Int32 × Nat) := if fct tp e < 0 then .inr (fct tp e, nxT tp e) else if numB tp e then .inr (nI (pNum tp e), nxT tp e) else .inl (nxF tp e)
def sgn (tp : List Nat) (e : Nat) : Int32 := if isW tp e 10 then -6 else if isW tp e 11 then -7 else if isW tp e 12 then -8 else 0
def pCmp (tp : List Nat) (e : Nat) : Nat ⊕ (List Int32 × Nat) := match pVal tp e with
  | .inl p => .inl p
  | .inr q => if sgn tp q.2 = 0 then .inl (nxF tp q.2) else match pVal tp (nxT tp q.2) with
    | .inl p => .inl p
    | .inr q2 => .inr ([q.1, q2.1, sgn tp q.2], q2.2)
def bnd (r : Option (Nat ⊕ (List Int32 × Nat))) (k : List Int32 → Nat → Option (Nat ⊕ (List Int32 × Nat))) : Option (Nat ⊕ (List Int32 × Nat)) := match r with
  | none => none
  | some (.inl p) => some (.inl p)
  | some (.inr q) => k q.1 q.2
/-- mode 0: one; 1: all, 2: behind what is there, 'and' ..; 3: cond, 4: behind what is there, 'or' .. -/
def prs (tp : List Nat) : Nat → Nat → Nat → List Int32 → Nat → Option (Nat ⊕ (List Int32 × Nat))
  | 0, _, _, _, _ => none
  | f + 1, m, o, acc, e =>
    if m = 0 then
      if isW tp e 5 then bnd (prs tp f 0 o [] (nxT tp e)) (fun c e1 => some (.inr (c ++ [-9], e1)))
      else if isW tp e 6 then
        if o = 3 then some (.inl (nxF tp e)) else bnd (prs tp f 3 (o + 1) [] (nxT tp e)) (fun c e1 => if isW tp e1 7 then some (.inr (c, nxT tp e1)) else some (.inl (nxF tp e1)))
      else some (pCmp tp e)
    else if m = 1 then bnd (prs tp f 0 o [] e) (fun c e1 => prs tp f 2 o c e1)
    else if m = 2 then if isW tp e 8 then bnd (prs tp f 0 o [] (nxT tp e)) (fun c e1 => prs tp f 2 o (acc ++ c ++ [-10]) e1) else some (.inr (acc, e))
    else if m = 3 then bnd (prs tp f 1 o [] e) (fun c e1 => prs tp f 4 o c e1)
    else if isW tp e 9 then bnd (prs tp f 1 o [] (nxT tp e)) (fun c e1 => prs tp f 4 o (acc ++ c ++ [-11]) e1) else some (.inr (acc, e))
/-! values and holding -/
def fac (n a : Nat) (v : Int32) : Int32 := if v = -1 then nI (aL n a) else if v = -2 then nI (aH n a) else if v = -3 then nI (lf n a) else if v = -4 then nI (bw n a - lf n a) else if v = -5 then nI n else v
def soB (s x y : Int32) : Bool := if s = -6 then decide (x < y) else if s = -7 then decide (x = y) else if s = -8 then decide (y < x) else if s = -10 then decide (x + y = 2) else decide (0 < x + y)
/-- what a code does to a stack -/
def evS (n a : Nat) (v : Int32) (st : List Int32) : List Int32 := if -6 < v then fac n a v :: st else if v = -9 then (1 - st.getD 0 0) :: st.drop 1 else b1 (soB v (st.getD 1 0) (st.getD 0 0)) :: st.drop 2
def ev (n a : Nat) : List Int32 → List Int32 → List Int32
  | [], st => st
  | v :: c, st => ev n a c (evS n a v st)
def hldB (n a : Nat) (c : List Int32) : Bool := (ev n a c []).getD 0 0 == 1
def txS (n : Nat) (c : List Int32) : Nat := lpN (fun x s => s ||| (if hldB n x c then 2 ^ x else 0)) 0 (na n) 0
theorem txS_lt {n : Nat} {c : List Int32} (hn : n < 7) : txS n c < 2 ^ 57 := lp_or_lt2 (N := na n) _ (fun p hp => if_lt_pow (by have := na_lt n hn; omega)) (na n) 0 0 (by omega) (by decide)
def pAll (tp : List Nat) : Option (Nat ⊕ (List Int32 × Nat)) := bnd (prs tp 1000 3 0 [] 0) (fun c e => if nxF tp e < tp.length then some (.inl (nxF tp e)) else some (.inr (c, e)))
def o_text (n g : Nat) (tp : List Nat) (w : Int32) : Int32 := if inI w 3 then (match pAll tp with | some (.inr q) => nI (pc64 (s_comes n g (txS n q.1) w)) | some (.inl p) => -100 - nI p | none => 0) else -1
def s_textG (n g : Nat) (tp : List Nat) (w : Int32) : Nat := if inI w 3 then (match pAll tp with | some (.inr q) => s_comes n g (txS n q.1) w | _ => g) else g
def s_textT (tp : List Nat) (w : Int32) : List Nat := if inI w 3 then [] else tp
