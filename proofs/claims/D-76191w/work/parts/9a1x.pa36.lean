/-! ===== the class: sheets; words ===== -/
set_option maxRecDepth 100000
theorem K1 : xcls 1 RX1 TX1 7 tyX1 := ⟨rfl, in_X1, tyX1_ok, nmX1⟩
theorem K2 : xcls 2 RX2 TX2 7 tyX2 := ⟨rfl, in_X2, tyX2_ok, nmX2⟩
theorem K5 : xcls 5 RX5 TX5 1 tyX5 := ⟨rfl, in_X5, tyX5_ok, nmX5⟩
theorem K24 : xcls 24 RX24 TX24 1 tyX24 := ⟨rfl, in_X24, tyX24_ok, nmX24⟩
/-- a refusal's fields -/
def rFs (r : Nat → Value) (v : Value) : List Value := [r 0, r 1, r 2, r 3, r 4, r 5, v]
def cRf (G : xH) : Prop := ∃ (r : Nat → Value) (v : Int32), G[1]? = some (cO 1 (rFs r (.int v)))
def cFt (G : xH) : Prop := ∃ (r : Nat → Value) (v : Int32), G[2]? = some (cO 2 (rFs r (.int v)))
/-- a row of a sort -/
def shT (t : Nat) : Nat := if t = 0 then 1 else if t = 1 then 3 else if t = 2 then 0 else 4
def snm (t : Nat) : String := if t = 0 then "[B" else if t = 1 then "[S" else if t = 2 then "[I" else "[J"
def shC (t : Nat) (xs : List Int64) : xC := if t = 0 then cI 1 (xs.map Int64.toInt32) else if t = 1 then cI 3 (xs.map Int64.toInt32) else if t = 2 then cI 0 (xs.map Int64.toInt32) else cL 4 xs
def shN (t : Nat) (xs : List Int64) : Prop := t < 4 ∧ xs.length ≤ 40 ∧ ∀ v ∈ xs, nrw (nI t) v = v
theorem sh_cases {t : Nat} (h : t < 4) : t = 0 ∨ t = 1 ∨ t = 2 ∨ t = 3 := by omega
theorem xnm_sh {t : Nat} {xs : List Int64} (h : t < 4) : xnm (snm t) (shC t xs) := by
  rcases sh_cases h with rfl | rfl | rfl | rfl
  · exact xnm_I1
  · exact xnm_I3
  · exact xnm_I0
  · exact xnm_L
theorem xar_sh {t : Nat} {xs : List Int64} (h : t < 4) : xar (shT t) xs.length (shC t xs) := by
  rcases sh_cases h with rfl | rfl | rfl | rfl
  · exact ⟨rfl, List.length_map ..⟩
  · exact ⟨rfl, List.length_map ..⟩
  · exact ⟨rfl, List.length_map ..⟩
  · exact ⟨rfl, rfl⟩
theorem shN_0 {t n : Nat} (h : t < 4) (hn : n ≤ 40) : shN t (List.replicate n 0) := ⟨h, by rw [List.length_replicate]; exact hn, fun v hv => by
  rw [List.eq_of_mem_replicate hv]
  rcases sh_cases h with rfl | rfl | rfl | rfl <;> rfl⟩
theorem i64_32 (x : Int32) : x.toInt64.toInt32 = x := Int32.toInt32_toInt64 x
theorem nrw_idem {t : Nat} (h : t < 4) (v : Int64) : nrw (nI t) (nrw (nI t) v) = nrw (nI t) v := by
  rcases sh_cases h with rfl | rfl | rfl | rfl
  · show v.toInt32.toInt8.toInt32.toInt64.toInt32.toInt8.toInt32.toInt64 = v.toInt32.toInt8.toInt32.toInt64
    rw [i64_32, Int8.toInt8_toInt32]
  · show v.toInt32.toInt16.toInt32.toInt64.toInt32.toInt16.toInt32.toInt64 = v.toInt32.toInt16.toInt32.toInt64
    rw [i64_32, Int16.toInt16_toInt32]
  · show v.toInt32.toInt64.toInt32.toInt64 = v.toInt32.toInt64
    rw [i64_32]
  · rfl
theorem shN_set {t i : Nat} {xs : List Int64} {v : Int64} (h : shN t xs) : shN t (xs.set i (nrw (nI t) v)) := by
  obtain ⟨h1, h2, h3⟩ := h
  refine ⟨h1, by rw [List.length_set]; exact h2, fun w hw => ?_⟩
  rcases List.mem_or_eq_of_mem_set hw with h | h
  · exact h3 w h
  · rw [h]; exact nrw_idem h1 v
/-- the class's sheets -/
def cSh1 (o : Option (Nat × List Int64)) (k a : Nat) (G : xH) : Prop := match o with
  | none => G[35 + 2 * k]? = some (cO 5 [.null])
  | some q => G[35 + 2 * k]? = some (cO 5 [.ref a]) ∧ 82 < a ∧ G[a]? = some (shC q.1 q.2) ∧ shN q.1 q.2
def cSh (sh : Nat → Option (Nat × List Int64)) (sa : Nat → Nat) (G : xH) : Prop := G[31]? = some (cR 8 [.ref 35, .ref 37, .ref 39, .ref 41]) ∧ (∀ k, k < 4 → cSh1 (sh k) k (sa k) G) ∧ ∀ k j, k < 4 → j < 4 → k ≠ j → (sh k).isSome = true → (sh j).isSome = true → sa k ≠ sa j
theorem sh_ref {k : Nat} (h : k < 4) : ([.ref 35, .ref 37, .ref 39, .ref 41] : List Value)[k]? = some (.ref (35 + 2 * k)) := by
  match k, h with
  | 0, _ => rfl
  | 1, _ => rfl
  | 2, _ => rfl
  | 3, _ => rfl
theorem sl_ref {k : Nat} (h : k < 4) : ([.ref 34, .ref 36, .ref 38, .ref 40] : List Value)[k]? = some (.ref (34 + 2 * k)) := by
  match k, h with
  | 0, _ => rfl
  | 1, _ => rfl
  | 2, _ => rfl
  | 3, _ => rfl
/-- cells of one kind and length -/
def smK : xC → xC → Prop
  | some (.inl q), y => ∃ L : List Int32, y = cI q.1 L ∧ L.length = q.2.length
  | some (.inr (.inl q)), y => ∃ L : List Int64, y = cL q.1 L ∧ L.length = q.2.length
  | x, y => y = x
theorem smK.refl : ∀ x : xC, smK x x
  | some (.inl q) => ⟨q.2, rfl, rfl⟩
  | some (.inr (.inl q)) => ⟨q.2, rfl, rfl⟩
  | some (.inr (.inr (.inl _))) => rfl
  | some (.inr (.inr (.inr _))) => rfl
  | none => rfl
theorem smK.trans {x y z : xC} (h1 : smK x y) (h2 : smK y z) : smK x z := by
  match x, h1 with
  | some (.inl q), h1 =>
    obtain ⟨L, rfl, hl⟩ := h1
    obtain ⟨M, rfl, hm⟩ := h2
    exact ⟨M, rfl, hm.trans hl⟩
  | some (.inr (.inl q)), h1 =>
    obtain ⟨L, rfl, hl⟩ := h1
    obtain ⟨M, rfl, hm⟩ := h2
    exact ⟨M, rfl, hm.trans hl⟩
  | some (.inr (.inr (.inl _))), h1 => cases h1; exact h2
  | some (.inr (.inr (.inr _))), h1 => cases h1; exact h2
  | none, h1 => cases h1; exact h2
/-- all that is made as it is wanted keeps its kind and length; what isn't an array of numbers stays -/
def gsm (G G' : xH) : Prop := ∀ (i : Nat) (x : xC), dyn i → G[i]? = some x → ∃ y, G'[i]? = some y ∧ smK x y
theorem gsm.refl {G : xH} : gsm G G := fun _ x _ h => ⟨x, h, smK.refl x⟩
theorem gsm.trans {G H K : xH} (h1 : gsm G H) (h2 : gsm H K) : gsm G K := fun i x hi hx => by
  obtain ⟨y, hy, s1⟩ := h1 i x hi hx
  obtain ⟨z, hz, s2⟩ := h2 i y hi hy
  exact ⟨z, hz, s1.trans s2⟩
theorem gfa.gsm {W : List Nat} {G G' : xH} (h : gfa W G G') (hW : ∀ i ∈ W, i < 42) : gsm G G' := fun i x hi hx => by
  have hl := (List.getElem?_eq_some_iff.mp hx).1
  exact ⟨x, by rw [h.2 i hl (fun q => by have := hW i q; have := hi.1; omega)]; exact hx, smK.refl x⟩
theorem gsm.set {G H : xH} {r : Nat} {x y : xC} (h : gsm G H) (hr : H[r]? = some x) (hs : smK x y) : gsm G (H.set r y) := h.trans fun i z hi hz => by
  by_cases e : r = i
  · subst e
    cases hr.symm.trans hz
    exact ⟨y, gset_self hr, hs⟩
  · exact ⟨z, by rw [gset e]; exact hz, smK.refl z⟩
theorem gsm.oth {G H : xH} {r : Nat} {y : xC} (h : gsm G H) (hr : ¬ dyn r) : gsm G (H.set r y) := h.trans fun i z hi hz => ⟨z, by rw [gset (show r ≠ i from fun e => hr (by rw [e]; exact hi))]; exact hz, smK.refl z⟩
theorem gsm.apps {G H K : xH} (h : gsm G H) : gsm G (H ++ K) := h.trans fun i z _ hz => ⟨z, by rw [List.getElem?_append_left (List.getElem?_eq_some_iff.mp hz).1]; exact hz, smK.refl z⟩
theorem gsm.kpt {G G' : xH} (h : gsm G G') : kpt G G' := fun i x hi hx hn => by
  obtain ⟨y, hy, hs⟩ := h i x hi hx
  match x, hn, hs with
  | some (.inr (.inr (.inl _))), _, hs => cases hs; exact hy
  | some (.inr (.inr (.inr _))), _, hs => cases hs; exact hy
theorem smK_sh {t : Nat} {xs ys : List Int64} (h : ys.length = xs.length) : smK (shC t xs) (shC t ys) := by
  unfold shC
  by_cases h0 : t = 0
  · rw [if_pos h0, if_pos h0]; exact ⟨_, rfl, by rw [List.length_map, List.length_map]; exact h⟩
  · rw [if_neg h0, if_neg h0]
    by_cases h1 : t = 1
    · rw [if_pos h1, if_pos h1]; exact ⟨_, rfl, by rw [List.length_map, List.length_map]; exact h⟩
    · rw [if_neg h1, if_neg h1]
      by_cases h2 : t = 2
      · rw [if_pos h2, if_pos h2]; exact ⟨_, rfl, by rw [List.length_map, List.length_map]; exact h⟩
      · rw [if_neg h2, if_neg h2]; exact ⟨_, rfl, h⟩
theorem dyn_82 {a : Nat} (h : 82 < a) : dyn a := ⟨by omega, Or.inr h⟩
theorem ndyn_42 {a : Nat} (h : a < 42) : ¬ dyn a := fun q => by have := q.1; omega
theorem sort_k : ∀ t : Nat, t < 4 → ∀ i : Nat, i < 3 → nI t = Int32.ofInt (0 + (i : Int)) → t = i := by decide +kernel
theorem sort_3 : ∀ t : Nat, t < 4 → ((nI t).toInt < 0 ∨ 2 < (nI t).toInt) → t = 3 := by decide +kernel
/-- one sheet is other -/
theorem cSh1.mv {o : Option (Nat × List Int64)} {k a : Nat} {G G' : xH} (h : cSh1 o k a G) (h1 : G'[35 + 2 * k]? = G[35 + 2 * k]?) (h2 : ∀ q, o = some q → G'[a]? = G[a]?) : cSh1 o k a G' := by
  cases o with
  | none => exact h1.trans h
  | some q => exact ⟨h1.trans h.1, h.2.1, (h2 q rfl).trans h.2.2.1, h.2.2.2⟩
theorem cSh.mv {sh : Nat → Option (Nat × List Int64)} {sa : Nat → Nat} {G G' : xH} (h : cSh sh sa G) (h31 : G'[31]? = G[31]?) (h1 : ∀ k, k < 4 → G'[35 + 2 * k]? = G[35 + 2 * k]?) (h2 : ∀ k q, k < 4 → sh k = some q → G'[sa k]? = G[sa k]?) : cSh sh sa G' :=
  ⟨h31.trans h.1, fun k hk => (h.2.1 k hk).mv (h1 k hk) (fun q hq => h2 k q hk hq), h.2.2⟩
/-- frames that leave the sheets alone -/
theorem cSh.gfa {sh : Nat → Option (Nat × List Int64)} {sa : Nat → Nat} {W : List Nat} {G G' : xH} (h : cSh sh sa G) (hf : gfa W G G') (hW : ∀ i ∈ W, i < 31) : cSh sh sa G' := by
  refine h.mv (hf.2 31 (List.getElem?_eq_some_iff.mp h.1).1 (fun q => by have := hW 31 q; omega)) (fun k hk => ?_) (fun k q hk hq => ?_)
  · have hk1 := h.2.1 k hk
    have hl : 35 + 2 * k < G.length := by
      unfold cSh1 at hk1
      cases ho : sh k with
      | none => rw [ho] at hk1; exact (List.getElem?_eq_some_iff.mp hk1).1
      | some q => rw [ho] at hk1; exact (List.getElem?_eq_some_iff.mp hk1.1).1
    exact hf.2 _ hl (fun q => by have := hW _ q; omega)
  · have hk1 := h.2.1 k hk
    rw [hq] at hk1
    exact hf.2 _ (List.getElem?_eq_some_iff.mp hk1.2.2.1).1 (fun q => by have := hW _ q; have := hk1.2.1; omega)
/-- a sheet put -/
theorem cSh.put {sh : Nat → Option (Nat × List Int64)} {sa : Nat → Nat} {G : xH} {k : Nat} {q : Nat × List Int64} {ys : List Int64} (h : cSh sh sa G) (hk : k < 4) (hq : sh k = some q) (hy : shN q.1 ys) : cSh (shU sh k (some (q.1, ys))) sa (G.set (sa k) (shC q.1 ys)) := by
  have hk1 := h.2.1 k hk
  rw [hq] at hk1
  obtain ⟨a1, a2, a3, a4⟩ := hk1
  refine ⟨by rw [gset (by omega)]; exact h.1, fun j hj => ?_, fun i j hi hj hne s1 s2 => ?_⟩
  · unfold shU
    by_cases e : j = k
    · subst e
      rw [if_pos rfl]
      exact ⟨by rw [gset (by omega)]; exact a1, a2, gset_self a3, hy⟩
    · rw [if_neg e]
      refine (h.2.1 j hj).mv (gset (by omega)) (fun p hp => gset ?_)
      exact h.2.2 k j hk hj (fun q => e q.symm) (by rw [hq]; rfl) (by rw [hp]; rfl)
  · have key : ∀ x, (shU sh k (some (q.1, ys)) x).isSome = true → (sh x).isSome = true := fun x hx => by
      unfold shU at hx
      by_cases e : x = k
      · subst e; rw [hq]; rfl
      · rw [if_neg e] at hx; exact hx
    exact h.2.2 i j hi hj hne (key i s1) (key j s2)
def saU (sa : Nat → Nat) (k a : Nat) : Nat → Nat := fun j => if j = k then a else sa j
/-- a new sheet -/
theorem cSh.new {sh : Nat → Option (Nat × List Int64)} {sa : Nat → Nat} {G : xH} {k t : Nat} {xs : List Int64} (h : cSh sh sa G) (hk : k < 4) (hy : shN t xs) (h82 : 82 < G.length) : cSh (shU sh k (some (t, xs))) (saU sa k G.length) ((G ++ [shC t xs]).set (35 + 2 * k) (cO 5 [.ref G.length])) := by
  have hap : ∀ {j : Nat} {x : xC}, G[j]? = some x → (G ++ [shC t xs])[j]? = G[j]? := fun hx => List.getElem?_append_left (List.getElem?_eq_some_iff.mp hx).1
  have hln : (G ++ [shC t xs])[G.length]? = some (shC t xs) := app_at
  refine ⟨by rw [gset (by omega), hap h.1]; exact h.1, fun j hj => ?_, fun i j hi hj hne s1 s2 => ?_⟩
  · have hj1 := h.2.1 j hj
    unfold shU saU
    by_cases e : j = k
    · subst e
      rw [if_pos rfl, if_pos rfl]
      exact ⟨List.getElem?_set_self (by rw [List.length_append]; omega), h82, by rw [gset (by omega)]; exact hln, hy⟩
    · rw [if_neg e, if_neg e]
      cases ho : sh j with
      | none => rw [ho] at hj1; exact (by rw [gset (by omega), hap hj1]; exact hj1 : ((G ++ [shC t xs]).set (35 + 2 * k) (cO 5 [.ref G.length]))[35 + 2 * j]? = some (cO 5 [.null]))
      | some q =>
        rw [ho] at hj1
        obtain ⟨a1, a2, a3, a4⟩ := hj1
        exact ⟨by rw [gset (by omega), hap a1]; exact a1, a2, by rw [gset (by omega), hap a3]; exact a3, a4⟩
  · have lt : ∀ x, x < 4 → x ≠ k → (shU sh k (some (t, xs)) x).isSome = true → (sh x).isSome = true ∧ saU sa k G.length x = sa x ∧ sa x < G.length := fun x hx e s => by
      unfold shU at s
      rw [if_neg e] at s
      refine ⟨s, if_neg e, ?_⟩
      have hx1 := h.2.1 x hx
      cases ho : sh x with
      | none => rw [ho] at s; cases s
      | some q => rw [ho] at hx1; exact (List.getElem?_eq_some_iff.mp hx1.2.2.1).1
    by_cases e1 : i = k
    · have e2 : j ≠ k := fun q => hne (e1.trans q.symm)
      obtain ⟨_, b2, b3⟩ := lt j hj e2 s2
      rw [b2, show saU sa k G.length i = G.length from if_pos e1]; omega
    · obtain ⟨c1, c2, c3⟩ := lt i hi e1 s1
      by_cases e2 : j = k
      · rw [c2, show saU sa k G.length j = G.length from if_pos e2]; omega
      · obtain ⟨b1, b2, b3⟩ := lt j hj e2 s2
        rw [c2, b2]
        exact h.2.2 i j hi hj hne c1 b1
theorem cSh.null {sh : Nat → Option (Nat × List Int64)} {sa : Nat → Nat} {G : xH} {k : Nat} {x : xC} (h : cSh sh sa G) (hk : k < 4) (hx : G[35 + 2 * k]? = some x) : cSh (shU sh k none) sa (G.set (35 + 2 * k) (cO 5 [.null])) := by
  refine ⟨by rw [gset (by omega)]; exact h.1, fun j hj => ?_, fun i j hi hj hne s1 s2 => ?_⟩
  · unfold shU
    by_cases e : j = k
    · subst e
      rw [if_pos rfl]
      exact gset_self hx
    · rw [if_neg e]
      have hj1 := h.2.1 j hj
      refine hj1.mv (gset (by omega)) (fun p hp => gset ?_)
      rw [hp] at hj1
      have := hj1.2.1
      omega
  · have key : ∀ x, (shU sh k none x).isSome = true → (sh x).isSome = true := fun x hx => by
      unfold shU at hx
      by_cases e : x = k
      · rw [if_pos e] at hx; cases hx
      · rw [if_neg e] at hx; exact hx
    exact h.2.2 i j hi hj hne (key i s1) (key j s2)
theorem cSh1.at {o : Option (Nat × List Int64)} {k a : Nat} {G : xH} (h : cSh1 o k a G) : ∃ v, (v = .null ∨ v = .ref a) ∧ G[35 + 2 * k]? = some (cO 5 [v]) := by
  cases o with
  | none => exact ⟨.null, Or.inl rfl, h⟩
  | some q => exact ⟨.ref a, Or.inr rfl, h.1⟩
