/-! ===== the x layer, thirtieth part: calls that throw ===== -/
set_option maxRecDepth 100000
/-- a contract of a method that throws -/
def xth (En : String) (w : Option Value) (P : xH → Prop) : xOut → xH → Prop := fun o G' => o = .inr (En, w) ∧ P G'
section XJ30
variable {E : xE} {I : xI} {R : Room} {Φ : xOut → xH → Prop} {nc ns pc : Nat} {lv : List (Option Value)} {st : List Value} {G : xH}
theorem xth_t {En : String} {w : Option Value} {P : xH → Prop} {lv' : List (Option Value)} {nc' ns' : Nat} (k : ∀ G' : xH, P G' → xJT E I R Φ nc' ns' pc lv' G' En w) : ∀ (En' : String) (w' : Option Value) (G' : xH), xth En w P (.inr (En', w')) G' → xJT E I R Φ nc' ns' pc lv' G' En' w' := fun _ _ G' h => by
  obtain ⟨h1, h2⟩ := h
  cases h1
  exact k G' h2
theorem xth_k {En : String} {w : Option Value} {P : xH → Prop} {rest : List Value} {nc' ns' pc' : Nat} : ∀ (v : Option Value) (G' : xH), xth En w P (.inl v) G' → xJ E I R Φ nc' ns' pc' lv (v.toList ++ rest) G' := fun _ _ h => by cases h.1
theorem xj_tS {idx d mc ms n : Nat} {y : MethodName} {bytes : ByteArray} {maxL : Nat} {ret : Option FieldType} {En : String} {w : Option Value} {P : xH → Prop} {As rest : List Value} (hd : decode I.2.1 pc = .ok (.invokestatic idx, 3)) (w1 : Cond.methodLink I.1.cls idx y ∈ lw_all) (ks : xsS y bytes maxL ret n) (hM : xMet E y bytes maxL ret d mc ms As G (xth En w P)) (hn : As.length = n) (hst : st = As.reverse ++ rest) (hrest : (rest.map fun v => v.category).sum ≤ 8) (hR : d + 41 ≤ R.frames ∧ 11019 + maxL + 64 * d ≤ R.locals) (hc : mc ≤ nc) (hs : ms ≤ ns) (k : ∀ G' : xH, P G' → xJT E I R Φ (nc - mc) (ns - ms) pc lv G' En w) : xJ E I R Φ nc ns pc lv st G := xj_callS hd hM w1 ks.1 ks.2.1 ks.2.2.1 ks.2.2.2 hn hst hrest hR hc hs (xth_t k) xth_k
theorem xj_tV {idx d mc ms n b ci N : Nat} {y : MethodName} {bytes : ByteArray} {maxL : Nat} {ret : Option FieldType} {En : String} {w : Option Value} {P : xH → Prop} {As rest fs : List Value} {C : String} {T : u_T} (hd : decode I.2.1 pc = .ok (.invokevirtual idx, 3)) (w1 : Cond.methodLink I.1.cls idx y ∈ lw_all) (ks : xsV y bytes maxL ret n) (hM : xMet E y bytes maxL ret d mc ms (.ref b :: As) G (xth En w P)) (hg : G[b]? = some (cO ci fs)) (hq : xcl[ci]? = some (C, T, N)) (hC : C = y.cls) (hn : As.length = n) (hst : st = As.reverse ++ .ref b :: rest) (hrest : (rest.map fun v => v.category).sum ≤ 8) (hR : d + 41 ≤ R.frames ∧ 11019 + maxL + 64 * d ≤ R.locals) (hc : mc ≤ nc) (hs : ms ≤ ns) (k : ∀ G' : xH, P G' → xJT E I R Φ (nc - mc) (ns - ms) pc lv G' En w) : xJ E I R Φ nc ns pc lv st G := xj_callV hd hM hg hq hC w1 ks.1 ks.2.1 ks.2.2.1 ks.2.2.2.1 ks.2.2.2.2 hn hst hrest hR hc hs (xth_t k) xth_k
end XJ30
