/-! ===== the class: kept; the tape is fed ===== -/
set_option maxRecDepth 100000
theorem kV_X3_become : xsV yX3_become cX3_become 2 none 1 := ⟨q1898, q1899, q157, q1900, by decide, by decide, by decide +kernel⟩
theorem cp6 {K D : List Int32} (h1 : K.length = 6) (h2 : D.length = 6) : cpL K D 0 0 6 = K := by
  refine l6_ext h1 (by rw [cpL_len]; exact h2) (fun i hi => ?_)
  rw [cpL_at (by omega), if_pos ⟨Nat.zero_le _, by omega⟩, Nat.zero_add, Nat.sub_zero, gD_at (by omega)]
def kFs (u : Nat → Value) : List Value := [u 0, u 1, u 2, u 3, .ref 8, .ref 9]
/-- what is kept -/
def cKp (kp : Option (Nat × Int32 × Nat × List (Nat × Nat))) (d : Nat → Value) (G : xH) : Prop := ∃ (u : Nat → Value) (K M : List Int32), G[7]? = some (cO 3 (kFs u)) ∧ G[8]? = some (cI 0 K) ∧ G[9]? = some (cI 0 M) ∧ K.length = 6 ∧ M.length = 6 ∧ match kp with
  | none => d 7 = .int 0
  | some q => d 7 = .int 1 ∧ u 0 = .int (nI q.1) ∧ u 1 = .int (nI q.2.2.2.length) ∧ u 2 = .int q.2.1 ∧ u 3 = .long (lN q.2.2.1) ∧ 1 ≤ q.1 ∧ q.1 ≤ 6 ∧ q.2.2.1 < 2 ^ 57 ∧ mML K M q.2.2.2
/-- a byte -/
def sb (v : Nat) : Int32 := (nI v).toInt8.toInt32
theorem sb_sb (v : Nat) : (sb v).toInt8.toInt32 = sb v := by unfold sb; simp
def tpB (L : List Int32) (tp : List Nat) : Prop := L.length = 200 ∧ tp.length ≤ 200 ∧ ∀ (i v : Nat), tp[i]? = some v → L[i]? = some (sb v) ∧ v < 256
theorem tpB_push {L : List Int32} {tp : List Nat} {v : Nat} (h : tpB L tp) (hl : tp.length < 200) (hv : v < 256) : tpB (L.set tp.length (sb v)) (tp ++ [v]) := by
  obtain ⟨h1, h2, h3⟩ := h
  refine ⟨by rw [List.length_set, h1], by rw [List.length_append, List.length_singleton]; omega, fun i x hx => ?_⟩
  by_cases e : i = tp.length
  · subst e
    rw [List.getElem?_append_right (Nat.le_refl _), Nat.sub_self] at hx
    cases hx
    exact ⟨List.getElem?_set_self (by omega), hv⟩
  · have hi : i < tp.length := by
      have := (List.getElem?_eq_some_iff.mp hx).1
      rw [List.length_append, List.length_singleton] at this
      omega
    rw [List.getElem?_append_left hi] at hx
    rw [List.getElem?_set_ne (fun q => e q.symm)]
    exact h3 i x hx
theorem c_sm : ∀ k, k < 8 → (((8 : Int32) * nI k).toInt64 &&& 63).toBitVec.smod 64 = BitVec.ofNat 64 (8 * k) := by decide +kernel
theorem c_bytS {e k : Nat} (hk : k < 8) : (lN e >>> (((8 : Int32) * nI k).toInt64 &&& 63)).toInt32.toInt8.toInt32 = sb (byt e k) := by
  unfold sb
  congr 1
  apply Int8.toBitVec_inj.1
  rw [Int32.toBitVec_toInt8, Int64.toBitVec_toInt32, Int64.toBitVec_shiftRight, c_sm k hk, Int32.toBitVec_toInt8, wb_tb]
  apply BitVec.eq_of_getLsbD_eq
  intro i hi
  have e1 : (nI (byt e k)).toBitVec = BitVec.ofNat 32 (byt e k) := rfl
  rw [e1, BitVec.getLsbD_signExtend, BitVec.getLsbD_signExtend, BitVec.getLsbD_signExtend, BitVec.sshiftRight_eq', BitVec.getLsbD_sshiftRight, BitVec.toNat_ofNat, Nat.mod_eq_of_lt (show 8 * k < 2 ^ 64 by omega)]
  unfold byt
  rw [BitVec.getLsbD_ofNat, BitVec.getLsbD_ofNat, show (256 : Nat) = 2 ^ 8 from rfl, Nat.testBit_mod_two_pow, Nat.testBit_div_two_pow]
  have h1 : i < 32 := by omega
  have h2 : i < 64 := by omega
  have h3 : 8 * k + i < 64 := by omega
  have h4 : i + 8 * k < 64 := by omega
  have h5 : ¬ 64 ≤ i := by omega
  simp [hi, h1, h2, h3, h4, h5, Nat.add_comm]
section A32
variable {E : xE} {G : xH} {d e : Nat → Value} {n : Nat}
theorem A_become {t o k1 m1 k2 m2 : Nat} {f0 f1 f2 f3 : Value} {a0 a1 a2 : Int32} {a3 : Int64} {K1 M1 K2 M2 : List Int32}  (ht : G[t]? = some (cO 3 [f0, f1, f2, f3, .ref k1, .ref m1])) (ho : G[o]? = some (cO 3 [.int a0, .int a1, .int a2, .long a3, .ref k2, .ref m2])) (hk1 : G[k1]? = some (cI 0 K1)) (hm1 : G[m1]? = some (cI 0 M1)) (hk2 : G[k2]? = some (cI 0 K2)) (hm2 : G[m2]? = some (cI 0 M2)) (hl1 : K1.length = 6) (hl2 : K2.length = 6) (hl3 : M1.length = 6) (hl4 : M2.length = 6) (hto : t ≠ o) (htk1 : t ≠ k1) (htk2 : t ≠ k2) (htm1 : t ≠ m1) (htm2 : t ≠ m2) (hk1o : k1 ≠ o) (hkm1 : k1 ≠ m1) (hkm2 : k1 ≠ m2) : xMet E yX3_become cX3_become 2 none 0 0 0 [.ref t, .ref o] G (xrv none (((G.set t (cO 3 [.int a0, .int a1, .int a2, .long a3, .ref k1, .ref m1])).set k1 (cI 0 K2)).set m1 (cI 0 M2))) := by
  refine xMet.of (lv := [some (.ref t), some (.ref o)]) rfl rfl (Nat.le_of_ble_eq_true rfl) ?_
  refine xj_aload_n dX3_become_0 rfl rfl ?_
  refine xj_aload_n dX3_become_1 rfl rfl ?_
  refine xj_get dX3_become_2 K3 0 (by decide) q319 ho rfl ?_
  refine xj_put dX3_become_5 K3 0 (by decide) q319 rfl rfl ht (Nat.le_of_ble_eq_true rfl) ?_
  have t1 : (G.set t (cO 3 [.int a0, f1, f2, f3, .ref k1, .ref m1]))[t]? = some (cO 3 [.int a0, f1, f2, f3, .ref k1, .ref m1]) := gset_self ht
  have o1 : (G.set t (cO 3 [.int a0, f1, f2, f3, .ref k1, .ref m1]))[o]? = some (cO 3 [.int a0, .int a1, .int a2, .long a3, .ref k2, .ref m2]) := by rw [gset hto]; exact ho
  refine xj_aload_n dX3_become_8 rfl rfl ?_
  refine xj_aload_n dX3_become_9 rfl rfl ?_
  refine xj_get dX3_become_10 K3 1 (by decide) q322 o1 rfl ?_
  refine xj_put dX3_become_13 K3 1 (by decide) q322 rfl rfl t1 (Nat.le_of_ble_eq_true rfl) ?_
  rw [gset_set]
  have t2 : (G.set t (cO 3 [.int a0, .int a1, f2, f3, .ref k1, .ref m1]))[t]? = some (cO 3 [.int a0, .int a1, f2, f3, .ref k1, .ref m1]) := gset_self ht
  have o2 : (G.set t (cO 3 [.int a0, .int a1, f2, f3, .ref k1, .ref m1]))[o]? = some (cO 3 [.int a0, .int a1, .int a2, .long a3, .ref k2, .ref m2]) := by rw [gset hto]; exact ho
  refine xj_aload_n dX3_become_16 rfl rfl ?_
  refine xj_aload_n dX3_become_17 rfl rfl ?_
  refine xj_get dX3_become_18 K3 2 (by decide) q324 o2 rfl ?_
  refine xj_put dX3_become_21 K3 2 (by decide) q324 rfl rfl t2 (Nat.le_of_ble_eq_true rfl) ?_
  rw [gset_set]
  have t3 : (G.set t (cO 3 [.int a0, .int a1, .int a2, f3, .ref k1, .ref m1]))[t]? = some (cO 3 [.int a0, .int a1, .int a2, f3, .ref k1, .ref m1]) := gset_self ht
  have o3 : (G.set t (cO 3 [.int a0, .int a1, .int a2, f3, .ref k1, .ref m1]))[o]? = some (cO 3 [.int a0, .int a1, .int a2, .long a3, .ref k2, .ref m2]) := by rw [gset hto]; exact ho
  refine xj_aload_n dX3_become_24 rfl rfl ?_
  refine xj_aload_n dX3_become_25 rfl rfl ?_
  refine xj_get dX3_become_26 K3 3 (by decide) q326 o3 rfl ?_
  refine xj_put dX3_become_29 K3 3 (by decide) q326 rfl rfl t3 (Nat.le_of_ble_eq_true rfl) ?_
  rw [gset_set]
  have t4 : (G.set t (cO 3 [.int a0, .int a1, .int a2, .long a3, .ref k1, .ref m1]))[t]? = some (cO 3 [.int a0, .int a1, .int a2, .long a3, .ref k1, .ref m1]) := gset_self ht
  have o4 : (G.set t (cO 3 [.int a0, .int a1, .int a2, .long a3, .ref k1, .ref m1]))[o]? = some (cO 3 [.int a0, .int a1, .int a2, .long a3, .ref k2, .ref m2]) := by rw [gset hto]; exact ho
  have c1 : (G.set t (cO 3 [.int a0, .int a1, .int a2, .long a3, .ref k1, .ref m1]))[k1]? = some (cI 0 K1) := by rw [gset htk1]; exact hk1
  have c2 : (G.set t (cO 3 [.int a0, .int a1, .int a2, .long a3, .ref k1, .ref m1]))[k2]? = some (cI 0 K2) := by rw [gset htk2]; exact hk2
  have c3 : (G.set t (cO 3 [.int a0, .int a1, .int a2, .long a3, .ref k1, .ref m1]))[m1]? = some (cI 0 M1) := by rw [gset htm1]; exact hm1
  have c4 : (G.set t (cO 3 [.int a0, .int a1, .int a2, .long a3, .ref k1, .ref m1]))[m2]? = some (cI 0 M2) := by rw [gset htm2]; exact hm2
  refine xj_aload_n dX3_become_32 rfl rfl ?_
  refine xj_get dX3_become_33 K3 4 (by decide) q328 o4 rfl ?_
  refine xj_ic0 dX3_become_36 ?_
  refine xj_aload_n dX3_become_37 rfl rfl ?_
  refine xj_get dX3_become_38 K3 4 (by decide) q328 t4 rfl ?_
  refine xj_ic0 dX3_become_41 ?_
  refine xj_bipush (v := 6) dX3_become_42 rfl ?_
  refine xj_copy (t := 0) (sp := 0) (dp := 0) (N := 6) dX3_become_44 q1901 q734 q733 q165 c2 c1 rfl rfl rfl rfl rfl (by decide) (by decide) (by decide) (by omega) (by omega) (fun _ _ => rfl) (Nat.le_of_ble_eq_true rfl) ⟨Nat.le_of_ble_eq_true rfl, Nat.le_of_ble_eq_true rfl⟩ ?_
  have u1 : ((G.set t (cO 3 [.int a0, .int a1, .int a2, .long a3, .ref k1, .ref m1])).set k1 (cI 0 (cpL K2 K1 0 0 6)))[t]? = some (cO 3 [.int a0, .int a1, .int a2, .long a3, .ref k1, .ref m1]) := by rw [gset (fun q => htk1 q.symm)]; exact t4
  have u2 : ((G.set t (cO 3 [.int a0, .int a1, .int a2, .long a3, .ref k1, .ref m1])).set k1 (cI 0 (cpL K2 K1 0 0 6)))[o]? = some (cO 3 [.int a0, .int a1, .int a2, .long a3, .ref k2, .ref m2]) := by rw [gset hk1o]; exact o4
  have u3 : ((G.set t (cO 3 [.int a0, .int a1, .int a2, .long a3, .ref k1, .ref m1])).set k1 (cI 0 (cpL K2 K1 0 0 6)))[m1]? = some (cI 0 M1) := by rw [gset hkm1]; exact c3
  have u4 : ((G.set t (cO 3 [.int a0, .int a1, .int a2, .long a3, .ref k1, .ref m1])).set k1 (cI 0 (cpL K2 K1 0 0 6)))[m2]? = some (cI 0 M2) := by rw [gset hkm2]; exact c4
  refine xj_aload_n dX3_become_47 rfl rfl ?_
  refine xj_get dX3_become_48 K3 5 (by decide) q330 u2 rfl ?_
  refine xj_ic0 dX3_become_51 ?_
  refine xj_aload_n dX3_become_52 rfl rfl ?_
  refine xj_get dX3_become_53 K3 5 (by decide) q330 u1 rfl ?_
  refine xj_ic0 dX3_become_56 ?_
  refine xj_bipush (v := 6) dX3_become_57 rfl ?_
  refine xj_copy (t := 0) (sp := 0) (dp := 0) (N := 6) dX3_become_59 q1901 q734 q733 q165 u4 u3 rfl rfl rfl rfl rfl (by decide) (by decide) (by decide) (by omega) (by omega) (fun _ _ => rfl) (Nat.le_of_ble_eq_true rfl) ⟨Nat.le_of_ble_eq_true rfl, Nat.le_of_ble_eq_true rfl⟩ ?_
  exact xj_return dX3_become_62 rfl ⟨rfl, by rw [cp6 hl2 hl1, cp6 hl4 hl3]; rfl⟩
theorem A_keep {z : Int32} {g : Nat} {mk : List (Nat × Nat)} {kp : Option (Nat × Int32 × Nat × List (Nat × Nat))}  (hv : cV d e n G) (hn3 : e 3 = .long (lN g)) (hg : g < 2 ^ 57) (hn2 : e 2 = .int z) (hmk : cMk mk e G) (hkp : cKp kp d G) : xMet E yX0_keep cX0_keep 1 (some FieldType.int) 1 0 0 [.ref 0] G (xre (fun v_ G' => v_ = some (.int 1) ∧ G'[0]? = some (cO 0 (cFs (cu d 7 (.int 1)))) ∧ cKp (some (n, z, g, mk)) (cu d 7 (.int 1)) G' ∧ gfa [0, 7, 8, 9] G G')) := by
  obtain ⟨hO, hN, hn0, h1n, hn6⟩ := id hv
  obtain ⟨hn1, ⟨K5, M6, h5, h6m, hml⟩, PL, h10, hPL, hPk⟩ := id hmk
  have hl6 := hml.2.2.1
  obtain ⟨u, K8, M9, hk7, hk8, hk9, hlK, hlM, -⟩ := id hkp
  have hN4 : G[4]? = some (cO 3 [.int (nI n), .int (nI mk.length), .int z, .long (lN g), .ref 5, .ref 6]) := by rw [hN]; unfold oFs; rw [hn0, hn1, hn2, hn3]
  refine xMet.of (lv := [some (.ref 0)]) rfl rfl (Nat.le_of_ble_eq_true rfl) ?_
  refine xj_aload_n dX0_keep_0 rfl rfl ?_
  refine xj_get dX0_keep_1 K0 5 (by decide) q474 hO rfl ?_
  refine xj_aload_n dX0_keep_4 rfl rfl ?_
  refine xj_get dX0_keep_5 K0 4 (by decide) q473 hO rfl ?_
  refine xj_cV dX0_keep_8 q1897 kV_X3_become (A_become hk7 hN4 hk8 hk9 h5 h6m hlK hml.1 hlM hml.2.1 (by decide) (by decide) (by decide) (by decide) (by decide) (by decide) (by decide) (by decide)) hk7 rfl rfl rfl rfl (Nat.le_of_ble_eq_true rfl) ⟨(Nat.le_of_ble_eq_true rfl), (Nat.le_of_ble_eq_true rfl)⟩ (Nat.le_of_ble_eq_true rfl) (Nat.le_of_ble_eq_true rfl) ?_
  refine xj_aload_n dX0_keep_11 rfl rfl ?_
  refine xj_ic1 dX0_keep_12 ?_
  have j0 : (((G.set 7 (cO 3 [.int (nI n), .int (nI mk.length), .int z, .long (lN g), .ref 8, .ref 9])).set 8 (cI 0 K5)).set 9 (cI 0 M6))[0]? = some (cO 0 (cFs d)) := by rw [gset (by decide), gset (by decide), gset (by decide)]; exact hO
  refine xj_put dX0_keep_13 K0 7 (by decide) q476 rfl rfl j0 (Nat.le_of_ble_eq_true rfl) ?_
  refine xj_ic1 dX0_keep_16 ?_
  exact xj_ireturn dX0_keep_17 rfl rfl ⟨rfl, gset_self j0, ⟨fun i => match i with | 0 => .int (nI n) | 1 => .int (nI mk.length) | 2 => .int z | _ => .long (lN g), K5, M6, by rw [gset (by decide), gset (by decide), gset (by decide)]; exact gset_self hk7, by rw [gset (by decide), gset (by decide)]; exact gset_self (by rw [gset (by decide)]; exact hk8), by rw [gset (by decide)]; exact gset_self (by rw [gset (by decide), gset (by decide)]; exact hk9), hml.1, hml.2.1, rfl, rfl, rfl, rfl, rfl, h1n, hn6, hg, hml⟩, (((gfa.refl.set (by decide)).set (by decide)).set (by decide)).set (by decide)⟩
theorem A_feed {x : Int32} {E_ : Nat} {tp : List Nat} {LT : List Int32}  (hv : cV d e n G) (hd17 : d 17 = .int (nI tp.length)) (h19 : G[19]? = some (cI 1 LT)) (hLT : tpB LT tp) : xMet E yX0_feed cX0_feed 5 (some FieldType.int) 1 0 0 [.ref 0, .long (lN E_), .int x] G (xre (fun v_ G' => v_ = some (.int (o_feed tp x)) ∧ ∃ L' : List Int32, tpB L' (s_feed tp E_ x) ∧ G' = (G.set 19 (cI 1 L')).set 0 (cO 0 (cFs (cu d 17 (.int (nI (s_feed tp E_ x).length))))))) := by
  obtain ⟨hO, hN, hn0, h1n, hn6⟩ := id hv
  refine xMet.of (lv := [some (.ref 0), some (.long (lN E_)), none, some (.int x), none]) rfl rfl (Nat.le_of_ble_eq_true rfl) ?_
  refine xj_iload_n dX0_feed_0 rfl ?_
  refine xj_ic1 dX0_feed_1 ?_
  refine xj_bipush (v := 8) dX0_feed_2 rfl ?_
  refine xj_cS dX0_feed_4 q585 kS_X0_isIn A_isIn rfl rfl (Nat.le_of_ble_eq_true rfl) ⟨(Nat.le_of_ble_eq_true rfl), (Nat.le_of_ble_eq_true rfl)⟩ (Nat.le_of_ble_eq_true rfl) (Nat.le_of_ble_eq_true rfl) ?_
  rw [show inC x 1 8 = in1 x 8 from inC_1 (n := 8) (by decide)]
  refine xj_if_ne (tgt := 12) dX0_feed_7 rfl (fun c7 => ?_) (fun c7 => ?_)
  · have hb1 := b1_nz c7
    obtain ⟨j, hj, rfl, hj31⟩ := in1_t hb1
    have e1 : tn (nI (j + 1)) = j + 1 := nI_clamp hj31
    have hl200 := hLT.2.1
    refine xj_aload_n dX0_feed_12 rfl rfl ?_
    refine xj_get dX0_feed_13 K0 17 (by decide) q486 hO (congrArg some hd17) ?_
    refine xj_iload_n dX0_feed_16 rfl ?_
    refine xj_iadd dX0_feed_17 ?_
    rw [nI_add]
    refine xj_sipush (v := 200) dX0_feed_18 rfl ?_
    refine xj_icmp_le (tgt := 27) dX0_feed_21 rfl (fun c21 => ?_) (fun c21 => ?_)
    · have h2 : tp.length + (j + 1) ≤ 200 := (nI_leI (b := 200) (by omega) (by decide)).mp c21
      refine xj_ic0 dX0_feed_27 ?_
      refine xj_ist4 dX0_feed_28 rfl ?_
      refine xj_eq rfl rfl (show G = G.set 19 (cI 1 LT) from (gset_id h19).symm) ?_
      have lp : ∀ (K : Nat) (k : Nat) (i : Nat) (l : List Nat) (L : List Int32), k < K → (i + k = j + 1) → (l.length = tp.length + i) → (tpB L l) → (fdL E_ k i l = fdL E_ (j + 1) 0 tp) → xJ E (yX0_feed, cX0_feed, 5, (some FieldType.int), []) (xR 1 0 0) (xre (fun v_ G' => v_ = some (.int (o_feed tp (nI (j + 1)))) ∧ ∃ L' : List Int32, tpB L' (s_feed tp E_ (nI (j + 1))) ∧ G' = (G.set 19 (cI 1 L')).set 0 (cO 0 (cFs (cu d 17 (.int (nI (s_feed tp E_ (nI (j + 1))).length))))))) 0 0 30 [some (.ref 0), some (.long (lN E_)), none, some (.int (nI (j + 1))), some (.int (nI i))] [] (G.set 19 (cI 1 L)) := by
        intro K
        induction K with
        | zero => intro k i l L h; exact absurd h (Nat.not_lt_zero _)
        | succ K ih_lp =>
          intro k i l L hK hk hll hL hs
          have hL200 := hL.1
          have j0 : (G.set 19 (cI 1 L))[0]? = some (cO 0 (cFs d)) := by rw [gset (by decide)]; exact hO
          refine xj_iload dX0_feed_30 rfl ?_
          refine xj_iload_n dX0_feed_32 rfl ?_
          refine xj_icmp_ge (tgt := 63) dX0_feed_33 rfl (fun c33 => ?_) (fun c33 => ?_)
          · have hk0 : k = 0 := by have := Nat.le_of_not_lt fun h => absurd c33 (nI_ge h (by omega)); omega
            subst hk0
            have hs : l = fdL E_ (j + 1) 0 tp := hs
            refine xj_aload_n dX0_feed_63 rfl rfl ?_
            refine xj_dup dX0_feed_64 rfl ?_
            refine xj_get dX0_feed_65 K0 17 (by decide) q486 j0 (congrArg some hd17) ?_
            refine xj_iload_n dX0_feed_68 rfl ?_
            refine xj_iadd dX0_feed_69 ?_
            rw [nI_add]
            refine xj_put dX0_feed_70 K0 17 (by decide) q486 rfl rfl j0 (Nat.le_of_ble_eq_true rfl) ?_
            refine xj_aload_n dX0_feed_73 rfl rfl ?_
            refine xj_get dX0_feed_74 K0 17 (by decide) q486 (gset_self j0) rfl ?_
            exact xj_ireturn dX0_feed_77 rfl rfl (by have e9 : s_feed tp E_ (nI (j + 1)) = l := (by unfold s_feed; rw [if_pos hb1, e1, if_neg (by omega), ← hs]); rw [e9]; exact ⟨by unfold o_feed; rw [if_pos hb1, e1, if_neg (by omega)], L, hL, by rw [show l.length = tp.length + (j + 1) by omega]; rfl⟩)
          · obtain ⟨k, rfl⟩ : ∃ k0, k = k0 + 1 := ⟨k - 1, by have : k ≠ 0 := fun h => c33 (nI_le (by omega) (by omega)); omega⟩
            refine xj_aload_n dX0_feed_36 rfl rfl ?_
            refine xj_get dX0_feed_37 K0 16 (by decide) q485 j0 rfl ?_
            refine xj_aload_n dX0_feed_40 rfl rfl ?_
            refine xj_get dX0_feed_41 K0 17 (by decide) q486 j0 (congrArg some hd17) ?_
            refine xj_iload dX0_feed_44 rfl ?_
            refine xj_iadd dX0_feed_46 ?_
            rw [nI_add]
            refine xj_lload_n dX0_feed_47 rfl ?_
            refine xj_bipush (v := 8) dX0_feed_48 rfl ?_
            refine xj_iload dX0_feed_50 rfl ?_
            refine xj_imul dX0_feed_52 ?_
            refine xj_lshr dX0_feed_53 ?_
            refine xj_l2i dX0_feed_54 ?_
            refine xj_i2b dX0_feed_55 ?_
            refine xj_top (c_bytS (e := E_) (k := i) (by omega)) ?_
            refine xj_bast dX0_feed_56 (gset_self h19) (show nI (tp.length + i) = nI l.length by rw [hll]) (by omega) (by omega) (sb_sb _) ?_
            rw [gset_set]
            refine xj_iinc4 (cst := 1) dX0_feed_57 rfl rfl ?_
            rw [nI_1]
            refine xj_goto (tgt := 30) dX0_feed_60 rfl ?_
            exact ih_lp k (i + 1) _ _ (by omega) (by omega) (by rw [List.length_append, List.length_singleton]; omega) (tpB_push hL (by omega) (Nat.mod_lt _ (by decide))) hs
      exact lp (j + 2) (j + 1) 0 tp LT (by omega) (by omega) (by omega) hLT rfl
    · refine xj_bipush (v := -2) dX0_feed_24 rfl ?_
      exact xj_ireturn dX0_feed_26 rfl rfl (by have h2 : 200 < tp.length + (j + 1) := Nat.lt_of_not_le fun h => c21 (nI_le (b := 200) h (by decide)); exact ⟨by unfold o_feed; rw [if_pos hb1, e1, if_pos h2], LT, by rw [show s_feed tp E_ (nI (j + 1)) = tp by unfold s_feed; rw [if_pos hb1, e1, if_pos h2]]; exact hLT, by rw [show s_feed tp E_ (nI (j + 1)) = tp by unfold s_feed; rw [if_pos hb1, e1, if_pos h2]]; rw [cu_id hd17, gset_id h19]; exact (gset_id hO).symm⟩)
  · refine xj_icm1 dX0_feed_10 ?_
    exact xj_ireturn dX0_feed_11 rfl rfl ⟨by unfold o_feed; rw [b1_z c7]; rfl, LT, by rw [show s_feed tp E_ x = tp by unfold s_feed; rw [b1_z c7]; rfl]; exact hLT, by rw [show s_feed tp E_ x = tp by unfold s_feed; rw [b1_z c7]; rfl]; rw [cu_id hd17, gset_id h19]; exact (gset_id hO).symm⟩
end A32
