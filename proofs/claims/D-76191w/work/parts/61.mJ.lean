/-! ===== the JDK: strings, bits, min and max ===== -/
set_option maxRecDepth 100000
theorem kS_J5_checkIndex : xsS yJ5_checkIndex cJ5_checkIndex 2 none 2 := ⟨q1071, q164, q1072, by decide, by decide, by decide +kernel⟩
theorem kV_J5_coder : xsV yJ5_coder cJ5_coder 1 (some FieldType.byte) 0 := ⟨q1054, q1055, q164, q1056, by decide, by decide, by decide +kernel⟩
theorem kV_J5_isLatin1 : xsV yJ5_isLatin1 cJ5_isLatin1 1 (some FieldType.boolean) 0 := ⟨q1064, q1065, q164, q1066, by decide, by decide, by decide +kernel⟩
theorem kS_J8_charAt : xsS yJ8_charAt cJ8_charAt 2 (some FieldType.char) 2 := ⟨q1068, q174, q1069, by decide, by decide, by decide +kernel⟩
theorem kS_J9_checkIndex : xsS yJ9_checkIndex cJ9_checkIndex 3 (some FieldType.int) 3 := ⟨q1076, q175, q1077, by decide, by decide, by decide +kernel⟩
theorem uw {u : UInt32} (h : u.toNat < 13) : (100 + u).toNat = 100 + u.toNat := by
  rw [UInt32.toNat_add]
  show (100 + u.toNat) % 4294967296 = _
  omega
theorem sl_sh : ∀ k, k < 13 → nI (xslen.getD k 0) >>> ((0 : Int32) &&& 31) = nI (xslen.getD k 0) := by decide +kernel
theorem sl_6 : ∀ k, k < 13 → xslen.getD k 0 < 6 := by decide +kernel
theorem sl_c : ∀ u, u < 13 → ∀ k, k < 6 → (((xsbyt.getD u []).getD k 0 &&& 255).toUInt32 % 65536).toInt32 = (xsbyt.getD u []).getD k 0 := by decide +kernel
theorem sl_n : ∀ u, u < 13 → ∀ k, k < 6 → narrow .char (.int ((((xsbyt.getD u []).getD k 0 &&& 255).toUInt32 % 65536).toInt32)) = .int ((((xsbyt.getD u []).getD k 0 &&& 255).toUInt32 % 65536).toInt32) := by decide +kernel
theorem sl_n2 : ∀ u, u < 13 → ∀ k, k < 6 → narrow .char (.int ((xsbyt.getD u []).getD k 0)) = .int ((xsbyt.getD u []).getD k 0) := by decide +kernel
section XJ7
variable {E : xE} {I : xI} {R : Room} {Φ : xOut → xH → Prop} {nc ns pc : Nat} {lv : List (Option Value)} {st : List Value} {G : xH}
theorem xj_i2c {x : Int32} (hd : decode I.2.1 pc = .ok (.i2c, 1)) (k : xJ E I R Φ nc ns (pc + 1) lv (.int (x.toUInt32 % 65536).toInt32 :: st) G) : xJ E I R Φ nc ns pc lv (.int x :: st) G := by
  intro p e s m args below meth c H locs cells slots ls B
  exact lv_i2c B.2.1.1 B.2.1.2.1 hd rfl (k p e s m args below meth c H locs cells slots ls B)
end XJ7
def us (x k : Int32) : Int32 := (x.toUInt32 >>> (k.toUInt32 &&& Int32.toUInt32 31)).toInt32
def bc1 (x : Int32) : Int32 := x - (us x 1 &&& 1431655765)
def bc2 (x : Int32) : Int32 := (x &&& 858993459) + (us x 2 &&& 858993459)
def bc3 (x : Int32) : Int32 := (x + us x 4) &&& 252645135
def bc4 (x : Int32) : Int32 := x + us x 8
def bc5 (x : Int32) : Int32 := x + us x 16
def bcI (x : Int32) : Int32 := bc5 (bc4 (bc3 (bc2 (bc1 x)))) &&& 63
theorem c_bc : ∀ x, x < 128 → bcI (nI x) = nI (pc64 x) := by decide +kernel
section MJ
variable {E : xE} {G : xH}
theorem M_coder {u : UInt32}  (hu : u.toNat < 13) : xMet E yJ5_coder cJ5_coder 1 (some FieldType.byte) 0 0 0 [.float u] G (xrv (some (.int (0))) G) := by
  refine xMet.of (lv := [some (.float u)]) rfl rfl (Nat.le_of_ble_eq_true rfl) ?_
  refine xj_gsC dJ5_coder_0 q1057 ?_
  refine xj_if_eq (tgt := 13) dJ5_coder_3 rfl (fun c3 => absurd c3 (by decide)) (fun c3 => ?_)
  refine xj_aload_n dJ5_coder_6 rfl rfl ?_
  refine xj_strC dJ5_coder_7 q2626 hu ?_
  refine xj_goto (tgt := 14) dJ5_coder_10 rfl ?_
  exact xj_ireturn dJ5_coder_14 rfl rfl ⟨rfl, rfl⟩
theorem M_isLatin1 {u : UInt32}  (hu : u.toNat < 13) : xMet E yJ5_isLatin1 cJ5_isLatin1 1 (some FieldType.boolean) 0 0 0 [.float u] G (xrv (some (.int (1))) G) := by
  refine xMet.of (lv := [some (.float u)]) rfl rfl (Nat.le_of_ble_eq_true rfl) ?_
  refine xj_gsC dJ5_isLatin1_0 q1057 ?_
  refine xj_if_eq (tgt := 17) dJ5_isLatin1_3 rfl (fun c3 => absurd c3 (by decide)) (fun c3 => ?_)
  refine xj_aload_n dJ5_isLatin1_6 rfl rfl ?_
  refine xj_strC dJ5_isLatin1_7 q2626 hu ?_
  refine xj_if_ne (tgt := 17) dJ5_isLatin1_10 rfl (fun c10 => absurd rfl c10) (fun c10 => ?_)
  refine xj_ic1 dJ5_isLatin1_13 ?_
  refine xj_goto (tgt := 18) dJ5_isLatin1_14 rfl ?_
  exact xj_ireturn dJ5_isLatin1_18 rfl rfl ⟨rfl, rfl⟩
theorem M_strLen {u : UInt32}  (hu : u.toNat < 13) : xMet E yJ5_length cJ5_length 1 (some FieldType.int) 1 0 0 [.float u] G (xrv (some (.int (nI (xslen.getD u.toNat 0)))) G) := by
  have hw := uw hu
  refine xMet.of (lv := [some (.float u)]) rfl rfl (Nat.le_of_ble_eq_true rfl) ?_
  refine xj_aload_n dJ5_length_0 rfl rfl ?_
  refine xj_strV dJ5_length_1 q2625 hu hw ?_
  refine xj_strL dJ5_length_4 hu hw ?_
  refine xj_aload_n dJ5_length_5 rfl rfl ?_
  refine xj_callX dJ5_length_6 q1053 kV_J5_coder (M_coder hu) hu rfl rfl rfl (Nat.le_of_ble_eq_true rfl) ⟨(Nat.le_of_ble_eq_true rfl), (Nat.le_of_ble_eq_true rfl)⟩ (Nat.le_of_ble_eq_true rfl) (Nat.le_of_ble_eq_true rfl) ?_
  refine xj_ishr dJ5_length_9 ?_
  exact xj_ireturn dJ5_length_10 rfl rfl (xrv_i (sl_sh u.toNat hu))
theorem M_preIdx {k n : Nat} {v : UInt32} (hk : k < n) (hn : n < 2 ^ 31) : xMet E yJ9_checkIndex cJ9_checkIndex 3 (some FieldType.int) 0 0 0 [.int (nI k), .int (nI n), .float v] G (xrv (some (.int (nI k))) G) := by
  refine xMet.of (lv := [some (.int (nI k)), some (.int (nI n)), some (.float v)]) rfl rfl (Nat.le_of_ble_eq_true rfl) ?_
  refine xj_iload_n dJ9_checkIndex_0 rfl ?_
  refine xj_if_lt (tgt := 9) dJ9_checkIndex_1 rfl (fun c1 => absurd c1 (nI_pos (by omega))) (fun c1 => ?_)
  refine xj_iload_n dJ9_checkIndex_4 rfl ?_
  refine xj_iload_n dJ9_checkIndex_5 rfl ?_
  refine xj_icmp_lt (tgt := 16) dJ9_checkIndex_6 rfl (fun c6 => ?_) (fun c6 => absurd (nI_lt hk (by omega)) c6)
  refine xj_iload_n dJ9_checkIndex_16 rfl ?_
  exact xj_ireturn dJ9_checkIndex_17 rfl rfl ⟨rfl, rfl⟩
theorem M_preIdxN {k n : Nat}  (hk : k < n) (hn : n < 2 ^ 31) : xMet E yJ9_checkIndex cJ9_checkIndex 3 (some FieldType.int) 0 0 0 [.int (nI k), .int (nI n), .null] G (xrv (some (.int (nI k))) G) := by
  refine xMet.of (lv := [some (.int (nI k)), some (.int (nI n)), some (.null)]) rfl rfl (Nat.le_of_ble_eq_true rfl) ?_
  refine xj_iload_n dJ9_checkIndex_0 rfl ?_
  refine xj_if_lt (tgt := 9) dJ9_checkIndex_1 rfl (fun c1 => absurd c1 (nI_pos (by omega))) (fun c1 => ?_)
  refine xj_iload_n dJ9_checkIndex_4 rfl ?_
  refine xj_iload_n dJ9_checkIndex_5 rfl ?_
  refine xj_icmp_lt (tgt := 16) dJ9_checkIndex_6 rfl (fun c6 => ?_) (fun c6 => absurd (nI_lt hk (by omega)) c6)
  refine xj_iload_n dJ9_checkIndex_16 rfl ?_
  exact xj_ireturn dJ9_checkIndex_17 rfl rfl ⟨rfl, rfl⟩
theorem M_chkIdx {k n : Nat} (hk : k < n) (hn : n < 2 ^ 31) : xMet E yJ5_checkIndex cJ5_checkIndex 2 none 1 0 0 [.int (nI k), .int (nI n)] G (xrv none G) := by
  refine xMet.of (lv := [some (.int (nI k)), some (.int (nI n))]) rfl rfl (Nat.le_of_ble_eq_true rfl) ?_
  refine xj_iload_n dJ5_checkIndex_0 rfl ?_
  refine xj_iload_n dJ5_checkIndex_1 rfl ?_
  refine xj_gsF dJ5_checkIndex_2 q1073 ?_ ?_
  · refine xj_cS dJ5_checkIndex_5 q1075 kS_J9_checkIndex (M_preIdxN hk hn) rfl rfl (Nat.le_of_ble_eq_true rfl) ⟨(Nat.le_of_ble_eq_true rfl), (Nat.le_of_ble_eq_true rfl)⟩ (Nat.le_of_ble_eq_true rfl) (Nat.le_of_ble_eq_true rfl) ?_
    refine xj_pop dJ5_checkIndex_8 rfl ?_
    exact xj_return dJ5_checkIndex_9 rfl ⟨rfl, rfl⟩
  · refine xj_cS dJ5_checkIndex_5 q1075 kS_J9_checkIndex (M_preIdx hk hn) rfl rfl (Nat.le_of_ble_eq_true rfl) ⟨(Nat.le_of_ble_eq_true rfl), (Nat.le_of_ble_eq_true rfl)⟩ (Nat.le_of_ble_eq_true rfl) (Nat.le_of_ble_eq_true rfl) ?_
    refine xj_pop dJ5_checkIndex_8 rfl ?_
    exact xj_return dJ5_checkIndex_9 rfl ⟨rfl, rfl⟩
theorem M_latAt {u w : UInt32} {k : Nat}  (hu : u.toNat < 13) (hw : w.toNat = 100 + u.toNat) (hk : k < xslen.getD u.toNat 0) : xMet E yJ8_charAt cJ8_charAt 2 (some FieldType.char) 2 0 0 [.float w, .int (nI k)] G (xrv (some (.int ((xsbyt.getD u.toNat []).getD k 0))) G) := by
  have h6 := sl_6 u.toNat hu
  refine xMet.of (lv := [some (.float w), some (.int (nI k))]) rfl rfl (Nat.le_of_ble_eq_true rfl) ?_
  refine xj_iload_n dJ8_charAt_0 rfl ?_
  refine xj_aload_n dJ8_charAt_1 rfl rfl ?_
  refine xj_strL dJ8_charAt_2 hu hw ?_
  refine xj_cS dJ8_charAt_3 q1070 kS_J5_checkIndex (M_chkIdx hk (by omega)) rfl rfl (Nat.le_of_ble_eq_true rfl) ⟨(Nat.le_of_ble_eq_true rfl), (Nat.le_of_ble_eq_true rfl)⟩ (Nat.le_of_ble_eq_true rfl) (Nat.le_of_ble_eq_true rfl) ?_
  refine xj_aload_n dJ8_charAt_6 rfl rfl ?_
  refine xj_iload_n dJ8_charAt_7 rfl ?_
  refine xj_strB dJ8_charAt_8 hu hw rfl (by omega) hk ?_
  refine xj_sipush (v := 255) dJ8_charAt_9 rfl ?_
  refine xj_iand dJ8_charAt_12 ?_
  refine xj_i2c dJ8_charAt_13 ?_
  exact xj_ireturn dJ8_charAt_14 rfl (sl_n u.toNat hu k (by omega)) (xrv_i (sl_c u.toNat hu k (by omega)))
theorem M_charAt {u : UInt32} {k : Nat}  (hu : u.toNat < 13) (hk : k < xslen.getD u.toNat 0) : xMet E yJ5_charAt cJ5_charAt 2 (some FieldType.char) 3 0 0 [.float u, .int (nI k)] G (xrv (some (.int ((xsbyt.getD u.toNat []).getD k 0))) G) := by
  have hw := uw hu
  have h6 := sl_6 u.toNat hu
  refine xMet.of (lv := [some (.float u), some (.int (nI k))]) rfl rfl (Nat.le_of_ble_eq_true rfl) ?_
  refine xj_aload_n dJ5_charAt_0 rfl rfl ?_
  refine xj_callX dJ5_charAt_1 q1063 kV_J5_isLatin1 (M_isLatin1 hu) hu rfl rfl rfl (Nat.le_of_ble_eq_true rfl) ⟨(Nat.le_of_ble_eq_true rfl), (Nat.le_of_ble_eq_true rfl)⟩ (Nat.le_of_ble_eq_true rfl) (Nat.le_of_ble_eq_true rfl) ?_
  refine xj_if_eq (tgt := 16) dJ5_charAt_4 rfl (fun c4 => absurd c4 (by decide)) (fun c4 => ?_)
  refine xj_aload_n dJ5_charAt_7 rfl rfl ?_
  refine xj_strV dJ5_charAt_8 q2625 hu hw ?_
  refine xj_iload_n dJ5_charAt_11 rfl ?_
  refine xj_cS dJ5_charAt_12 q1067 kS_J8_charAt (M_latAt hu hw hk) rfl rfl (Nat.le_of_ble_eq_true rfl) ⟨(Nat.le_of_ble_eq_true rfl), (Nat.le_of_ble_eq_true rfl)⟩ (Nat.le_of_ble_eq_true rfl) (Nat.le_of_ble_eq_true rfl) ?_
  exact xj_ireturn dJ5_charAt_15 rfl (sl_n2 u.toNat hu k (by omega)) (xrv_i rfl)
theorem M_bitCount {x : Nat}  (hx : x < 128) : xMet E yJ7_bitCount cJ7_bitCount 1 (some FieldType.int) 0 0 0 [.int (nI x)] G (xrv (some (.int (nI (pc64 x)))) G) := by
  refine xMet.of (lv := [some (.int (nI x))]) rfl rfl (Nat.le_of_ble_eq_true rfl) ?_
  refine xj_iload_n dJ7_bitCount_0 rfl ?_
  refine xj_iload_n dJ7_bitCount_1 rfl ?_
  refine xj_ic1 dJ7_bitCount_2 ?_
  refine xj_iushr dJ7_bitCount_3 ?_
  refine xj_ldcw dJ7_bitCount_4 q953 ?_
  refine xj_iand dJ7_bitCount_7 ?_
  refine xj_isub dJ7_bitCount_8 ?_
  refine xj_istn0 dJ7_bitCount_9 ?_
  refine xj_iload_n dJ7_bitCount_10 rfl ?_
  refine xj_ldcw dJ7_bitCount_11 q954 ?_
  refine xj_iand dJ7_bitCount_14 ?_
  refine xj_iload_n dJ7_bitCount_15 rfl ?_
  refine xj_ic2 dJ7_bitCount_16 ?_
  refine xj_iushr dJ7_bitCount_17 ?_
  refine xj_ldcw dJ7_bitCount_18 q954 ?_
  refine xj_iand dJ7_bitCount_21 ?_
  refine xj_iadd dJ7_bitCount_22 ?_
  refine xj_istn0 dJ7_bitCount_23 ?_
  refine xj_iload_n dJ7_bitCount_24 rfl ?_
  refine xj_iload_n dJ7_bitCount_25 rfl ?_
  refine xj_ic4 dJ7_bitCount_26 ?_
  refine xj_iushr dJ7_bitCount_27 ?_
  refine xj_iadd dJ7_bitCount_28 ?_
  refine xj_ldcw dJ7_bitCount_29 q955 ?_
  refine xj_iand dJ7_bitCount_32 ?_
  refine xj_istn0 dJ7_bitCount_33 ?_
  refine xj_iload_n dJ7_bitCount_34 rfl ?_
  refine xj_iload_n dJ7_bitCount_35 rfl ?_
  refine xj_bipush (v := 8) dJ7_bitCount_36 rfl ?_
  refine xj_iushr dJ7_bitCount_38 ?_
  refine xj_iadd dJ7_bitCount_39 ?_
  refine xj_istn0 dJ7_bitCount_40 ?_
  refine xj_iload_n dJ7_bitCount_41 rfl ?_
  refine xj_iload_n dJ7_bitCount_42 rfl ?_
  refine xj_bipush (v := 16) dJ7_bitCount_43 rfl ?_
  refine xj_iushr dJ7_bitCount_45 ?_
  refine xj_iadd dJ7_bitCount_46 ?_
  refine xj_istn0 dJ7_bitCount_47 ?_
  refine xj_iload_n dJ7_bitCount_48 rfl ?_
  refine xj_bipush (v := 63) dJ7_bitCount_49 rfl ?_
  refine xj_iand dJ7_bitCount_51 ?_
  exact xj_ireturn dJ7_bitCount_52 rfl rfl (xrv_i (c_bc x hx))
end MJ
