/-! ===== plain law: what follows from pairs of rows, six numbers ===== -/
set_option maxRecDepth 100000
def lc6r : List (Nat × List (Nat × Nat)) := [(2, [(1, 8)]), (9, [(8, 15)]), (16, [(15, 22)]), (23, [(22, 29)]), (3, [(1, 9), (2, 15)]), (10, [(8, 16), (9, 22)]), (17, [(15, 23), (16, 29)]), (4, [(1, 10), (2, 16), (3, 22)]), (11, [(8, 17), (9, 23), (10, 29)]), (5, [(1, 11), (2, 17), (3, 23), (4, 29)])]
theorem f6_0 : allC (clQ 6) lc6r 0 = true := by decide +kernel
theorem f6_1 : allC (clQ 6) lc6r 2 = true := by decide +kernel
theorem f6_2 : allC (clQ 6) lc6r 256 = true := by decide +kernel
theorem f6_3 : allC (clQ 6) lc6r 258 = true := by decide +kernel
theorem f6_4 : allC (clQ 6) lc6r 32768 = true := by decide +kernel
theorem f6_5 : allC (clQ 6) lc6r 32770 = true := by decide +kernel
theorem f6_6 : allC (clQ 6) lc6r 33024 = true := by decide +kernel
theorem f6_7 : allC (clQ 6) lc6r 33026 = true := by decide +kernel
theorem f6_8 : allC (clQ 6) lc6r 4194304 = true := by decide +kernel
theorem f6_9 : allC (clQ 6) lc6r 4194306 = true := by decide +kernel
theorem f6_10 : allC (clQ 6) lc6r 4194560 = true := by decide +kernel
theorem f6_11 : allC (clQ 6) lc6r 4194562 = true := by decide +kernel
theorem f6_12 : allC (clQ 6) lc6r 4227072 = true := by decide +kernel
theorem f6_13 : allC (clQ 6) lc6r 4227074 = true := by decide +kernel
theorem f6_14 : allC (clQ 6) lc6r 4227328 = true := by decide +kernel
theorem f6_15 : allC (clQ 6) lc6r 4227330 = true := by decide +kernel
theorem f6_16 : allC (clQ 6) lc6r 536870912 = true := by decide +kernel
theorem f6_17 : allC (clQ 6) lc6r 536870914 = true := by decide +kernel
theorem f6_18 : allC (clQ 6) lc6r 536871168 = true := by decide +kernel
theorem f6_19 : allC (clQ 6) lc6r 536871170 = true := by decide +kernel
theorem f6_20 : allC (clQ 6) lc6r 536903680 = true := by decide +kernel
theorem f6_21 : allC (clQ 6) lc6r 536903682 = true := by decide +kernel
theorem f6_22 : allC (clQ 6) lc6r 536903936 = true := by decide +kernel
theorem f6_23 : allC (clQ 6) lc6r 536903938 = true := by decide +kernel
theorem f6_24 : allC (clQ 6) lc6r 541065216 = true := by decide +kernel
theorem f6_25 : allC (clQ 6) lc6r 541065218 = true := by decide +kernel
theorem f6_26 : allC (clQ 6) lc6r 541065472 = true := by decide +kernel
theorem f6_27 : allC (clQ 6) lc6r 541065474 = true := by decide +kernel
theorem f6_28 : allC (clQ 6) lc6r 541097984 = true := by decide +kernel
theorem f6_29 : allC (clQ 6) lc6r 541097986 = true := by decide +kernel
theorem f6_30 : allC (clQ 6) lc6r 541098240 = true := by decide +kernel
theorem f6_31 : allC (clQ 6) lc6r 541098242 = true := by decide +kernel
theorem f_cl6 : allC (clQ 6) lc6 0 = true := (allC_c (b := 1) (allC_c (b := 8) (allC_c (b := 15) (allC_c (b := 22) (allC_c (b := 29) f6_0 f6_16 (show (0 ||| 2 ^ 29 : Nat) = 536870912 by decide)) (allC_c (b := 29) f6_8 f6_24 (show (4194304 ||| 2 ^ 29 : Nat) = 541065216 by decide)) (show (0 ||| 2 ^ 22 : Nat) = 4194304 by decide)) (allC_c (b := 22) (allC_c (b := 29) f6_4 f6_20 (show (32768 ||| 2 ^ 29 : Nat) = 536903680 by decide)) (allC_c (b := 29) f6_12 f6_28 (show (4227072 ||| 2 ^ 29 : Nat) = 541097984 by decide)) (show (32768 ||| 2 ^ 22 : Nat) = 4227072 by decide)) (show (0 ||| 2 ^ 15 : Nat) = 32768 by decide)) (allC_c (b := 15) (allC_c (b := 22) (allC_c (b := 29) f6_2 f6_18 (show (256 ||| 2 ^ 29 : Nat) = 536871168 by decide)) (allC_c (b := 29) f6_10 f6_26 (show (4194560 ||| 2 ^ 29 : Nat) = 541065472 by decide)) (show (256 ||| 2 ^ 22 : Nat) = 4194560 by decide)) (allC_c (b := 22) (allC_c (b := 29) f6_6 f6_22 (show (33024 ||| 2 ^ 29 : Nat) = 536903936 by decide)) (allC_c (b := 29) f6_14 f6_30 (show (4227328 ||| 2 ^ 29 : Nat) = 541098240 by decide)) (show (33024 ||| 2 ^ 22 : Nat) = 4227328 by decide)) (show (256 ||| 2 ^ 15 : Nat) = 33024 by decide)) (show (0 ||| 2 ^ 8 : Nat) = 256 by decide)) (allC_c (b := 8) (allC_c (b := 15) (allC_c (b := 22) (allC_c (b := 29) f6_1 f6_17 (show (2 ||| 2 ^ 29 : Nat) = 536870914 by decide)) (allC_c (b := 29) f6_9 f6_25 (show (4194306 ||| 2 ^ 29 : Nat) = 541065218 by decide)) (show (2 ||| 2 ^ 22 : Nat) = 4194306 by decide)) (allC_c (b := 22) (allC_c (b := 29) f6_5 f6_21 (show (32770 ||| 2 ^ 29 : Nat) = 536903682 by decide)) (allC_c (b := 29) f6_13 f6_29 (show (4227074 ||| 2 ^ 29 : Nat) = 541097986 by decide)) (show (32770 ||| 2 ^ 22 : Nat) = 4227074 by decide)) (show (2 ||| 2 ^ 15 : Nat) = 32770 by decide)) (allC_c (b := 15) (allC_c (b := 22) (allC_c (b := 29) f6_3 f6_19 (show (258 ||| 2 ^ 29 : Nat) = 536871170 by decide)) (allC_c (b := 29) f6_11 f6_27 (show (4194562 ||| 2 ^ 29 : Nat) = 541065474 by decide)) (show (258 ||| 2 ^ 22 : Nat) = 4194562 by decide)) (allC_c (b := 22) (allC_c (b := 29) f6_7 f6_23 (show (33026 ||| 2 ^ 29 : Nat) = 536903938 by decide)) (allC_c (b := 29) f6_15 f6_31 (show (4227330 ||| 2 ^ 29 : Nat) = 541098242 by decide)) (show (33026 ||| 2 ^ 22 : Nat) = 4227330 by decide)) (show (258 ||| 2 ^ 15 : Nat) = 33026 by decide)) (show (2 ||| 2 ^ 8 : Nat) = 258 by decide)) (show (0 ||| 2 ^ 1 : Nat) = 2 by decide))
