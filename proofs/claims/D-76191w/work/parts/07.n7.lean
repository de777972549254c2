set_option maxRecDepth 100000
abbrev cX7_init : ByteArray := prog_32_method_1_code
def yX7_init : MethodName := ⟨RX7, "<init>", "()V"⟩
def dkwX7_init_14 : List UInt8 := [42, 16, 30, 188, 10, 181, 0, 102, 42, 182, 0, 105, 177]
abbrev dktX7_init_14 : List UInt8 := dkwX7_init_14 ++ []
def dkwX7_init_13 : List UInt8 := [5, 5, 79, 89, 6, 5, 79, 181, 0, 93, 42, 7, 188, 10, 181, 0, 96, 42, 7, 188, 10, 181, 0, 99]
abbrev dktX7_init_13 : List UInt8 := dkwX7_init_13 ++ dktX7_init_14
def dkwX7_init_12 : List UInt8 := [181, 0, 87, 42, 16, 40, 188, 11, 181, 0, 90, 42, 7, 188, 10, 89, 3, 5, 79, 89, 4, 5, 79, 89]
abbrev dktX7_init_12 : List UInt8 := dkwX7_init_12 ++ dktX7_init_13
def dkwX7_init_11 : List UInt8 := [5, 2, 79, 89, 6, 2, 79, 181, 0, 81, 42, 7, 188, 10, 181, 0, 84, 42, 17, 0, 160, 188, 11]
abbrev dktX7_init_11 : List UInt8 := dkwX7_init_11 ++ dktX7_init_12
def dkwX7_init_10 : List UInt8 := [181, 0, 74, 42, 16, 30, 188, 10, 181, 0, 78, 42, 7, 188, 10, 89, 3, 2, 79, 89, 4, 2, 79, 89]
abbrev dktX7_init_10 : List UInt8 := dkwX7_init_10 ++ dktX7_init_11
def dkwX7_init_9 : List UInt8 := [181, 0, 65, 42, 16, 120, 188, 10, 181, 0, 68, 42, 16, 120, 188, 10, 181, 0, 71, 42, 16, 120, 188, 4]
abbrev dktX7_init_9 : List UInt8 := dkwX7_init_9 ++ dktX7_init_10
def dkwX7_init_8 : List UInt8 := [181, 0, 56, 42, 16, 6, 188, 10, 181, 0, 59, 42, 16, 120, 188, 10, 181, 0, 62, 42, 16, 120, 188, 10]
abbrev dktX7_init_8 : List UInt8 := dkwX7_init_8 ++ dktX7_init_9
def dkwX7_init_7 : List UInt8 := [42, 17, 0, 200, 188, 10, 181, 0, 50, 42, 17, 0, 200, 188, 10, 181, 0, 53, 42, 17, 0, 200, 188, 10]
abbrev dktX7_init_7 : List UInt8 := dkwX7_init_7 ++ dktX7_init_8
def dkwX7_init_6 : List UInt8 := [6, 16, 6, 79, 89, 7, 16, 24, 79, 89, 8, 16, 120, 79, 89, 16, 6, 17, 2, 208, 79, 181, 0, 47]
abbrev dktX7_init_6 : List UInt8 := dkwX7_init_6 ++ dktX7_init_7
def dkwX7_init_5 : List UInt8 := [18, 43, 79, 181, 0, 44, 42, 16, 7, 188, 10, 89, 3, 4, 79, 89, 4, 4, 79, 89, 5, 5, 79, 89]
abbrev dktX7_init_5 : List UInt8 := dkwX7_init_5 ++ dktX7_init_6
def dkwX7_init_4 : List UInt8 := [16, 100, 79, 89, 6, 17, 3, 232, 79, 89, 7, 17, 39, 16, 79, 89, 8, 18, 42, 79, 89, 16, 6]
abbrev dktX7_init_4 : List UInt8 := dkwX7_init_4 ++ dktX7_init_5
def dkwX7_init_3 : List UInt8 := [16, 57, 188, 11, 181, 0, 38, 42, 16, 7, 188, 10, 89, 3, 4, 79, 89, 4, 16, 10, 79, 89, 5]
abbrev dktX7_init_3 : List UInt8 := dkwX7_init_3 ++ dktX7_init_4
def dkwX7_init_2 : List UInt8 := [16, 57, 188, 10, 181, 0, 29, 42, 16, 57, 188, 10, 181, 0, 32, 42, 16, 57, 188, 10, 181, 0, 35, 42]
abbrev dktX7_init_2 : List UInt8 := dkwX7_init_2 ++ dktX7_init_3
def dkwX7_init_1 : List UInt8 := [16, 6, 188, 10, 181, 0, 20, 42, 16, 6, 188, 10, 181, 0, 23, 42, 16, 6, 188, 10, 181, 0, 26, 42]
abbrev dktX7_init_1 : List UInt8 := dkwX7_init_1 ++ dktX7_init_2
def dkwX7_init_0 : List UInt8 := [42, 183, 0, 1, 42, 7, 181, 0, 7, 42, 4, 181, 0, 13, 42, 16, 6, 188, 10, 181, 0, 16, 42]
abbrev dktX7_init_0 : List UInt8 := dkwX7_init_0 ++ dktX7_init_1
theorem dksX7_init_0 : cX7_init.data.toList.drop 0 = dktX7_init_0 := by decide +kernel
theorem dksX7_init_1 : cX7_init.data.toList.drop 23 = dktX7_init_1 := dk_seg dksX7_init_0 23 rfl rfl
theorem dksX7_init_2 : cX7_init.data.toList.drop 47 = dktX7_init_2 := dk_seg dksX7_init_1 24 rfl rfl
theorem dksX7_init_3 : cX7_init.data.toList.drop 71 = dktX7_init_3 := dk_seg dksX7_init_2 24 rfl rfl
theorem dksX7_init_4 : cX7_init.data.toList.drop 94 = dktX7_init_4 := dk_seg dksX7_init_3 23 rfl rfl
theorem dksX7_init_5 : cX7_init.data.toList.drop 117 = dktX7_init_5 := dk_seg dksX7_init_4 23 rfl rfl
theorem dksX7_init_6 : cX7_init.data.toList.drop 141 = dktX7_init_6 := dk_seg dksX7_init_5 24 rfl rfl
theorem dksX7_init_7 : cX7_init.data.toList.drop 165 = dktX7_init_7 := dk_seg dksX7_init_6 24 rfl rfl
theorem dksX7_init_8 : cX7_init.data.toList.drop 189 = dktX7_init_8 := dk_seg dksX7_init_7 24 rfl rfl
theorem dksX7_init_9 : cX7_init.data.toList.drop 213 = dktX7_init_9 := dk_seg dksX7_init_8 24 rfl rfl
theorem dksX7_init_10 : cX7_init.data.toList.drop 237 = dktX7_init_10 := dk_seg dksX7_init_9 24 rfl rfl
theorem dksX7_init_11 : cX7_init.data.toList.drop 261 = dktX7_init_11 := dk_seg dksX7_init_10 24 rfl rfl
theorem dksX7_init_12 : cX7_init.data.toList.drop 284 = dktX7_init_12 := dk_seg dksX7_init_11 23 rfl rfl
theorem dksX7_init_13 : cX7_init.data.toList.drop 308 = dktX7_init_13 := dk_seg dksX7_init_12 24 rfl rfl
theorem dksX7_init_14 : cX7_init.data.toList.drop 332 = dktX7_init_14 := dk_seg dksX7_init_13 24 rfl rfl
theorem dX7_init_0 : decode cX7_init 0 = .ok (.aload_n 0, 1) := dk_42 (dk_at dksX7_init_0 0 rfl rfl)
theorem dX7_init_1 : decode cX7_init 1 = .ok (.invokespecial 1, 3) := dk_183 0 1 (dk_at dksX7_init_0 1 rfl rfl)
theorem dX7_init_4 : decode cX7_init 4 = .ok (.aload_n 0, 1) := dk_42 (dk_at dksX7_init_0 4 rfl rfl)
theorem dX7_init_5 : decode cX7_init 5 = .ok (.iconst 4, 1) := dk_7 (dk_at dksX7_init_0 5 rfl rfl)
theorem dX7_init_6 : decode cX7_init 6 = .ok (.putfield 7, 3) := dk_181 0 7 (dk_at dksX7_init_0 6 rfl rfl)
theorem dX7_init_9 : decode cX7_init 9 = .ok (.aload_n 0, 1) := dk_42 (dk_at dksX7_init_0 9 rfl rfl)
theorem dX7_init_10 : decode cX7_init 10 = .ok (.iconst 1, 1) := dk_4 (dk_at dksX7_init_0 10 rfl rfl)
theorem dX7_init_11 : decode cX7_init 11 = .ok (.putfield 13, 3) := dk_181 0 13 (dk_at dksX7_init_0 11 rfl rfl)
theorem dX7_init_14 : decode cX7_init 14 = .ok (.aload_n 0, 1) := dk_42 (dk_at dksX7_init_0 14 rfl rfl)
theorem dX7_init_15 : decode cX7_init 15 = .ok (.bipush 6, 2) := dk_16 6 (dk_at dksX7_init_0 15 rfl rfl)
theorem dX7_init_17 : decode cX7_init 17 = .ok (.newarray .int, 2) := dk_188_10 (dk_at dksX7_init_0 17 rfl rfl)
theorem dX7_init_19 : decode cX7_init 19 = .ok (.putfield 16, 3) := dk_181 0 16 (dk_at dksX7_init_0 19 rfl rfl)
theorem dX7_init_22 : decode cX7_init 22 = .ok (.aload_n 0, 1) := dk_42 (dk_at dksX7_init_0 22 rfl rfl)
theorem dX7_init_23 : decode cX7_init 23 = .ok (.bipush 6, 2) := dk_16 6 (dk_at dksX7_init_1 0 rfl rfl)
theorem dX7_init_25 : decode cX7_init 25 = .ok (.newarray .int, 2) := dk_188_10 (dk_at dksX7_init_1 2 rfl rfl)
theorem dX7_init_27 : decode cX7_init 27 = .ok (.putfield 20, 3) := dk_181 0 20 (dk_at dksX7_init_1 4 rfl rfl)
theorem dX7_init_30 : decode cX7_init 30 = .ok (.aload_n 0, 1) := dk_42 (dk_at dksX7_init_1 7 rfl rfl)
theorem dX7_init_31 : decode cX7_init 31 = .ok (.bipush 6, 2) := dk_16 6 (dk_at dksX7_init_1 8 rfl rfl)
theorem dX7_init_33 : decode cX7_init 33 = .ok (.newarray .int, 2) := dk_188_10 (dk_at dksX7_init_1 10 rfl rfl)
theorem dX7_init_35 : decode cX7_init 35 = .ok (.putfield 23, 3) := dk_181 0 23 (dk_at dksX7_init_1 12 rfl rfl)
theorem dX7_init_38 : decode cX7_init 38 = .ok (.aload_n 0, 1) := dk_42 (dk_at dksX7_init_1 15 rfl rfl)
theorem dX7_init_39 : decode cX7_init 39 = .ok (.bipush 6, 2) := dk_16 6 (dk_at dksX7_init_1 16 rfl rfl)
theorem dX7_init_41 : decode cX7_init 41 = .ok (.newarray .int, 2) := dk_188_10 (dk_at dksX7_init_1 18 rfl rfl)
theorem dX7_init_43 : decode cX7_init 43 = .ok (.putfield 26, 3) := dk_181 0 26 (dk_at dksX7_init_1 20 rfl rfl)
theorem dX7_init_46 : decode cX7_init 46 = .ok (.aload_n 0, 1) := dk_42 (dk_at dksX7_init_1 23 rfl rfl)
theorem dX7_init_47 : decode cX7_init 47 = .ok (.bipush 57, 2) := dk_16 57 (dk_at dksX7_init_2 0 rfl rfl)
theorem dX7_init_49 : decode cX7_init 49 = .ok (.newarray .int, 2) := dk_188_10 (dk_at dksX7_init_2 2 rfl rfl)
theorem dX7_init_51 : decode cX7_init 51 = .ok (.putfield 29, 3) := dk_181 0 29 (dk_at dksX7_init_2 4 rfl rfl)
theorem dX7_init_54 : decode cX7_init 54 = .ok (.aload_n 0, 1) := dk_42 (dk_at dksX7_init_2 7 rfl rfl)
theorem dX7_init_55 : decode cX7_init 55 = .ok (.bipush 57, 2) := dk_16 57 (dk_at dksX7_init_2 8 rfl rfl)
theorem dX7_init_57 : decode cX7_init 57 = .ok (.newarray .int, 2) := dk_188_10 (dk_at dksX7_init_2 10 rfl rfl)
theorem dX7_init_59 : decode cX7_init 59 = .ok (.putfield 32, 3) := dk_181 0 32 (dk_at dksX7_init_2 12 rfl rfl)
theorem dX7_init_62 : decode cX7_init 62 = .ok (.aload_n 0, 1) := dk_42 (dk_at dksX7_init_2 15 rfl rfl)
theorem dX7_init_63 : decode cX7_init 63 = .ok (.bipush 57, 2) := dk_16 57 (dk_at dksX7_init_2 16 rfl rfl)
theorem dX7_init_65 : decode cX7_init 65 = .ok (.newarray .int, 2) := dk_188_10 (dk_at dksX7_init_2 18 rfl rfl)
theorem dX7_init_67 : decode cX7_init 67 = .ok (.putfield 35, 3) := dk_181 0 35 (dk_at dksX7_init_2 20 rfl rfl)
theorem dX7_init_70 : decode cX7_init 70 = .ok (.aload_n 0, 1) := dk_42 (dk_at dksX7_init_2 23 rfl rfl)
theorem dX7_init_71 : decode cX7_init 71 = .ok (.bipush 57, 2) := dk_16 57 (dk_at dksX7_init_3 0 rfl rfl)
theorem dX7_init_73 : decode cX7_init 73 = .ok (.newarray .long, 2) := dk_188_11 (dk_at dksX7_init_3 2 rfl rfl)
theorem dX7_init_75 : decode cX7_init 75 = .ok (.putfield 38, 3) := dk_181 0 38 (dk_at dksX7_init_3 4 rfl rfl)
theorem dX7_init_78 : decode cX7_init 78 = .ok (.aload_n 0, 1) := dk_42 (dk_at dksX7_init_3 7 rfl rfl)
theorem dX7_init_79 : decode cX7_init 79 = .ok (.bipush 7, 2) := dk_16 7 (dk_at dksX7_init_3 8 rfl rfl)
theorem dX7_init_81 : decode cX7_init 81 = .ok (.newarray .int, 2) := dk_188_10 (dk_at dksX7_init_3 10 rfl rfl)
theorem dX7_init_83 : decode cX7_init 83 = .ok (.dup, 1) := dk_89 (dk_at dksX7_init_3 12 rfl rfl)
theorem dX7_init_84 : decode cX7_init 84 = .ok (.iconst 0, 1) := dk_3 (dk_at dksX7_init_3 13 rfl rfl)
theorem dX7_init_85 : decode cX7_init 85 = .ok (.iconst 1, 1) := dk_4 (dk_at dksX7_init_3 14 rfl rfl)
theorem dX7_init_86 : decode cX7_init 86 = .ok (.iastore, 1) := dk_79 (dk_at dksX7_init_3 15 rfl rfl)
theorem dX7_init_87 : decode cX7_init 87 = .ok (.dup, 1) := dk_89 (dk_at dksX7_init_3 16 rfl rfl)
theorem dX7_init_88 : decode cX7_init 88 = .ok (.iconst 1, 1) := dk_4 (dk_at dksX7_init_3 17 rfl rfl)
theorem dX7_init_89 : decode cX7_init 89 = .ok (.bipush 10, 2) := dk_16 10 (dk_at dksX7_init_3 18 rfl rfl)
theorem dX7_init_91 : decode cX7_init 91 = .ok (.iastore, 1) := dk_79 (dk_at dksX7_init_3 20 rfl rfl)
theorem dX7_init_92 : decode cX7_init 92 = .ok (.dup, 1) := dk_89 (dk_at dksX7_init_3 21 rfl rfl)
theorem dX7_init_93 : decode cX7_init 93 = .ok (.iconst 2, 1) := dk_5 (dk_at dksX7_init_3 22 rfl rfl)
theorem dX7_init_94 : decode cX7_init 94 = .ok (.bipush 100, 2) := dk_16 100 (dk_at dksX7_init_4 0 rfl rfl)
theorem dX7_init_96 : decode cX7_init 96 = .ok (.iastore, 1) := dk_79 (dk_at dksX7_init_4 2 rfl rfl)
theorem dX7_init_97 : decode cX7_init 97 = .ok (.dup, 1) := dk_89 (dk_at dksX7_init_4 3 rfl rfl)
theorem dX7_init_98 : decode cX7_init 98 = .ok (.iconst 3, 1) := dk_6 (dk_at dksX7_init_4 4 rfl rfl)
theorem dX7_init_99 : decode cX7_init 99 = .ok (.sipush 1000, 3) := dk_17 3 232 (dk_at dksX7_init_4 5 rfl rfl)
theorem dX7_init_102 : decode cX7_init 102 = .ok (.iastore, 1) := dk_79 (dk_at dksX7_init_4 8 rfl rfl)
theorem dX7_init_103 : decode cX7_init 103 = .ok (.dup, 1) := dk_89 (dk_at dksX7_init_4 9 rfl rfl)
theorem dX7_init_104 : decode cX7_init 104 = .ok (.iconst 4, 1) := dk_7 (dk_at dksX7_init_4 10 rfl rfl)
theorem dX7_init_105 : decode cX7_init 105 = .ok (.sipush 10000, 3) := dk_17 39 16 (dk_at dksX7_init_4 11 rfl rfl)
theorem dX7_init_108 : decode cX7_init 108 = .ok (.iastore, 1) := dk_79 (dk_at dksX7_init_4 14 rfl rfl)
theorem dX7_init_109 : decode cX7_init 109 = .ok (.dup, 1) := dk_89 (dk_at dksX7_init_4 15 rfl rfl)
theorem dX7_init_110 : decode cX7_init 110 = .ok (.iconst 5, 1) := dk_8 (dk_at dksX7_init_4 16 rfl rfl)
theorem dX7_init_111 : decode cX7_init 111 = .ok (.ldc 42, 2) := dk_18 42 (dk_at dksX7_init_4 17 rfl rfl)
theorem dX7_init_113 : decode cX7_init 113 = .ok (.iastore, 1) := dk_79 (dk_at dksX7_init_4 19 rfl rfl)
theorem dX7_init_114 : decode cX7_init 114 = .ok (.dup, 1) := dk_89 (dk_at dksX7_init_4 20 rfl rfl)
theorem dX7_init_115 : decode cX7_init 115 = .ok (.bipush 6, 2) := dk_16 6 (dk_at dksX7_init_4 21 rfl rfl)
theorem dX7_init_117 : decode cX7_init 117 = .ok (.ldc 43, 2) := dk_18 43 (dk_at dksX7_init_5 0 rfl rfl)
theorem dX7_init_119 : decode cX7_init 119 = .ok (.iastore, 1) := dk_79 (dk_at dksX7_init_5 2 rfl rfl)
theorem dX7_init_120 : decode cX7_init 120 = .ok (.putfield 44, 3) := dk_181 0 44 (dk_at dksX7_init_5 3 rfl rfl)
theorem dX7_init_123 : decode cX7_init 123 = .ok (.aload_n 0, 1) := dk_42 (dk_at dksX7_init_5 6 rfl rfl)
theorem dX7_init_124 : decode cX7_init 124 = .ok (.bipush 7, 2) := dk_16 7 (dk_at dksX7_init_5 7 rfl rfl)
theorem dX7_init_126 : decode cX7_init 126 = .ok (.newarray .int, 2) := dk_188_10 (dk_at dksX7_init_5 9 rfl rfl)
theorem dX7_init_128 : decode cX7_init 128 = .ok (.dup, 1) := dk_89 (dk_at dksX7_init_5 11 rfl rfl)
theorem dX7_init_129 : decode cX7_init 129 = .ok (.iconst 0, 1) := dk_3 (dk_at dksX7_init_5 12 rfl rfl)
theorem dX7_init_130 : decode cX7_init 130 = .ok (.iconst 1, 1) := dk_4 (dk_at dksX7_init_5 13 rfl rfl)
theorem dX7_init_131 : decode cX7_init 131 = .ok (.iastore, 1) := dk_79 (dk_at dksX7_init_5 14 rfl rfl)
theorem dX7_init_132 : decode cX7_init 132 = .ok (.dup, 1) := dk_89 (dk_at dksX7_init_5 15 rfl rfl)
theorem dX7_init_133 : decode cX7_init 133 = .ok (.iconst 1, 1) := dk_4 (dk_at dksX7_init_5 16 rfl rfl)
theorem dX7_init_134 : decode cX7_init 134 = .ok (.iconst 1, 1) := dk_4 (dk_at dksX7_init_5 17 rfl rfl)
theorem dX7_init_135 : decode cX7_init 135 = .ok (.iastore, 1) := dk_79 (dk_at dksX7_init_5 18 rfl rfl)
theorem dX7_init_136 : decode cX7_init 136 = .ok (.dup, 1) := dk_89 (dk_at dksX7_init_5 19 rfl rfl)
theorem dX7_init_137 : decode cX7_init 137 = .ok (.iconst 2, 1) := dk_5 (dk_at dksX7_init_5 20 rfl rfl)
theorem dX7_init_138 : decode cX7_init 138 = .ok (.iconst 2, 1) := dk_5 (dk_at dksX7_init_5 21 rfl rfl)
theorem dX7_init_139 : decode cX7_init 139 = .ok (.iastore, 1) := dk_79 (dk_at dksX7_init_5 22 rfl rfl)
theorem dX7_init_140 : decode cX7_init 140 = .ok (.dup, 1) := dk_89 (dk_at dksX7_init_5 23 rfl rfl)
theorem dX7_init_141 : decode cX7_init 141 = .ok (.iconst 3, 1) := dk_6 (dk_at dksX7_init_6 0 rfl rfl)
theorem dX7_init_142 : decode cX7_init 142 = .ok (.bipush 6, 2) := dk_16 6 (dk_at dksX7_init_6 1 rfl rfl)
theorem dX7_init_144 : decode cX7_init 144 = .ok (.iastore, 1) := dk_79 (dk_at dksX7_init_6 3 rfl rfl)
theorem dX7_init_145 : decode cX7_init 145 = .ok (.dup, 1) := dk_89 (dk_at dksX7_init_6 4 rfl rfl)
theorem dX7_init_146 : decode cX7_init 146 = .ok (.iconst 4, 1) := dk_7 (dk_at dksX7_init_6 5 rfl rfl)
theorem dX7_init_147 : decode cX7_init 147 = .ok (.bipush 24, 2) := dk_16 24 (dk_at dksX7_init_6 6 rfl rfl)
theorem dX7_init_149 : decode cX7_init 149 = .ok (.iastore, 1) := dk_79 (dk_at dksX7_init_6 8 rfl rfl)
theorem dX7_init_150 : decode cX7_init 150 = .ok (.dup, 1) := dk_89 (dk_at dksX7_init_6 9 rfl rfl)
theorem dX7_init_151 : decode cX7_init 151 = .ok (.iconst 5, 1) := dk_8 (dk_at dksX7_init_6 10 rfl rfl)
theorem dX7_init_152 : decode cX7_init 152 = .ok (.bipush 120, 2) := dk_16 120 (dk_at dksX7_init_6 11 rfl rfl)
theorem dX7_init_154 : decode cX7_init 154 = .ok (.iastore, 1) := dk_79 (dk_at dksX7_init_6 13 rfl rfl)
theorem dX7_init_155 : decode cX7_init 155 = .ok (.dup, 1) := dk_89 (dk_at dksX7_init_6 14 rfl rfl)
theorem dX7_init_156 : decode cX7_init 156 = .ok (.bipush 6, 2) := dk_16 6 (dk_at dksX7_init_6 15 rfl rfl)
theorem dX7_init_158 : decode cX7_init 158 = .ok (.sipush 720, 3) := dk_17 2 208 (dk_at dksX7_init_6 17 rfl rfl)
theorem dX7_init_161 : decode cX7_init 161 = .ok (.iastore, 1) := dk_79 (dk_at dksX7_init_6 20 rfl rfl)
theorem dX7_init_162 : decode cX7_init 162 = .ok (.putfield 47, 3) := dk_181 0 47 (dk_at dksX7_init_6 21 rfl rfl)
theorem dX7_init_165 : decode cX7_init 165 = .ok (.aload_n 0, 1) := dk_42 (dk_at dksX7_init_7 0 rfl rfl)
theorem dX7_init_166 : decode cX7_init 166 = .ok (.sipush 200, 3) := dk_17 0 200 (dk_at dksX7_init_7 1 rfl rfl)
theorem dX7_init_169 : decode cX7_init 169 = .ok (.newarray .int, 2) := dk_188_10 (dk_at dksX7_init_7 4 rfl rfl)
theorem dX7_init_171 : decode cX7_init 171 = .ok (.putfield 50, 3) := dk_181 0 50 (dk_at dksX7_init_7 6 rfl rfl)
theorem dX7_init_174 : decode cX7_init 174 = .ok (.aload_n 0, 1) := dk_42 (dk_at dksX7_init_7 9 rfl rfl)
theorem dX7_init_175 : decode cX7_init 175 = .ok (.sipush 200, 3) := dk_17 0 200 (dk_at dksX7_init_7 10 rfl rfl)
theorem dX7_init_178 : decode cX7_init 178 = .ok (.newarray .int, 2) := dk_188_10 (dk_at dksX7_init_7 13 rfl rfl)
theorem dX7_init_180 : decode cX7_init 180 = .ok (.putfield 53, 3) := dk_181 0 53 (dk_at dksX7_init_7 15 rfl rfl)
theorem dX7_init_183 : decode cX7_init 183 = .ok (.aload_n 0, 1) := dk_42 (dk_at dksX7_init_7 18 rfl rfl)
theorem dX7_init_184 : decode cX7_init 184 = .ok (.sipush 200, 3) := dk_17 0 200 (dk_at dksX7_init_7 19 rfl rfl)
theorem dX7_init_187 : decode cX7_init 187 = .ok (.newarray .int, 2) := dk_188_10 (dk_at dksX7_init_7 22 rfl rfl)
theorem dX7_init_189 : decode cX7_init 189 = .ok (.putfield 56, 3) := dk_181 0 56 (dk_at dksX7_init_8 0 rfl rfl)
theorem dX7_init_192 : decode cX7_init 192 = .ok (.aload_n 0, 1) := dk_42 (dk_at dksX7_init_8 3 rfl rfl)
theorem dX7_init_193 : decode cX7_init 193 = .ok (.bipush 6, 2) := dk_16 6 (dk_at dksX7_init_8 4 rfl rfl)
theorem dX7_init_195 : decode cX7_init 195 = .ok (.newarray .int, 2) := dk_188_10 (dk_at dksX7_init_8 6 rfl rfl)
theorem dX7_init_197 : decode cX7_init 197 = .ok (.putfield 59, 3) := dk_181 0 59 (dk_at dksX7_init_8 8 rfl rfl)
theorem dX7_init_200 : decode cX7_init 200 = .ok (.aload_n 0, 1) := dk_42 (dk_at dksX7_init_8 11 rfl rfl)
theorem dX7_init_201 : decode cX7_init 201 = .ok (.bipush 120, 2) := dk_16 120 (dk_at dksX7_init_8 12 rfl rfl)
theorem dX7_init_203 : decode cX7_init 203 = .ok (.newarray .int, 2) := dk_188_10 (dk_at dksX7_init_8 14 rfl rfl)
theorem dX7_init_205 : decode cX7_init 205 = .ok (.putfield 62, 3) := dk_181 0 62 (dk_at dksX7_init_8 16 rfl rfl)
theorem dX7_init_208 : decode cX7_init 208 = .ok (.aload_n 0, 1) := dk_42 (dk_at dksX7_init_8 19 rfl rfl)
theorem dX7_init_209 : decode cX7_init 209 = .ok (.bipush 120, 2) := dk_16 120 (dk_at dksX7_init_8 20 rfl rfl)
theorem dX7_init_211 : decode cX7_init 211 = .ok (.newarray .int, 2) := dk_188_10 (dk_at dksX7_init_8 22 rfl rfl)
theorem dX7_init_213 : decode cX7_init 213 = .ok (.putfield 65, 3) := dk_181 0 65 (dk_at dksX7_init_9 0 rfl rfl)
theorem dX7_init_216 : decode cX7_init 216 = .ok (.aload_n 0, 1) := dk_42 (dk_at dksX7_init_9 3 rfl rfl)
theorem dX7_init_217 : decode cX7_init 217 = .ok (.bipush 120, 2) := dk_16 120 (dk_at dksX7_init_9 4 rfl rfl)
theorem dX7_init_219 : decode cX7_init 219 = .ok (.newarray .int, 2) := dk_188_10 (dk_at dksX7_init_9 6 rfl rfl)
theorem dX7_init_221 : decode cX7_init 221 = .ok (.putfield 68, 3) := dk_181 0 68 (dk_at dksX7_init_9 8 rfl rfl)
theorem dX7_init_224 : decode cX7_init 224 = .ok (.aload_n 0, 1) := dk_42 (dk_at dksX7_init_9 11 rfl rfl)
theorem dX7_init_225 : decode cX7_init 225 = .ok (.bipush 120, 2) := dk_16 120 (dk_at dksX7_init_9 12 rfl rfl)
theorem dX7_init_227 : decode cX7_init 227 = .ok (.newarray .int, 2) := dk_188_10 (dk_at dksX7_init_9 14 rfl rfl)
theorem dX7_init_229 : decode cX7_init 229 = .ok (.putfield 71, 3) := dk_181 0 71 (dk_at dksX7_init_9 16 rfl rfl)
theorem dX7_init_232 : decode cX7_init 232 = .ok (.aload_n 0, 1) := dk_42 (dk_at dksX7_init_9 19 rfl rfl)
theorem dX7_init_233 : decode cX7_init 233 = .ok (.bipush 120, 2) := dk_16 120 (dk_at dksX7_init_9 20 rfl rfl)
theorem dX7_init_235 : decode cX7_init 235 = .ok (.newarray .boolean, 2) := dk_188_4 (dk_at dksX7_init_9 22 rfl rfl)
theorem dX7_init_237 : decode cX7_init 237 = .ok (.putfield 74, 3) := dk_181 0 74 (dk_at dksX7_init_10 0 rfl rfl)
theorem dX7_init_240 : decode cX7_init 240 = .ok (.aload_n 0, 1) := dk_42 (dk_at dksX7_init_10 3 rfl rfl)
theorem dX7_init_241 : decode cX7_init 241 = .ok (.bipush 30, 2) := dk_16 30 (dk_at dksX7_init_10 4 rfl rfl)
theorem dX7_init_243 : decode cX7_init 243 = .ok (.newarray .int, 2) := dk_188_10 (dk_at dksX7_init_10 6 rfl rfl)
theorem dX7_init_245 : decode cX7_init 245 = .ok (.putfield 78, 3) := dk_181 0 78 (dk_at dksX7_init_10 8 rfl rfl)
theorem dX7_init_248 : decode cX7_init 248 = .ok (.aload_n 0, 1) := dk_42 (dk_at dksX7_init_10 11 rfl rfl)
theorem dX7_init_249 : decode cX7_init 249 = .ok (.iconst 4, 1) := dk_7 (dk_at dksX7_init_10 12 rfl rfl)
theorem dX7_init_250 : decode cX7_init 250 = .ok (.newarray .int, 2) := dk_188_10 (dk_at dksX7_init_10 13 rfl rfl)
theorem dX7_init_252 : decode cX7_init 252 = .ok (.dup, 1) := dk_89 (dk_at dksX7_init_10 15 rfl rfl)
theorem dX7_init_253 : decode cX7_init 253 = .ok (.iconst 0, 1) := dk_3 (dk_at dksX7_init_10 16 rfl rfl)
theorem dX7_init_254 : decode cX7_init 254 = .ok (.iconst (-1), 1) := dk_2 (dk_at dksX7_init_10 17 rfl rfl)
theorem dX7_init_255 : decode cX7_init 255 = .ok (.iastore, 1) := dk_79 (dk_at dksX7_init_10 18 rfl rfl)
theorem dX7_init_256 : decode cX7_init 256 = .ok (.dup, 1) := dk_89 (dk_at dksX7_init_10 19 rfl rfl)
theorem dX7_init_257 : decode cX7_init 257 = .ok (.iconst 1, 1) := dk_4 (dk_at dksX7_init_10 20 rfl rfl)
theorem dX7_init_258 : decode cX7_init 258 = .ok (.iconst (-1), 1) := dk_2 (dk_at dksX7_init_10 21 rfl rfl)
theorem dX7_init_259 : decode cX7_init 259 = .ok (.iastore, 1) := dk_79 (dk_at dksX7_init_10 22 rfl rfl)
theorem dX7_init_260 : decode cX7_init 260 = .ok (.dup, 1) := dk_89 (dk_at dksX7_init_10 23 rfl rfl)
theorem dX7_init_261 : decode cX7_init 261 = .ok (.iconst 2, 1) := dk_5 (dk_at dksX7_init_11 0 rfl rfl)
theorem dX7_init_262 : decode cX7_init 262 = .ok (.iconst (-1), 1) := dk_2 (dk_at dksX7_init_11 1 rfl rfl)
theorem dX7_init_263 : decode cX7_init 263 = .ok (.iastore, 1) := dk_79 (dk_at dksX7_init_11 2 rfl rfl)
theorem dX7_init_264 : decode cX7_init 264 = .ok (.dup, 1) := dk_89 (dk_at dksX7_init_11 3 rfl rfl)
theorem dX7_init_265 : decode cX7_init 265 = .ok (.iconst 3, 1) := dk_6 (dk_at dksX7_init_11 4 rfl rfl)
theorem dX7_init_266 : decode cX7_init 266 = .ok (.iconst (-1), 1) := dk_2 (dk_at dksX7_init_11 5 rfl rfl)
theorem dX7_init_267 : decode cX7_init 267 = .ok (.iastore, 1) := dk_79 (dk_at dksX7_init_11 6 rfl rfl)
theorem dX7_init_268 : decode cX7_init 268 = .ok (.putfield 81, 3) := dk_181 0 81 (dk_at dksX7_init_11 7 rfl rfl)
theorem dX7_init_271 : decode cX7_init 271 = .ok (.aload_n 0, 1) := dk_42 (dk_at dksX7_init_11 10 rfl rfl)
theorem dX7_init_272 : decode cX7_init 272 = .ok (.iconst 4, 1) := dk_7 (dk_at dksX7_init_11 11 rfl rfl)
theorem dX7_init_273 : decode cX7_init 273 = .ok (.newarray .int, 2) := dk_188_10 (dk_at dksX7_init_11 12 rfl rfl)
theorem dX7_init_275 : decode cX7_init 275 = .ok (.putfield 84, 3) := dk_181 0 84 (dk_at dksX7_init_11 14 rfl rfl)
theorem dX7_init_278 : decode cX7_init 278 = .ok (.aload_n 0, 1) := dk_42 (dk_at dksX7_init_11 17 rfl rfl)
theorem dX7_init_279 : decode cX7_init 279 = .ok (.sipush 160, 3) := dk_17 0 160 (dk_at dksX7_init_11 18 rfl rfl)
theorem dX7_init_282 : decode cX7_init 282 = .ok (.newarray .long, 2) := dk_188_11 (dk_at dksX7_init_11 21 rfl rfl)
theorem dX7_init_284 : decode cX7_init 284 = .ok (.putfield 87, 3) := dk_181 0 87 (dk_at dksX7_init_12 0 rfl rfl)
theorem dX7_init_287 : decode cX7_init 287 = .ok (.aload_n 0, 1) := dk_42 (dk_at dksX7_init_12 3 rfl rfl)
theorem dX7_init_288 : decode cX7_init 288 = .ok (.bipush 40, 2) := dk_16 40 (dk_at dksX7_init_12 4 rfl rfl)
theorem dX7_init_290 : decode cX7_init 290 = .ok (.newarray .long, 2) := dk_188_11 (dk_at dksX7_init_12 6 rfl rfl)
theorem dX7_init_292 : decode cX7_init 292 = .ok (.putfield 90, 3) := dk_181 0 90 (dk_at dksX7_init_12 8 rfl rfl)
theorem dX7_init_295 : decode cX7_init 295 = .ok (.aload_n 0, 1) := dk_42 (dk_at dksX7_init_12 11 rfl rfl)
theorem dX7_init_296 : decode cX7_init 296 = .ok (.iconst 4, 1) := dk_7 (dk_at dksX7_init_12 12 rfl rfl)
theorem dX7_init_297 : decode cX7_init 297 = .ok (.newarray .int, 2) := dk_188_10 (dk_at dksX7_init_12 13 rfl rfl)
theorem dX7_init_299 : decode cX7_init 299 = .ok (.dup, 1) := dk_89 (dk_at dksX7_init_12 15 rfl rfl)
theorem dX7_init_300 : decode cX7_init 300 = .ok (.iconst 0, 1) := dk_3 (dk_at dksX7_init_12 16 rfl rfl)
theorem dX7_init_301 : decode cX7_init 301 = .ok (.iconst 2, 1) := dk_5 (dk_at dksX7_init_12 17 rfl rfl)
theorem dX7_init_302 : decode cX7_init 302 = .ok (.iastore, 1) := dk_79 (dk_at dksX7_init_12 18 rfl rfl)
theorem dX7_init_303 : decode cX7_init 303 = .ok (.dup, 1) := dk_89 (dk_at dksX7_init_12 19 rfl rfl)
theorem dX7_init_304 : decode cX7_init 304 = .ok (.iconst 1, 1) := dk_4 (dk_at dksX7_init_12 20 rfl rfl)
theorem dX7_init_305 : decode cX7_init 305 = .ok (.iconst 2, 1) := dk_5 (dk_at dksX7_init_12 21 rfl rfl)
theorem dX7_init_306 : decode cX7_init 306 = .ok (.iastore, 1) := dk_79 (dk_at dksX7_init_12 22 rfl rfl)
theorem dX7_init_307 : decode cX7_init 307 = .ok (.dup, 1) := dk_89 (dk_at dksX7_init_12 23 rfl rfl)
theorem dX7_init_308 : decode cX7_init 308 = .ok (.iconst 2, 1) := dk_5 (dk_at dksX7_init_13 0 rfl rfl)
theorem dX7_init_309 : decode cX7_init 309 = .ok (.iconst 2, 1) := dk_5 (dk_at dksX7_init_13 1 rfl rfl)
theorem dX7_init_310 : decode cX7_init 310 = .ok (.iastore, 1) := dk_79 (dk_at dksX7_init_13 2 rfl rfl)
theorem dX7_init_311 : decode cX7_init 311 = .ok (.dup, 1) := dk_89 (dk_at dksX7_init_13 3 rfl rfl)
theorem dX7_init_312 : decode cX7_init 312 = .ok (.iconst 3, 1) := dk_6 (dk_at dksX7_init_13 4 rfl rfl)
theorem dX7_init_313 : decode cX7_init 313 = .ok (.iconst 2, 1) := dk_5 (dk_at dksX7_init_13 5 rfl rfl)
theorem dX7_init_314 : decode cX7_init 314 = .ok (.iastore, 1) := dk_79 (dk_at dksX7_init_13 6 rfl rfl)
theorem dX7_init_315 : decode cX7_init 315 = .ok (.putfield 93, 3) := dk_181 0 93 (dk_at dksX7_init_13 7 rfl rfl)
theorem dX7_init_318 : decode cX7_init 318 = .ok (.aload_n 0, 1) := dk_42 (dk_at dksX7_init_13 10 rfl rfl)
theorem dX7_init_319 : decode cX7_init 319 = .ok (.iconst 4, 1) := dk_7 (dk_at dksX7_init_13 11 rfl rfl)
theorem dX7_init_320 : decode cX7_init 320 = .ok (.newarray .int, 2) := dk_188_10 (dk_at dksX7_init_13 12 rfl rfl)
theorem dX7_init_322 : decode cX7_init 322 = .ok (.putfield 96, 3) := dk_181 0 96 (dk_at dksX7_init_13 14 rfl rfl)
theorem dX7_init_325 : decode cX7_init 325 = .ok (.aload_n 0, 1) := dk_42 (dk_at dksX7_init_13 17 rfl rfl)
theorem dX7_init_326 : decode cX7_init 326 = .ok (.iconst 4, 1) := dk_7 (dk_at dksX7_init_13 18 rfl rfl)
theorem dX7_init_327 : decode cX7_init 327 = .ok (.newarray .int, 2) := dk_188_10 (dk_at dksX7_init_13 19 rfl rfl)
theorem dX7_init_329 : decode cX7_init 329 = .ok (.putfield 99, 3) := dk_181 0 99 (dk_at dksX7_init_13 21 rfl rfl)
theorem dX7_init_332 : decode cX7_init 332 = .ok (.aload_n 0, 1) := dk_42 (dk_at dksX7_init_14 0 rfl rfl)
theorem dX7_init_333 : decode cX7_init 333 = .ok (.bipush 30, 2) := dk_16 30 (dk_at dksX7_init_14 1 rfl rfl)
theorem dX7_init_335 : decode cX7_init 335 = .ok (.newarray .int, 2) := dk_188_10 (dk_at dksX7_init_14 3 rfl rfl)
theorem dX7_init_337 : decode cX7_init 337 = .ok (.putfield 102, 3) := dk_181 0 102 (dk_at dksX7_init_14 5 rfl rfl)
theorem dX7_init_340 : decode cX7_init 340 = .ok (.aload_n 0, 1) := dk_42 (dk_at dksX7_init_14 8 rfl rfl)
theorem dX7_init_341 : decode cX7_init 341 = .ok (.invokevirtual 105, 3) := dk_182 0 105 (dk_at dksX7_init_14 9 rfl rfl)
theorem dX7_init_344 : decode cX7_init 344 = .ok (.return_, 1) := dk_177 (dk_at dksX7_init_14 12 rfl rfl)
abbrev cX7_tellsArcs : ByteArray := prog_32_method_27_code
def yX7_tellsArcs : MethodName := ⟨RX7, "tellsArcs", "()V"⟩
def dkwX7_tellsArcs_6 : List UInt8 := [121, 167, 0, 4, 9, 129, 80, 132, 2, 1, 167, 255, 220, 132, 1, 1, 167, 255, 197, 177]
abbrev dktX7_tellsArcs_6 : List UInt8 := dkwX7_tellsArcs_6 ++ []
def dkwX7_tellsArcs_5 : List UInt8 := [180, 0, 178, 162, 0, 34, 42, 180, 0, 38, 27, 92, 47, 42, 27, 28, 182, 0, 181, 153, 0, 9, 10, 28]
abbrev dktX7_tellsArcs_5 : List UInt8 := dkwX7_tellsArcs_5 ++ dktX7_tellsArcs_6
def dkwX7_tellsArcs_4 : List UInt8 := [167, 255, 168, 3, 60, 27, 42, 180, 0, 178, 162, 0, 57, 42, 180, 0, 38, 27, 9, 80, 3, 61, 28, 42]
abbrev dktX7_tellsArcs_4 : List UInt8 := dkwX7_tellsArcs_4 ++ dktX7_tellsArcs_5
def dkwX7_tellsArcs_3 : List UInt8 := [180, 0, 178, 4, 96, 181, 0, 178, 132, 3, 1, 167, 255, 202, 132, 2, 1, 167, 255, 186, 132, 1, 1]
abbrev dktX7_tellsArcs_3 : List UInt8 := dkwX7_tellsArcs_3 ++ dktX7_tellsArcs_4
def dkwX7_tellsArcs_2 : List UInt8 := [27, 79, 42, 180, 0, 32, 42, 180, 0, 178, 28, 79, 42, 180, 0, 35, 42, 180, 0, 178, 29, 79, 42, 89]
abbrev dktX7_tellsArcs_2 : List UInt8 := dkwX7_tellsArcs_2 ++ dktX7_tellsArcs_3
def dkwX7_tellsArcs_1 : List UInt8 := [163, 0, 68, 3, 62, 29, 4, 28, 27, 100, 4, 100, 120, 162, 0, 49, 42, 180, 0, 29, 42, 180, 0, 178]
abbrev dktX7_tellsArcs_1 : List UInt8 := dkwX7_tellsArcs_1 ++ dktX7_tellsArcs_2
def dkwX7_tellsArcs_0 : List UInt8 := [42, 3, 181, 0, 178, 4, 60, 27, 42, 180, 0, 7, 163, 0, 86, 27, 4, 96, 61, 28, 42, 180, 0, 7]
abbrev dktX7_tellsArcs_0 : List UInt8 := dkwX7_tellsArcs_0 ++ dktX7_tellsArcs_1
theorem dksX7_tellsArcs_0 : cX7_tellsArcs.data.toList.drop 0 = dktX7_tellsArcs_0 := by decide +kernel
theorem dksX7_tellsArcs_1 : cX7_tellsArcs.data.toList.drop 24 = dktX7_tellsArcs_1 := dk_seg dksX7_tellsArcs_0 24 rfl rfl
theorem dksX7_tellsArcs_2 : cX7_tellsArcs.data.toList.drop 48 = dktX7_tellsArcs_2 := dk_seg dksX7_tellsArcs_1 24 rfl rfl
theorem dksX7_tellsArcs_3 : cX7_tellsArcs.data.toList.drop 72 = dktX7_tellsArcs_3 := dk_seg dksX7_tellsArcs_2 24 rfl rfl
theorem dksX7_tellsArcs_4 : cX7_tellsArcs.data.toList.drop 95 = dktX7_tellsArcs_4 := dk_seg dksX7_tellsArcs_3 23 rfl rfl
theorem dksX7_tellsArcs_5 : cX7_tellsArcs.data.toList.drop 119 = dktX7_tellsArcs_5 := dk_seg dksX7_tellsArcs_4 24 rfl rfl
theorem dksX7_tellsArcs_6 : cX7_tellsArcs.data.toList.drop 143 = dktX7_tellsArcs_6 := dk_seg dksX7_tellsArcs_5 24 rfl rfl
theorem dX7_tellsArcs_0 : decode cX7_tellsArcs 0 = .ok (.aload_n 0, 1) := dk_42 (dk_at dksX7_tellsArcs_0 0 rfl rfl)
theorem dX7_tellsArcs_1 : decode cX7_tellsArcs 1 = .ok (.iconst 0, 1) := dk_3 (dk_at dksX7_tellsArcs_0 1 rfl rfl)
theorem dX7_tellsArcs_2 : decode cX7_tellsArcs 2 = .ok (.putfield 178, 3) := dk_181 0 178 (dk_at dksX7_tellsArcs_0 2 rfl rfl)
theorem dX7_tellsArcs_5 : decode cX7_tellsArcs 5 = .ok (.iconst 1, 1) := dk_4 (dk_at dksX7_tellsArcs_0 5 rfl rfl)
theorem dX7_tellsArcs_6 : decode cX7_tellsArcs 6 = .ok (.istore_n 1, 1) := dk_60 (dk_at dksX7_tellsArcs_0 6 rfl rfl)
theorem dX7_tellsArcs_7 : decode cX7_tellsArcs 7 = .ok (.iload_n 1, 1) := dk_27 (dk_at dksX7_tellsArcs_0 7 rfl rfl)
theorem dX7_tellsArcs_8 : decode cX7_tellsArcs 8 = .ok (.aload_n 0, 1) := dk_42 (dk_at dksX7_tellsArcs_0 8 rfl rfl)
theorem dX7_tellsArcs_9 : decode cX7_tellsArcs 9 = .ok (.getfield 7, 3) := dk_180 0 7 (dk_at dksX7_tellsArcs_0 9 rfl rfl)
theorem dX7_tellsArcs_12 : decode cX7_tellsArcs 12 = .ok (.if_icmp .gt 86, 3) := dk_163 0 86 (dk_at dksX7_tellsArcs_0 12 rfl rfl)
theorem dX7_tellsArcs_15 : decode cX7_tellsArcs 15 = .ok (.iload_n 1, 1) := dk_27 (dk_at dksX7_tellsArcs_0 15 rfl rfl)
theorem dX7_tellsArcs_16 : decode cX7_tellsArcs 16 = .ok (.iconst 1, 1) := dk_4 (dk_at dksX7_tellsArcs_0 16 rfl rfl)
theorem dX7_tellsArcs_17 : decode cX7_tellsArcs 17 = .ok (.iadd, 1) := dk_96 (dk_at dksX7_tellsArcs_0 17 rfl rfl)
theorem dX7_tellsArcs_18 : decode cX7_tellsArcs 18 = .ok (.istore_n 2, 1) := dk_61 (dk_at dksX7_tellsArcs_0 18 rfl rfl)
theorem dX7_tellsArcs_19 : decode cX7_tellsArcs 19 = .ok (.iload_n 2, 1) := dk_28 (dk_at dksX7_tellsArcs_0 19 rfl rfl)
theorem dX7_tellsArcs_20 : decode cX7_tellsArcs 20 = .ok (.aload_n 0, 1) := dk_42 (dk_at dksX7_tellsArcs_0 20 rfl rfl)
theorem dX7_tellsArcs_21 : decode cX7_tellsArcs 21 = .ok (.getfield 7, 3) := dk_180 0 7 (dk_at dksX7_tellsArcs_0 21 rfl rfl)
theorem dX7_tellsArcs_24 : decode cX7_tellsArcs 24 = .ok (.if_icmp .gt 68, 3) := dk_163 0 68 (dk_at dksX7_tellsArcs_1 0 rfl rfl)
theorem dX7_tellsArcs_27 : decode cX7_tellsArcs 27 = .ok (.iconst 0, 1) := dk_3 (dk_at dksX7_tellsArcs_1 3 rfl rfl)
theorem dX7_tellsArcs_28 : decode cX7_tellsArcs 28 = .ok (.istore_n 3, 1) := dk_62 (dk_at dksX7_tellsArcs_1 4 rfl rfl)
theorem dX7_tellsArcs_29 : decode cX7_tellsArcs 29 = .ok (.iload_n 3, 1) := dk_29 (dk_at dksX7_tellsArcs_1 5 rfl rfl)
theorem dX7_tellsArcs_30 : decode cX7_tellsArcs 30 = .ok (.iconst 1, 1) := dk_4 (dk_at dksX7_tellsArcs_1 6 rfl rfl)
theorem dX7_tellsArcs_31 : decode cX7_tellsArcs 31 = .ok (.iload_n 2, 1) := dk_28 (dk_at dksX7_tellsArcs_1 7 rfl rfl)
theorem dX7_tellsArcs_32 : decode cX7_tellsArcs 32 = .ok (.iload_n 1, 1) := dk_27 (dk_at dksX7_tellsArcs_1 8 rfl rfl)
theorem dX7_tellsArcs_33 : decode cX7_tellsArcs 33 = .ok (.isub, 1) := dk_100 (dk_at dksX7_tellsArcs_1 9 rfl rfl)
theorem dX7_tellsArcs_34 : decode cX7_tellsArcs 34 = .ok (.iconst 1, 1) := dk_4 (dk_at dksX7_tellsArcs_1 10 rfl rfl)
theorem dX7_tellsArcs_35 : decode cX7_tellsArcs 35 = .ok (.isub, 1) := dk_100 (dk_at dksX7_tellsArcs_1 11 rfl rfl)
theorem dX7_tellsArcs_36 : decode cX7_tellsArcs 36 = .ok (.ishl, 1) := dk_120 (dk_at dksX7_tellsArcs_1 12 rfl rfl)
theorem dX7_tellsArcs_37 : decode cX7_tellsArcs 37 = .ok (.if_icmp .ge 49, 3) := dk_162 0 49 (dk_at dksX7_tellsArcs_1 13 rfl rfl)
theorem dX7_tellsArcs_40 : decode cX7_tellsArcs 40 = .ok (.aload_n 0, 1) := dk_42 (dk_at dksX7_tellsArcs_1 16 rfl rfl)
theorem dX7_tellsArcs_41 : decode cX7_tellsArcs 41 = .ok (.getfield 29, 3) := dk_180 0 29 (dk_at dksX7_tellsArcs_1 17 rfl rfl)
theorem dX7_tellsArcs_44 : decode cX7_tellsArcs 44 = .ok (.aload_n 0, 1) := dk_42 (dk_at dksX7_tellsArcs_1 20 rfl rfl)
theorem dX7_tellsArcs_45 : decode cX7_tellsArcs 45 = .ok (.getfield 178, 3) := dk_180 0 178 (dk_at dksX7_tellsArcs_1 21 rfl rfl)
theorem dX7_tellsArcs_48 : decode cX7_tellsArcs 48 = .ok (.iload_n 1, 1) := dk_27 (dk_at dksX7_tellsArcs_2 0 rfl rfl)
theorem dX7_tellsArcs_49 : decode cX7_tellsArcs 49 = .ok (.iastore, 1) := dk_79 (dk_at dksX7_tellsArcs_2 1 rfl rfl)
theorem dX7_tellsArcs_50 : decode cX7_tellsArcs 50 = .ok (.aload_n 0, 1) := dk_42 (dk_at dksX7_tellsArcs_2 2 rfl rfl)
theorem dX7_tellsArcs_51 : decode cX7_tellsArcs 51 = .ok (.getfield 32, 3) := dk_180 0 32 (dk_at dksX7_tellsArcs_2 3 rfl rfl)
theorem dX7_tellsArcs_54 : decode cX7_tellsArcs 54 = .ok (.aload_n 0, 1) := dk_42 (dk_at dksX7_tellsArcs_2 6 rfl rfl)
theorem dX7_tellsArcs_55 : decode cX7_tellsArcs 55 = .ok (.getfield 178, 3) := dk_180 0 178 (dk_at dksX7_tellsArcs_2 7 rfl rfl)
theorem dX7_tellsArcs_58 : decode cX7_tellsArcs 58 = .ok (.iload_n 2, 1) := dk_28 (dk_at dksX7_tellsArcs_2 10 rfl rfl)
theorem dX7_tellsArcs_59 : decode cX7_tellsArcs 59 = .ok (.iastore, 1) := dk_79 (dk_at dksX7_tellsArcs_2 11 rfl rfl)
theorem dX7_tellsArcs_60 : decode cX7_tellsArcs 60 = .ok (.aload_n 0, 1) := dk_42 (dk_at dksX7_tellsArcs_2 12 rfl rfl)
theorem dX7_tellsArcs_61 : decode cX7_tellsArcs 61 = .ok (.getfield 35, 3) := dk_180 0 35 (dk_at dksX7_tellsArcs_2 13 rfl rfl)
theorem dX7_tellsArcs_64 : decode cX7_tellsArcs 64 = .ok (.aload_n 0, 1) := dk_42 (dk_at dksX7_tellsArcs_2 16 rfl rfl)
theorem dX7_tellsArcs_65 : decode cX7_tellsArcs 65 = .ok (.getfield 178, 3) := dk_180 0 178 (dk_at dksX7_tellsArcs_2 17 rfl rfl)
theorem dX7_tellsArcs_68 : decode cX7_tellsArcs 68 = .ok (.iload_n 3, 1) := dk_29 (dk_at dksX7_tellsArcs_2 20 rfl rfl)
theorem dX7_tellsArcs_69 : decode cX7_tellsArcs 69 = .ok (.iastore, 1) := dk_79 (dk_at dksX7_tellsArcs_2 21 rfl rfl)
theorem dX7_tellsArcs_70 : decode cX7_tellsArcs 70 = .ok (.aload_n 0, 1) := dk_42 (dk_at dksX7_tellsArcs_2 22 rfl rfl)
theorem dX7_tellsArcs_71 : decode cX7_tellsArcs 71 = .ok (.dup, 1) := dk_89 (dk_at dksX7_tellsArcs_2 23 rfl rfl)
theorem dX7_tellsArcs_72 : decode cX7_tellsArcs 72 = .ok (.getfield 178, 3) := dk_180 0 178 (dk_at dksX7_tellsArcs_3 0 rfl rfl)
theorem dX7_tellsArcs_75 : decode cX7_tellsArcs 75 = .ok (.iconst 1, 1) := dk_4 (dk_at dksX7_tellsArcs_3 3 rfl rfl)
theorem dX7_tellsArcs_76 : decode cX7_tellsArcs 76 = .ok (.iadd, 1) := dk_96 (dk_at dksX7_tellsArcs_3 4 rfl rfl)
theorem dX7_tellsArcs_77 : decode cX7_tellsArcs 77 = .ok (.putfield 178, 3) := dk_181 0 178 (dk_at dksX7_tellsArcs_3 5 rfl rfl)
theorem dX7_tellsArcs_80 : decode cX7_tellsArcs 80 = .ok (.iinc 3 1, 3) := dk_132 3 1 (dk_at dksX7_tellsArcs_3 8 rfl rfl)
theorem dX7_tellsArcs_83 : decode cX7_tellsArcs 83 = .ok (.goto (-54), 3) := dk_167 255 202 (dk_at dksX7_tellsArcs_3 11 rfl rfl)
theorem dX7_tellsArcs_86 : decode cX7_tellsArcs 86 = .ok (.iinc 2 1, 3) := dk_132 2 1 (dk_at dksX7_tellsArcs_3 14 rfl rfl)
theorem dX7_tellsArcs_89 : decode cX7_tellsArcs 89 = .ok (.goto (-70), 3) := dk_167 255 186 (dk_at dksX7_tellsArcs_3 17 rfl rfl)
theorem dX7_tellsArcs_92 : decode cX7_tellsArcs 92 = .ok (.iinc 1 1, 3) := dk_132 1 1 (dk_at dksX7_tellsArcs_3 20 rfl rfl)
theorem dX7_tellsArcs_95 : decode cX7_tellsArcs 95 = .ok (.goto (-88), 3) := dk_167 255 168 (dk_at dksX7_tellsArcs_4 0 rfl rfl)
theorem dX7_tellsArcs_98 : decode cX7_tellsArcs 98 = .ok (.iconst 0, 1) := dk_3 (dk_at dksX7_tellsArcs_4 3 rfl rfl)
theorem dX7_tellsArcs_99 : decode cX7_tellsArcs 99 = .ok (.istore_n 1, 1) := dk_60 (dk_at dksX7_tellsArcs_4 4 rfl rfl)
theorem dX7_tellsArcs_100 : decode cX7_tellsArcs 100 = .ok (.iload_n 1, 1) := dk_27 (dk_at dksX7_tellsArcs_4 5 rfl rfl)
theorem dX7_tellsArcs_101 : decode cX7_tellsArcs 101 = .ok (.aload_n 0, 1) := dk_42 (dk_at dksX7_tellsArcs_4 6 rfl rfl)
theorem dX7_tellsArcs_102 : decode cX7_tellsArcs 102 = .ok (.getfield 178, 3) := dk_180 0 178 (dk_at dksX7_tellsArcs_4 7 rfl rfl)
theorem dX7_tellsArcs_105 : decode cX7_tellsArcs 105 = .ok (.if_icmp .ge 57, 3) := dk_162 0 57 (dk_at dksX7_tellsArcs_4 10 rfl rfl)
theorem dX7_tellsArcs_108 : decode cX7_tellsArcs 108 = .ok (.aload_n 0, 1) := dk_42 (dk_at dksX7_tellsArcs_4 13 rfl rfl)
theorem dX7_tellsArcs_109 : decode cX7_tellsArcs 109 = .ok (.getfield 38, 3) := dk_180 0 38 (dk_at dksX7_tellsArcs_4 14 rfl rfl)
theorem dX7_tellsArcs_112 : decode cX7_tellsArcs 112 = .ok (.iload_n 1, 1) := dk_27 (dk_at dksX7_tellsArcs_4 17 rfl rfl)
theorem dX7_tellsArcs_113 : decode cX7_tellsArcs 113 = .ok (.lconst 0, 1) := dk_9 (dk_at dksX7_tellsArcs_4 18 rfl rfl)
theorem dX7_tellsArcs_114 : decode cX7_tellsArcs 114 = .ok (.lastore, 1) := dk_80 (dk_at dksX7_tellsArcs_4 19 rfl rfl)
theorem dX7_tellsArcs_115 : decode cX7_tellsArcs 115 = .ok (.iconst 0, 1) := dk_3 (dk_at dksX7_tellsArcs_4 20 rfl rfl)
theorem dX7_tellsArcs_116 : decode cX7_tellsArcs 116 = .ok (.istore_n 2, 1) := dk_61 (dk_at dksX7_tellsArcs_4 21 rfl rfl)
theorem dX7_tellsArcs_117 : decode cX7_tellsArcs 117 = .ok (.iload_n 2, 1) := dk_28 (dk_at dksX7_tellsArcs_4 22 rfl rfl)
theorem dX7_tellsArcs_118 : decode cX7_tellsArcs 118 = .ok (.aload_n 0, 1) := dk_42 (dk_at dksX7_tellsArcs_4 23 rfl rfl)
theorem dX7_tellsArcs_119 : decode cX7_tellsArcs 119 = .ok (.getfield 178, 3) := dk_180 0 178 (dk_at dksX7_tellsArcs_5 0 rfl rfl)
theorem dX7_tellsArcs_122 : decode cX7_tellsArcs 122 = .ok (.if_icmp .ge 34, 3) := dk_162 0 34 (dk_at dksX7_tellsArcs_5 3 rfl rfl)
theorem dX7_tellsArcs_125 : decode cX7_tellsArcs 125 = .ok (.aload_n 0, 1) := dk_42 (dk_at dksX7_tellsArcs_5 6 rfl rfl)
theorem dX7_tellsArcs_126 : decode cX7_tellsArcs 126 = .ok (.getfield 38, 3) := dk_180 0 38 (dk_at dksX7_tellsArcs_5 7 rfl rfl)
theorem dX7_tellsArcs_129 : decode cX7_tellsArcs 129 = .ok (.iload_n 1, 1) := dk_27 (dk_at dksX7_tellsArcs_5 10 rfl rfl)
theorem dX7_tellsArcs_130 : decode cX7_tellsArcs 130 = .ok (.dup2, 1) := dk_92 (dk_at dksX7_tellsArcs_5 11 rfl rfl)
theorem dX7_tellsArcs_131 : decode cX7_tellsArcs 131 = .ok (.laload, 1) := dk_47 (dk_at dksX7_tellsArcs_5 12 rfl rfl)
theorem dX7_tellsArcs_132 : decode cX7_tellsArcs 132 = .ok (.aload_n 0, 1) := dk_42 (dk_at dksX7_tellsArcs_5 13 rfl rfl)
theorem dX7_tellsArcs_133 : decode cX7_tellsArcs 133 = .ok (.iload_n 1, 1) := dk_27 (dk_at dksX7_tellsArcs_5 14 rfl rfl)
theorem dX7_tellsArcs_134 : decode cX7_tellsArcs 134 = .ok (.iload_n 2, 1) := dk_28 (dk_at dksX7_tellsArcs_5 15 rfl rfl)
theorem dX7_tellsArcs_135 : decode cX7_tellsArcs 135 = .ok (.invokevirtual 181, 3) := dk_182 0 181 (dk_at dksX7_tellsArcs_5 16 rfl rfl)
theorem dX7_tellsArcs_138 : decode cX7_tellsArcs 138 = .ok (.ifCond .eq 9, 3) := dk_153 0 9 (dk_at dksX7_tellsArcs_5 19 rfl rfl)
theorem dX7_tellsArcs_141 : decode cX7_tellsArcs 141 = .ok (.lconst 1, 1) := dk_10 (dk_at dksX7_tellsArcs_5 22 rfl rfl)
theorem dX7_tellsArcs_142 : decode cX7_tellsArcs 142 = .ok (.iload_n 2, 1) := dk_28 (dk_at dksX7_tellsArcs_5 23 rfl rfl)
theorem dX7_tellsArcs_143 : decode cX7_tellsArcs 143 = .ok (.lshl, 1) := dk_121 (dk_at dksX7_tellsArcs_6 0 rfl rfl)
theorem dX7_tellsArcs_144 : decode cX7_tellsArcs 144 = .ok (.goto 4, 3) := dk_167 0 4 (dk_at dksX7_tellsArcs_6 1 rfl rfl)
theorem dX7_tellsArcs_147 : decode cX7_tellsArcs 147 = .ok (.lconst 0, 1) := dk_9 (dk_at dksX7_tellsArcs_6 4 rfl rfl)
theorem dX7_tellsArcs_148 : decode cX7_tellsArcs 148 = .ok (.lor, 1) := dk_129 (dk_at dksX7_tellsArcs_6 5 rfl rfl)
theorem dX7_tellsArcs_149 : decode cX7_tellsArcs 149 = .ok (.lastore, 1) := dk_80 (dk_at dksX7_tellsArcs_6 6 rfl rfl)
theorem dX7_tellsArcs_150 : decode cX7_tellsArcs 150 = .ok (.iinc 2 1, 3) := dk_132 2 1 (dk_at dksX7_tellsArcs_6 7 rfl rfl)
theorem dX7_tellsArcs_153 : decode cX7_tellsArcs 153 = .ok (.goto (-36), 3) := dk_167 255 220 (dk_at dksX7_tellsArcs_6 10 rfl rfl)
theorem dX7_tellsArcs_156 : decode cX7_tellsArcs 156 = .ok (.iinc 1 1, 3) := dk_132 1 1 (dk_at dksX7_tellsArcs_6 13 rfl rfl)
theorem dX7_tellsArcs_159 : decode cX7_tellsArcs 159 = .ok (.goto (-59), 3) := dk_167 255 197 (dk_at dksX7_tellsArcs_6 16 rfl rfl)
theorem dX7_tellsArcs_162 : decode cX7_tellsArcs 162 = .ok (.return_, 1) := dk_177 (dk_at dksX7_tellsArcs_6 19 rfl rfl)
abbrev cX7_isForcing : ByteArray := prog_32_method_29_code
def yX7_isForcing : MethodName := ⟨RX7, "isForcing", "(II)Z"⟩
def dkwX7_isForcing_3 : List UInt8 := [21, 4, 182, 0, 184, 160, 0, 7, 4, 167, 0, 4, 3, 62, 132, 4, 1, 167, 255, 215, 29, 172]
abbrev dktX7_isForcing_3 : List UInt8 := dkwX7_isForcing_3 ++ []
def dkwX7_isForcing_2 : List UInt8 := [21, 4, 42, 180, 0, 32, 27, 46, 162, 0, 36, 29, 153, 0, 32, 42, 27, 21, 4, 182, 0, 184, 42, 28]
abbrev dktX7_isForcing_2 : List UInt8 := dkwX7_isForcing_2 ++ dktX7_isForcing_3
def dkwX7_isForcing_1 : List UInt8 := [180, 0, 32, 27, 46, 161, 0, 7, 4, 167, 0, 4, 3, 62, 42, 180, 0, 29, 27, 46, 4, 96, 54, 4]
abbrev dktX7_isForcing_1 : List UInt8 := dkwX7_isForcing_1 ++ dktX7_isForcing_2
def dkwX7_isForcing_0 : List UInt8 := [42, 180, 0, 29, 28, 46, 42, 180, 0, 29, 27, 46, 163, 0, 22, 42, 180, 0, 32, 28, 46, 42]
abbrev dktX7_isForcing_0 : List UInt8 := dkwX7_isForcing_0 ++ dktX7_isForcing_1
theorem dksX7_isForcing_0 : cX7_isForcing.data.toList.drop 0 = dktX7_isForcing_0 := by decide +kernel
theorem dksX7_isForcing_1 : cX7_isForcing.data.toList.drop 22 = dktX7_isForcing_1 := dk_seg dksX7_isForcing_0 22 rfl rfl
theorem dksX7_isForcing_2 : cX7_isForcing.data.toList.drop 46 = dktX7_isForcing_2 := dk_seg dksX7_isForcing_1 24 rfl rfl
theorem dksX7_isForcing_3 : cX7_isForcing.data.toList.drop 70 = dktX7_isForcing_3 := dk_seg dksX7_isForcing_2 24 rfl rfl
theorem dX7_isForcing_0 : decode cX7_isForcing 0 = .ok (.aload_n 0, 1) := dk_42 (dk_at dksX7_isForcing_0 0 rfl rfl)
theorem dX7_isForcing_1 : decode cX7_isForcing 1 = .ok (.getfield 29, 3) := dk_180 0 29 (dk_at dksX7_isForcing_0 1 rfl rfl)
theorem dX7_isForcing_4 : decode cX7_isForcing 4 = .ok (.iload_n 2, 1) := dk_28 (dk_at dksX7_isForcing_0 4 rfl rfl)
theorem dX7_isForcing_5 : decode cX7_isForcing 5 = .ok (.iaload, 1) := dk_46 (dk_at dksX7_isForcing_0 5 rfl rfl)
theorem dX7_isForcing_6 : decode cX7_isForcing 6 = .ok (.aload_n 0, 1) := dk_42 (dk_at dksX7_isForcing_0 6 rfl rfl)
theorem dX7_isForcing_7 : decode cX7_isForcing 7 = .ok (.getfield 29, 3) := dk_180 0 29 (dk_at dksX7_isForcing_0 7 rfl rfl)
theorem dX7_isForcing_10 : decode cX7_isForcing 10 = .ok (.iload_n 1, 1) := dk_27 (dk_at dksX7_isForcing_0 10 rfl rfl)
theorem dX7_isForcing_11 : decode cX7_isForcing 11 = .ok (.iaload, 1) := dk_46 (dk_at dksX7_isForcing_0 11 rfl rfl)
theorem dX7_isForcing_12 : decode cX7_isForcing 12 = .ok (.if_icmp .gt 22, 3) := dk_163 0 22 (dk_at dksX7_isForcing_0 12 rfl rfl)
theorem dX7_isForcing_15 : decode cX7_isForcing 15 = .ok (.aload_n 0, 1) := dk_42 (dk_at dksX7_isForcing_0 15 rfl rfl)
theorem dX7_isForcing_16 : decode cX7_isForcing 16 = .ok (.getfield 32, 3) := dk_180 0 32 (dk_at dksX7_isForcing_0 16 rfl rfl)
theorem dX7_isForcing_19 : decode cX7_isForcing 19 = .ok (.iload_n 2, 1) := dk_28 (dk_at dksX7_isForcing_0 19 rfl rfl)
theorem dX7_isForcing_20 : decode cX7_isForcing 20 = .ok (.iaload, 1) := dk_46 (dk_at dksX7_isForcing_0 20 rfl rfl)
theorem dX7_isForcing_21 : decode cX7_isForcing 21 = .ok (.aload_n 0, 1) := dk_42 (dk_at dksX7_isForcing_0 21 rfl rfl)
theorem dX7_isForcing_22 : decode cX7_isForcing 22 = .ok (.getfield 32, 3) := dk_180 0 32 (dk_at dksX7_isForcing_1 0 rfl rfl)
theorem dX7_isForcing_25 : decode cX7_isForcing 25 = .ok (.iload_n 1, 1) := dk_27 (dk_at dksX7_isForcing_1 3 rfl rfl)
theorem dX7_isForcing_26 : decode cX7_isForcing 26 = .ok (.iaload, 1) := dk_46 (dk_at dksX7_isForcing_1 4 rfl rfl)
theorem dX7_isForcing_27 : decode cX7_isForcing 27 = .ok (.if_icmp .lt 7, 3) := dk_161 0 7 (dk_at dksX7_isForcing_1 5 rfl rfl)
theorem dX7_isForcing_30 : decode cX7_isForcing 30 = .ok (.iconst 1, 1) := dk_4 (dk_at dksX7_isForcing_1 8 rfl rfl)
theorem dX7_isForcing_31 : decode cX7_isForcing 31 = .ok (.goto 4, 3) := dk_167 0 4 (dk_at dksX7_isForcing_1 9 rfl rfl)
theorem dX7_isForcing_34 : decode cX7_isForcing 34 = .ok (.iconst 0, 1) := dk_3 (dk_at dksX7_isForcing_1 12 rfl rfl)
theorem dX7_isForcing_35 : decode cX7_isForcing 35 = .ok (.istore_n 3, 1) := dk_62 (dk_at dksX7_isForcing_1 13 rfl rfl)
theorem dX7_isForcing_36 : decode cX7_isForcing 36 = .ok (.aload_n 0, 1) := dk_42 (dk_at dksX7_isForcing_1 14 rfl rfl)
theorem dX7_isForcing_37 : decode cX7_isForcing 37 = .ok (.getfield 29, 3) := dk_180 0 29 (dk_at dksX7_isForcing_1 15 rfl rfl)
theorem dX7_isForcing_40 : decode cX7_isForcing 40 = .ok (.iload_n 1, 1) := dk_27 (dk_at dksX7_isForcing_1 18 rfl rfl)
theorem dX7_isForcing_41 : decode cX7_isForcing 41 = .ok (.iaload, 1) := dk_46 (dk_at dksX7_isForcing_1 19 rfl rfl)
theorem dX7_isForcing_42 : decode cX7_isForcing 42 = .ok (.iconst 1, 1) := dk_4 (dk_at dksX7_isForcing_1 20 rfl rfl)
theorem dX7_isForcing_43 : decode cX7_isForcing 43 = .ok (.iadd, 1) := dk_96 (dk_at dksX7_isForcing_1 21 rfl rfl)
theorem dX7_isForcing_44 : decode cX7_isForcing 44 = .ok (.istore 4, 2) := dk_54 4 (dk_at dksX7_isForcing_1 22 rfl rfl)
theorem dX7_isForcing_46 : decode cX7_isForcing 46 = .ok (.iload 4, 2) := dk_21 4 (dk_at dksX7_isForcing_2 0 rfl rfl)
theorem dX7_isForcing_48 : decode cX7_isForcing 48 = .ok (.aload_n 0, 1) := dk_42 (dk_at dksX7_isForcing_2 2 rfl rfl)
theorem dX7_isForcing_49 : decode cX7_isForcing 49 = .ok (.getfield 32, 3) := dk_180 0 32 (dk_at dksX7_isForcing_2 3 rfl rfl)
theorem dX7_isForcing_52 : decode cX7_isForcing 52 = .ok (.iload_n 1, 1) := dk_27 (dk_at dksX7_isForcing_2 6 rfl rfl)
theorem dX7_isForcing_53 : decode cX7_isForcing 53 = .ok (.iaload, 1) := dk_46 (dk_at dksX7_isForcing_2 7 rfl rfl)
theorem dX7_isForcing_54 : decode cX7_isForcing 54 = .ok (.if_icmp .ge 36, 3) := dk_162 0 36 (dk_at dksX7_isForcing_2 8 rfl rfl)
theorem dX7_isForcing_57 : decode cX7_isForcing 57 = .ok (.iload_n 3, 1) := dk_29 (dk_at dksX7_isForcing_2 11 rfl rfl)
theorem dX7_isForcing_58 : decode cX7_isForcing 58 = .ok (.ifCond .eq 32, 3) := dk_153 0 32 (dk_at dksX7_isForcing_2 12 rfl rfl)
theorem dX7_isForcing_61 : decode cX7_isForcing 61 = .ok (.aload_n 0, 1) := dk_42 (dk_at dksX7_isForcing_2 15 rfl rfl)
theorem dX7_isForcing_62 : decode cX7_isForcing 62 = .ok (.iload_n 1, 1) := dk_27 (dk_at dksX7_isForcing_2 16 rfl rfl)
theorem dX7_isForcing_63 : decode cX7_isForcing 63 = .ok (.iload 4, 2) := dk_21 4 (dk_at dksX7_isForcing_2 17 rfl rfl)
theorem dX7_isForcing_65 : decode cX7_isForcing 65 = .ok (.invokevirtual 184, 3) := dk_182 0 184 (dk_at dksX7_isForcing_2 19 rfl rfl)
theorem dX7_isForcing_68 : decode cX7_isForcing 68 = .ok (.aload_n 0, 1) := dk_42 (dk_at dksX7_isForcing_2 22 rfl rfl)
theorem dX7_isForcing_69 : decode cX7_isForcing 69 = .ok (.iload_n 2, 1) := dk_28 (dk_at dksX7_isForcing_2 23 rfl rfl)
theorem dX7_isForcing_70 : decode cX7_isForcing 70 = .ok (.iload 4, 2) := dk_21 4 (dk_at dksX7_isForcing_3 0 rfl rfl)
theorem dX7_isForcing_72 : decode cX7_isForcing 72 = .ok (.invokevirtual 184, 3) := dk_182 0 184 (dk_at dksX7_isForcing_3 2 rfl rfl)
theorem dX7_isForcing_75 : decode cX7_isForcing 75 = .ok (.if_icmp .ne 7, 3) := dk_160 0 7 (dk_at dksX7_isForcing_3 5 rfl rfl)
theorem dX7_isForcing_78 : decode cX7_isForcing 78 = .ok (.iconst 1, 1) := dk_4 (dk_at dksX7_isForcing_3 8 rfl rfl)
theorem dX7_isForcing_79 : decode cX7_isForcing 79 = .ok (.goto 4, 3) := dk_167 0 4 (dk_at dksX7_isForcing_3 9 rfl rfl)
theorem dX7_isForcing_82 : decode cX7_isForcing 82 = .ok (.iconst 0, 1) := dk_3 (dk_at dksX7_isForcing_3 12 rfl rfl)
theorem dX7_isForcing_83 : decode cX7_isForcing 83 = .ok (.istore_n 3, 1) := dk_62 (dk_at dksX7_isForcing_3 13 rfl rfl)
theorem dX7_isForcing_84 : decode cX7_isForcing 84 = .ok (.iinc 4 1, 3) := dk_132 4 1 (dk_at dksX7_isForcing_3 14 rfl rfl)
theorem dX7_isForcing_87 : decode cX7_isForcing 87 = .ok (.goto (-41), 3) := dk_167 255 215 (dk_at dksX7_isForcing_3 17 rfl rfl)
theorem dX7_isForcing_90 : decode cX7_isForcing 90 = .ok (.iload_n 3, 1) := dk_29 (dk_at dksX7_isForcing_3 20 rfl rfl)
theorem dX7_isForcing_91 : decode cX7_isForcing 91 = .ok (.ireturn, 1) := dk_172 (dk_at dksX7_isForcing_3 21 rfl rfl)
abbrev cX7_isLeft : ByteArray := prog_32_method_28_code
def yX7_isLeft : MethodName := ⟨RX7, "isLeft", "(II)Z"⟩
def dkwX7_isLeft_0 : List UInt8 := [42, 180, 0, 35, 27, 46, 133, 28, 42, 180, 0, 29, 27, 46, 100, 4, 100, 184, 0, 108, 172]
abbrev dktX7_isLeft_0 : List UInt8 := dkwX7_isLeft_0 ++ []
theorem dksX7_isLeft_0 : cX7_isLeft.data.toList.drop 0 = dktX7_isLeft_0 := by decide +kernel
theorem dX7_isLeft_0 : decode cX7_isLeft 0 = .ok (.aload_n 0, 1) := dk_42 (dk_at dksX7_isLeft_0 0 rfl rfl)
theorem dX7_isLeft_1 : decode cX7_isLeft 1 = .ok (.getfield 35, 3) := dk_180 0 35 (dk_at dksX7_isLeft_0 1 rfl rfl)
theorem dX7_isLeft_4 : decode cX7_isLeft 4 = .ok (.iload_n 1, 1) := dk_27 (dk_at dksX7_isLeft_0 4 rfl rfl)
theorem dX7_isLeft_5 : decode cX7_isLeft 5 = .ok (.iaload, 1) := dk_46 (dk_at dksX7_isLeft_0 5 rfl rfl)
theorem dX7_isLeft_6 : decode cX7_isLeft 6 = .ok (.i2l, 1) := dk_133 (dk_at dksX7_isLeft_0 6 rfl rfl)
theorem dX7_isLeft_7 : decode cX7_isLeft 7 = .ok (.iload_n 2, 1) := dk_28 (dk_at dksX7_isLeft_0 7 rfl rfl)
theorem dX7_isLeft_8 : decode cX7_isLeft 8 = .ok (.aload_n 0, 1) := dk_42 (dk_at dksX7_isLeft_0 8 rfl rfl)
theorem dX7_isLeft_9 : decode cX7_isLeft 9 = .ok (.getfield 29, 3) := dk_180 0 29 (dk_at dksX7_isLeft_0 9 rfl rfl)
theorem dX7_isLeft_12 : decode cX7_isLeft 12 = .ok (.iload_n 1, 1) := dk_27 (dk_at dksX7_isLeft_0 12 rfl rfl)
theorem dX7_isLeft_13 : decode cX7_isLeft 13 = .ok (.iaload, 1) := dk_46 (dk_at dksX7_isLeft_0 13 rfl rfl)
theorem dX7_isLeft_14 : decode cX7_isLeft 14 = .ok (.isub, 1) := dk_100 (dk_at dksX7_isLeft_0 14 rfl rfl)
theorem dX7_isLeft_15 : decode cX7_isLeft 15 = .ok (.iconst 1, 1) := dk_4 (dk_at dksX7_isLeft_0 15 rfl rfl)
theorem dX7_isLeft_16 : decode cX7_isLeft 16 = .ok (.isub, 1) := dk_100 (dk_at dksX7_isLeft_0 16 rfl rfl)
theorem dX7_isLeft_17 : decode cX7_isLeft 17 = .ok (.invokestatic 108, 3) := dk_184 0 108 (dk_at dksX7_isLeft_0 17 rfl rfl)
theorem dX7_isLeft_20 : decode cX7_isLeft 20 = .ok (.ireturn, 1) := dk_172 (dk_at dksX7_isLeft_0 20 rfl rfl)
abbrev cX7_has : ByteArray := prog_32_method_3_code
def yX7_has : MethodName := ⟨RX7, "has", "(JI)Z"⟩
def dkwX7_has_0 : List UInt8 := [30, 28, 125, 10, 127, 10, 148, 154, 0, 7, 4, 167, 0, 4, 3, 172]
abbrev dktX7_has_0 : List UInt8 := dkwX7_has_0 ++ []
theorem dksX7_has_0 : cX7_has.data.toList.drop 0 = dktX7_has_0 := by decide +kernel
theorem dX7_has_0 : decode cX7_has 0 = .ok (.lload_n 0, 1) := dk_30 (dk_at dksX7_has_0 0 rfl rfl)
theorem dX7_has_1 : decode cX7_has 1 = .ok (.iload_n 2, 1) := dk_28 (dk_at dksX7_has_0 1 rfl rfl)
theorem dX7_has_2 : decode cX7_has 2 = .ok (.lushr, 1) := dk_125 (dk_at dksX7_has_0 2 rfl rfl)
theorem dX7_has_3 : decode cX7_has 3 = .ok (.lconst 1, 1) := dk_10 (dk_at dksX7_has_0 3 rfl rfl)
theorem dX7_has_4 : decode cX7_has 4 = .ok (.land, 1) := dk_127 (dk_at dksX7_has_0 4 rfl rfl)
theorem dX7_has_5 : decode cX7_has 5 = .ok (.lconst 1, 1) := dk_10 (dk_at dksX7_has_0 5 rfl rfl)
theorem dX7_has_6 : decode cX7_has 6 = .ok (.lcmp, 1) := dk_148 (dk_at dksX7_has_0 6 rfl rfl)
theorem dX7_has_7 : decode cX7_has 7 = .ok (.ifCond .ne 7, 3) := dk_154 0 7 (dk_at dksX7_has_0 7 rfl rfl)
theorem dX7_has_10 : decode cX7_has 10 = .ok (.iconst 1, 1) := dk_4 (dk_at dksX7_has_0 10 rfl rfl)
theorem dX7_has_11 : decode cX7_has 11 = .ok (.goto 4, 3) := dk_167 0 4 (dk_at dksX7_has_0 11 rfl rfl)
theorem dX7_has_14 : decode cX7_has 14 = .ok (.iconst 0, 1) := dk_3 (dk_at dksX7_has_0 14 rfl rfl)
theorem dX7_has_15 : decode cX7_has 15 = .ok (.ireturn, 1) := dk_172 (dk_at dksX7_has_0 15 rfl rfl)
abbrev cX7_size : ByteArray := prog_32_method_16_code
def yX7_size : MethodName := ⟨RX7, "size", "(I)I"⟩
def dkwX7_size_1 : List UInt8 := [159, 0, 17, 42, 27, 181, 0, 7, 42, 9, 181, 0, 137, 42, 182, 0, 105, 28, 172]
abbrev dktX7_size_1 : List UInt8 := dkwX7_size_1 ++ []
def dkwX7_size_0 : List UInt8 := [27, 133, 10, 20, 0, 131, 184, 0, 133, 154, 0, 5, 2, 172, 42, 180, 0, 7, 61, 27, 42, 180, 0, 7]
abbrev dktX7_size_0 : List UInt8 := dkwX7_size_0 ++ dktX7_size_1
theorem dksX7_size_0 : cX7_size.data.toList.drop 0 = dktX7_size_0 := by decide +kernel
theorem dksX7_size_1 : cX7_size.data.toList.drop 24 = dktX7_size_1 := dk_seg dksX7_size_0 24 rfl rfl
theorem dX7_size_0 : decode cX7_size 0 = .ok (.iload_n 1, 1) := dk_27 (dk_at dksX7_size_0 0 rfl rfl)
theorem dX7_size_1 : decode cX7_size 1 = .ok (.i2l, 1) := dk_133 (dk_at dksX7_size_0 1 rfl rfl)
theorem dX7_size_2 : decode cX7_size 2 = .ok (.lconst 1, 1) := dk_10 (dk_at dksX7_size_0 2 rfl rfl)
theorem dX7_size_3 : decode cX7_size 3 = .ok (.ldc2_w 131, 3) := dk_20 0 131 (dk_at dksX7_size_0 3 rfl rfl)
theorem dX7_size_6 : decode cX7_size 6 = .ok (.invokestatic 133, 3) := dk_184 0 133 (dk_at dksX7_size_0 6 rfl rfl)
theorem dX7_size_9 : decode cX7_size 9 = .ok (.ifCond .ne 5, 3) := dk_154 0 5 (dk_at dksX7_size_0 9 rfl rfl)
theorem dX7_size_12 : decode cX7_size 12 = .ok (.iconst (-1), 1) := dk_2 (dk_at dksX7_size_0 12 rfl rfl)
theorem dX7_size_13 : decode cX7_size 13 = .ok (.ireturn, 1) := dk_172 (dk_at dksX7_size_0 13 rfl rfl)
theorem dX7_size_14 : decode cX7_size 14 = .ok (.aload_n 0, 1) := dk_42 (dk_at dksX7_size_0 14 rfl rfl)
theorem dX7_size_15 : decode cX7_size 15 = .ok (.getfield 7, 3) := dk_180 0 7 (dk_at dksX7_size_0 15 rfl rfl)
theorem dX7_size_18 : decode cX7_size 18 = .ok (.istore_n 2, 1) := dk_61 (dk_at dksX7_size_0 18 rfl rfl)
theorem dX7_size_19 : decode cX7_size 19 = .ok (.iload_n 1, 1) := dk_27 (dk_at dksX7_size_0 19 rfl rfl)
theorem dX7_size_20 : decode cX7_size 20 = .ok (.aload_n 0, 1) := dk_42 (dk_at dksX7_size_0 20 rfl rfl)
theorem dX7_size_21 : decode cX7_size 21 = .ok (.getfield 7, 3) := dk_180 0 7 (dk_at dksX7_size_0 21 rfl rfl)
theorem dX7_size_24 : decode cX7_size 24 = .ok (.if_icmp .eq 17, 3) := dk_159 0 17 (dk_at dksX7_size_1 0 rfl rfl)
theorem dX7_size_27 : decode cX7_size 27 = .ok (.aload_n 0, 1) := dk_42 (dk_at dksX7_size_1 3 rfl rfl)
theorem dX7_size_28 : decode cX7_size 28 = .ok (.iload_n 1, 1) := dk_27 (dk_at dksX7_size_1 4 rfl rfl)
theorem dX7_size_29 : decode cX7_size 29 = .ok (.putfield 7, 3) := dk_181 0 7 (dk_at dksX7_size_1 5 rfl rfl)
theorem dX7_size_32 : decode cX7_size 32 = .ok (.aload_n 0, 1) := dk_42 (dk_at dksX7_size_1 8 rfl rfl)
theorem dX7_size_33 : decode cX7_size 33 = .ok (.lconst 0, 1) := dk_9 (dk_at dksX7_size_1 9 rfl rfl)
theorem dX7_size_34 : decode cX7_size 34 = .ok (.putfield 137, 3) := dk_181 0 137 (dk_at dksX7_size_1 10 rfl rfl)
theorem dX7_size_37 : decode cX7_size 37 = .ok (.aload_n 0, 1) := dk_42 (dk_at dksX7_size_1 13 rfl rfl)
theorem dX7_size_38 : decode cX7_size 38 = .ok (.invokevirtual 105, 3) := dk_182 0 105 (dk_at dksX7_size_1 14 rfl rfl)
theorem dX7_size_41 : decode cX7_size 41 = .ok (.iload_n 2, 1) := dk_28 (dk_at dksX7_size_1 17 rfl rfl)
theorem dX7_size_42 : decode cX7_size 42 = .ok (.ireturn, 1) := dk_172 (dk_at dksX7_size_1 18 rfl rfl)
abbrev cX7_in : ByteArray := prog_32_method_2_code
def yX7_in : MethodName := ⟨RX7, "in", "(JJJ)Z"⟩
def dkwX7_in_0 : List UInt8 := [30, 32, 148, 155, 0, 14, 30, 22, 4, 148, 157, 0, 7, 4, 167, 0, 4, 3, 172]
abbrev dktX7_in_0 : List UInt8 := dkwX7_in_0 ++ []
theorem dksX7_in_0 : cX7_in.data.toList.drop 0 = dktX7_in_0 := by decide +kernel
theorem dX7_in_0 : decode cX7_in 0 = .ok (.lload_n 0, 1) := dk_30 (dk_at dksX7_in_0 0 rfl rfl)
theorem dX7_in_1 : decode cX7_in 1 = .ok (.lload_n 2, 1) := dk_32 (dk_at dksX7_in_0 1 rfl rfl)
theorem dX7_in_2 : decode cX7_in 2 = .ok (.lcmp, 1) := dk_148 (dk_at dksX7_in_0 2 rfl rfl)
theorem dX7_in_3 : decode cX7_in 3 = .ok (.ifCond .lt 14, 3) := dk_155 0 14 (dk_at dksX7_in_0 3 rfl rfl)
theorem dX7_in_6 : decode cX7_in 6 = .ok (.lload_n 0, 1) := dk_30 (dk_at dksX7_in_0 6 rfl rfl)
theorem dX7_in_7 : decode cX7_in 7 = .ok (.lload 4, 2) := dk_22 4 (dk_at dksX7_in_0 7 rfl rfl)
theorem dX7_in_9 : decode cX7_in 9 = .ok (.lcmp, 1) := dk_148 (dk_at dksX7_in_0 9 rfl rfl)
theorem dX7_in_10 : decode cX7_in 10 = .ok (.ifCond .gt 7, 3) := dk_157 0 7 (dk_at dksX7_in_0 10 rfl rfl)
theorem dX7_in_13 : decode cX7_in 13 = .ok (.iconst 1, 1) := dk_4 (dk_at dksX7_in_0 13 rfl rfl)
theorem dX7_in_14 : decode cX7_in 14 = .ok (.goto 4, 3) := dk_167 0 4 (dk_at dksX7_in_0 14 rfl rfl)
theorem dX7_in_17 : decode cX7_in 17 = .ok (.iconst 0, 1) := dk_3 (dk_at dksX7_in_0 17 rfl rfl)
theorem dX7_in_18 : decode cX7_in 18 = .ok (.ireturn, 1) := dk_172 (dk_at dksX7_in_0 18 rfl rfl)
abbrev cX7_below : ByteArray := prog_32_method_17_code
def yX7_below : MethodName := ⟨RX7, "below", "(II)I"⟩
def dkwX7_below_1 : List UInt8 := [167, 0, 4, 3, 172]
abbrev dktX7_below_1 : List UInt8 := dkwX7_below_1 ++ []
def dkwX7_below_0 : List UInt8 := [42, 27, 28, 182, 0, 141, 154, 0, 7, 2, 167, 0, 17, 42, 27, 28, 182, 0, 145, 153, 0, 7, 4]
abbrev dktX7_below_0 : List UInt8 := dkwX7_below_0 ++ dktX7_below_1
theorem dksX7_below_0 : cX7_below.data.toList.drop 0 = dktX7_below_0 := by decide +kernel
theorem dksX7_below_1 : cX7_below.data.toList.drop 23 = dktX7_below_1 := dk_seg dksX7_below_0 23 rfl rfl
theorem dX7_below_0 : decode cX7_below 0 = .ok (.aload_n 0, 1) := dk_42 (dk_at dksX7_below_0 0 rfl rfl)
theorem dX7_below_1 : decode cX7_below 1 = .ok (.iload_n 1, 1) := dk_27 (dk_at dksX7_below_0 1 rfl rfl)
theorem dX7_below_2 : decode cX7_below 2 = .ok (.iload_n 2, 1) := dk_28 (dk_at dksX7_below_0 2 rfl rfl)
theorem dX7_below_3 : decode cX7_below 3 = .ok (.invokevirtual 141, 3) := dk_182 0 141 (dk_at dksX7_below_0 3 rfl rfl)
theorem dX7_below_6 : decode cX7_below 6 = .ok (.ifCond .ne 7, 3) := dk_154 0 7 (dk_at dksX7_below_0 6 rfl rfl)
theorem dX7_below_9 : decode cX7_below 9 = .ok (.iconst (-1), 1) := dk_2 (dk_at dksX7_below_0 9 rfl rfl)
theorem dX7_below_10 : decode cX7_below 10 = .ok (.goto 17, 3) := dk_167 0 17 (dk_at dksX7_below_0 10 rfl rfl)
theorem dX7_below_13 : decode cX7_below 13 = .ok (.aload_n 0, 1) := dk_42 (dk_at dksX7_below_0 13 rfl rfl)
theorem dX7_below_14 : decode cX7_below 14 = .ok (.iload_n 1, 1) := dk_27 (dk_at dksX7_below_0 14 rfl rfl)
theorem dX7_below_15 : decode cX7_below 15 = .ok (.iload_n 2, 1) := dk_28 (dk_at dksX7_below_0 15 rfl rfl)
theorem dX7_below_16 : decode cX7_below 16 = .ok (.invokevirtual 145, 3) := dk_182 0 145 (dk_at dksX7_below_0 16 rfl rfl)
theorem dX7_below_19 : decode cX7_below 19 = .ok (.ifCond .eq 7, 3) := dk_153 0 7 (dk_at dksX7_below_0 19 rfl rfl)
theorem dX7_below_22 : decode cX7_below 22 = .ok (.iconst 1, 1) := dk_4 (dk_at dksX7_below_0 22 rfl rfl)
theorem dX7_below_23 : decode cX7_below 23 = .ok (.goto 4, 3) := dk_167 0 4 (dk_at dksX7_below_1 0 rfl rfl)
theorem dX7_below_26 : decode cX7_below 26 = .ok (.iconst 0, 1) := dk_3 (dk_at dksX7_below_1 3 rfl rfl)
theorem dX7_below_27 : decode cX7_below 27 = .ok (.ireturn, 1) := dk_172 (dk_at dksX7_below_1 4 rfl rfl)
abbrev cX7_areRows : ByteArray := prog_32_method_7_code
def yX7_areRows : MethodName := ⟨RX7, "areRows", "(II)Z"⟩
def dkwX7_areRows_0 : List UInt8 := [42, 27, 182, 0, 116, 153, 0, 15, 42, 28, 182, 0, 116, 153, 0, 7, 4, 167, 0, 4, 3, 172]
abbrev dktX7_areRows_0 : List UInt8 := dkwX7_areRows_0 ++ []
theorem dksX7_areRows_0 : cX7_areRows.data.toList.drop 0 = dktX7_areRows_0 := by decide +kernel
theorem dX7_areRows_0 : decode cX7_areRows 0 = .ok (.aload_n 0, 1) := dk_42 (dk_at dksX7_areRows_0 0 rfl rfl)
theorem dX7_areRows_1 : decode cX7_areRows 1 = .ok (.iload_n 1, 1) := dk_27 (dk_at dksX7_areRows_0 1 rfl rfl)
theorem dX7_areRows_2 : decode cX7_areRows 2 = .ok (.invokevirtual 116, 3) := dk_182 0 116 (dk_at dksX7_areRows_0 2 rfl rfl)
theorem dX7_areRows_5 : decode cX7_areRows 5 = .ok (.ifCond .eq 15, 3) := dk_153 0 15 (dk_at dksX7_areRows_0 5 rfl rfl)
theorem dX7_areRows_8 : decode cX7_areRows 8 = .ok (.aload_n 0, 1) := dk_42 (dk_at dksX7_areRows_0 8 rfl rfl)
theorem dX7_areRows_9 : decode cX7_areRows 9 = .ok (.iload_n 2, 1) := dk_28 (dk_at dksX7_areRows_0 9 rfl rfl)
theorem dX7_areRows_10 : decode cX7_areRows 10 = .ok (.invokevirtual 116, 3) := dk_182 0 116 (dk_at dksX7_areRows_0 10 rfl rfl)
theorem dX7_areRows_13 : decode cX7_areRows 13 = .ok (.ifCond .eq 7, 3) := dk_153 0 7 (dk_at dksX7_areRows_0 13 rfl rfl)
theorem dX7_areRows_16 : decode cX7_areRows 16 = .ok (.iconst 1, 1) := dk_4 (dk_at dksX7_areRows_0 16 rfl rfl)
theorem dX7_areRows_17 : decode cX7_areRows 17 = .ok (.goto 4, 3) := dk_167 0 4 (dk_at dksX7_areRows_0 17 rfl rfl)
theorem dX7_areRows_20 : decode cX7_areRows 20 = .ok (.iconst 0, 1) := dk_3 (dk_at dksX7_areRows_0 20 rfl rfl)
theorem dX7_areRows_21 : decode cX7_areRows 21 = .ok (.ireturn, 1) := dk_172 (dk_at dksX7_areRows_0 21 rfl rfl)
abbrev cX7_isRow : ByteArray := prog_32_method_6_code
def yX7_isRow : MethodName := ⟨RX7, "isRow", "(I)Z"⟩
def dkwX7_isRow_3 : List UInt8 := [167, 255, 209, 28, 4, 42, 180, 0, 7, 120, 4, 100, 160, 0, 7, 4, 167, 0, 4, 3, 172]
abbrev dktX7_isRow_3 : List UInt8 := dkwX7_isRow_3 ++ []
def dkwX7_isRow_2 : List UInt8 := [42, 180, 0, 7, 163, 0, 12, 4, 21, 4, 4, 100, 120, 167, 0, 4, 3, 128, 61, 132, 3, 1]
abbrev dktX7_isRow_2 : List UInt8 := dkwX7_isRow_2 ++ dktX7_isRow_3
def dkwX7_isRow_1 : List UInt8 := [42, 180, 0, 7, 162, 0, 45, 42, 27, 29, 182, 0, 112, 54, 4, 28, 21, 4, 4, 161, 0, 21, 21, 4]
abbrev dktX7_isRow_1 : List UInt8 := dkwX7_isRow_1 ++ dktX7_isRow_2
def dkwX7_isRow_0 : List UInt8 := [27, 155, 0, 16, 27, 42, 180, 0, 44, 42, 180, 0, 7, 46, 161, 0, 5, 3, 172, 3, 61, 3, 62, 29]
abbrev dktX7_isRow_0 : List UInt8 := dkwX7_isRow_0 ++ dktX7_isRow_1
theorem dksX7_isRow_0 : cX7_isRow.data.toList.drop 0 = dktX7_isRow_0 := by decide +kernel
theorem dksX7_isRow_1 : cX7_isRow.data.toList.drop 24 = dktX7_isRow_1 := dk_seg dksX7_isRow_0 24 rfl rfl
theorem dksX7_isRow_2 : cX7_isRow.data.toList.drop 48 = dktX7_isRow_2 := dk_seg dksX7_isRow_1 24 rfl rfl
theorem dksX7_isRow_3 : cX7_isRow.data.toList.drop 70 = dktX7_isRow_3 := dk_seg dksX7_isRow_2 22 rfl rfl
theorem dX7_isRow_0 : decode cX7_isRow 0 = .ok (.iload_n 1, 1) := dk_27 (dk_at dksX7_isRow_0 0 rfl rfl)
theorem dX7_isRow_1 : decode cX7_isRow 1 = .ok (.ifCond .lt 16, 3) := dk_155 0 16 (dk_at dksX7_isRow_0 1 rfl rfl)
theorem dX7_isRow_4 : decode cX7_isRow 4 = .ok (.iload_n 1, 1) := dk_27 (dk_at dksX7_isRow_0 4 rfl rfl)
theorem dX7_isRow_5 : decode cX7_isRow 5 = .ok (.aload_n 0, 1) := dk_42 (dk_at dksX7_isRow_0 5 rfl rfl)
theorem dX7_isRow_6 : decode cX7_isRow 6 = .ok (.getfield 44, 3) := dk_180 0 44 (dk_at dksX7_isRow_0 6 rfl rfl)
theorem dX7_isRow_9 : decode cX7_isRow 9 = .ok (.aload_n 0, 1) := dk_42 (dk_at dksX7_isRow_0 9 rfl rfl)
theorem dX7_isRow_10 : decode cX7_isRow 10 = .ok (.getfield 7, 3) := dk_180 0 7 (dk_at dksX7_isRow_0 10 rfl rfl)
theorem dX7_isRow_13 : decode cX7_isRow 13 = .ok (.iaload, 1) := dk_46 (dk_at dksX7_isRow_0 13 rfl rfl)
theorem dX7_isRow_14 : decode cX7_isRow 14 = .ok (.if_icmp .lt 5, 3) := dk_161 0 5 (dk_at dksX7_isRow_0 14 rfl rfl)
theorem dX7_isRow_17 : decode cX7_isRow 17 = .ok (.iconst 0, 1) := dk_3 (dk_at dksX7_isRow_0 17 rfl rfl)
theorem dX7_isRow_18 : decode cX7_isRow 18 = .ok (.ireturn, 1) := dk_172 (dk_at dksX7_isRow_0 18 rfl rfl)
theorem dX7_isRow_19 : decode cX7_isRow 19 = .ok (.iconst 0, 1) := dk_3 (dk_at dksX7_isRow_0 19 rfl rfl)
theorem dX7_isRow_20 : decode cX7_isRow 20 = .ok (.istore_n 2, 1) := dk_61 (dk_at dksX7_isRow_0 20 rfl rfl)
theorem dX7_isRow_21 : decode cX7_isRow 21 = .ok (.iconst 0, 1) := dk_3 (dk_at dksX7_isRow_0 21 rfl rfl)
theorem dX7_isRow_22 : decode cX7_isRow 22 = .ok (.istore_n 3, 1) := dk_62 (dk_at dksX7_isRow_0 22 rfl rfl)
theorem dX7_isRow_23 : decode cX7_isRow 23 = .ok (.iload_n 3, 1) := dk_29 (dk_at dksX7_isRow_0 23 rfl rfl)
theorem dX7_isRow_24 : decode cX7_isRow 24 = .ok (.aload_n 0, 1) := dk_42 (dk_at dksX7_isRow_1 0 rfl rfl)
theorem dX7_isRow_25 : decode cX7_isRow 25 = .ok (.getfield 7, 3) := dk_180 0 7 (dk_at dksX7_isRow_1 1 rfl rfl)
theorem dX7_isRow_28 : decode cX7_isRow 28 = .ok (.if_icmp .ge 45, 3) := dk_162 0 45 (dk_at dksX7_isRow_1 4 rfl rfl)
theorem dX7_isRow_31 : decode cX7_isRow 31 = .ok (.aload_n 0, 1) := dk_42 (dk_at dksX7_isRow_1 7 rfl rfl)
theorem dX7_isRow_32 : decode cX7_isRow 32 = .ok (.iload_n 1, 1) := dk_27 (dk_at dksX7_isRow_1 8 rfl rfl)
theorem dX7_isRow_33 : decode cX7_isRow 33 = .ok (.iload_n 3, 1) := dk_29 (dk_at dksX7_isRow_1 9 rfl rfl)
theorem dX7_isRow_34 : decode cX7_isRow 34 = .ok (.invokevirtual 112, 3) := dk_182 0 112 (dk_at dksX7_isRow_1 10 rfl rfl)
theorem dX7_isRow_37 : decode cX7_isRow 37 = .ok (.istore 4, 2) := dk_54 4 (dk_at dksX7_isRow_1 13 rfl rfl)
theorem dX7_isRow_39 : decode cX7_isRow 39 = .ok (.iload_n 2, 1) := dk_28 (dk_at dksX7_isRow_1 15 rfl rfl)
theorem dX7_isRow_40 : decode cX7_isRow 40 = .ok (.iload 4, 2) := dk_21 4 (dk_at dksX7_isRow_1 16 rfl rfl)
theorem dX7_isRow_42 : decode cX7_isRow 42 = .ok (.iconst 1, 1) := dk_4 (dk_at dksX7_isRow_1 18 rfl rfl)
theorem dX7_isRow_43 : decode cX7_isRow 43 = .ok (.if_icmp .lt 21, 3) := dk_161 0 21 (dk_at dksX7_isRow_1 19 rfl rfl)
theorem dX7_isRow_46 : decode cX7_isRow 46 = .ok (.iload 4, 2) := dk_21 4 (dk_at dksX7_isRow_1 22 rfl rfl)
theorem dX7_isRow_48 : decode cX7_isRow 48 = .ok (.aload_n 0, 1) := dk_42 (dk_at dksX7_isRow_2 0 rfl rfl)
theorem dX7_isRow_49 : decode cX7_isRow 49 = .ok (.getfield 7, 3) := dk_180 0 7 (dk_at dksX7_isRow_2 1 rfl rfl)
theorem dX7_isRow_52 : decode cX7_isRow 52 = .ok (.if_icmp .gt 12, 3) := dk_163 0 12 (dk_at dksX7_isRow_2 4 rfl rfl)
theorem dX7_isRow_55 : decode cX7_isRow 55 = .ok (.iconst 1, 1) := dk_4 (dk_at dksX7_isRow_2 7 rfl rfl)
theorem dX7_isRow_56 : decode cX7_isRow 56 = .ok (.iload 4, 2) := dk_21 4 (dk_at dksX7_isRow_2 8 rfl rfl)
theorem dX7_isRow_58 : decode cX7_isRow 58 = .ok (.iconst 1, 1) := dk_4 (dk_at dksX7_isRow_2 10 rfl rfl)
theorem dX7_isRow_59 : decode cX7_isRow 59 = .ok (.isub, 1) := dk_100 (dk_at dksX7_isRow_2 11 rfl rfl)
theorem dX7_isRow_60 : decode cX7_isRow 60 = .ok (.ishl, 1) := dk_120 (dk_at dksX7_isRow_2 12 rfl rfl)
theorem dX7_isRow_61 : decode cX7_isRow 61 = .ok (.goto 4, 3) := dk_167 0 4 (dk_at dksX7_isRow_2 13 rfl rfl)
theorem dX7_isRow_64 : decode cX7_isRow 64 = .ok (.iconst 0, 1) := dk_3 (dk_at dksX7_isRow_2 16 rfl rfl)
theorem dX7_isRow_65 : decode cX7_isRow 65 = .ok (.ior, 1) := dk_128 (dk_at dksX7_isRow_2 17 rfl rfl)
theorem dX7_isRow_66 : decode cX7_isRow 66 = .ok (.istore_n 2, 1) := dk_61 (dk_at dksX7_isRow_2 18 rfl rfl)
theorem dX7_isRow_67 : decode cX7_isRow 67 = .ok (.iinc 3 1, 3) := dk_132 3 1 (dk_at dksX7_isRow_2 19 rfl rfl)
theorem dX7_isRow_70 : decode cX7_isRow 70 = .ok (.goto (-47), 3) := dk_167 255 209 (dk_at dksX7_isRow_3 0 rfl rfl)
theorem dX7_isRow_73 : decode cX7_isRow 73 = .ok (.iload_n 2, 1) := dk_28 (dk_at dksX7_isRow_3 3 rfl rfl)
theorem dX7_isRow_74 : decode cX7_isRow 74 = .ok (.iconst 1, 1) := dk_4 (dk_at dksX7_isRow_3 4 rfl rfl)
theorem dX7_isRow_75 : decode cX7_isRow 75 = .ok (.aload_n 0, 1) := dk_42 (dk_at dksX7_isRow_3 5 rfl rfl)
theorem dX7_isRow_76 : decode cX7_isRow 76 = .ok (.getfield 7, 3) := dk_180 0 7 (dk_at dksX7_isRow_3 6 rfl rfl)
theorem dX7_isRow_79 : decode cX7_isRow 79 = .ok (.ishl, 1) := dk_120 (dk_at dksX7_isRow_3 9 rfl rfl)
theorem dX7_isRow_80 : decode cX7_isRow 80 = .ok (.iconst 1, 1) := dk_4 (dk_at dksX7_isRow_3 10 rfl rfl)
theorem dX7_isRow_81 : decode cX7_isRow 81 = .ok (.isub, 1) := dk_100 (dk_at dksX7_isRow_3 11 rfl rfl)
theorem dX7_isRow_82 : decode cX7_isRow 82 = .ok (.if_icmp .ne 7, 3) := dk_160 0 7 (dk_at dksX7_isRow_3 12 rfl rfl)
theorem dX7_isRow_85 : decode cX7_isRow 85 = .ok (.iconst 1, 1) := dk_4 (dk_at dksX7_isRow_3 15 rfl rfl)
theorem dX7_isRow_86 : decode cX7_isRow 86 = .ok (.goto 4, 3) := dk_167 0 4 (dk_at dksX7_isRow_3 16 rfl rfl)
theorem dX7_isRow_89 : decode cX7_isRow 89 = .ok (.iconst 0, 1) := dk_3 (dk_at dksX7_isRow_3 19 rfl rfl)
theorem dX7_isRow_90 : decode cX7_isRow 90 = .ok (.ireturn, 1) := dk_172 (dk_at dksX7_isRow_3 20 rfl rfl)
abbrev cX7_digit : ByteArray := prog_32_method_5_code
def yX7_digit : MethodName := ⟨RX7, "digit", "(II)I"⟩
def dkwX7_digit_0 : List UInt8 := [27, 42, 180, 0, 44, 42, 180, 0, 7, 4, 100, 28, 100, 46, 108, 16, 10, 112, 172]
abbrev dktX7_digit_0 : List UInt8 := dkwX7_digit_0 ++ []
theorem dksX7_digit_0 : cX7_digit.data.toList.drop 0 = dktX7_digit_0 := by decide +kernel
theorem dX7_digit_0 : decode cX7_digit 0 = .ok (.iload_n 1, 1) := dk_27 (dk_at dksX7_digit_0 0 rfl rfl)
theorem dX7_digit_1 : decode cX7_digit 1 = .ok (.aload_n 0, 1) := dk_42 (dk_at dksX7_digit_0 1 rfl rfl)
theorem dX7_digit_2 : decode cX7_digit 2 = .ok (.getfield 44, 3) := dk_180 0 44 (dk_at dksX7_digit_0 2 rfl rfl)
theorem dX7_digit_5 : decode cX7_digit 5 = .ok (.aload_n 0, 1) := dk_42 (dk_at dksX7_digit_0 5 rfl rfl)
theorem dX7_digit_6 : decode cX7_digit 6 = .ok (.getfield 7, 3) := dk_180 0 7 (dk_at dksX7_digit_0 6 rfl rfl)
theorem dX7_digit_9 : decode cX7_digit 9 = .ok (.iconst 1, 1) := dk_4 (dk_at dksX7_digit_0 9 rfl rfl)
theorem dX7_digit_10 : decode cX7_digit 10 = .ok (.isub, 1) := dk_100 (dk_at dksX7_digit_0 10 rfl rfl)
theorem dX7_digit_11 : decode cX7_digit 11 = .ok (.iload_n 2, 1) := dk_28 (dk_at dksX7_digit_0 11 rfl rfl)
theorem dX7_digit_12 : decode cX7_digit 12 = .ok (.isub, 1) := dk_100 (dk_at dksX7_digit_0 12 rfl rfl)
theorem dX7_digit_13 : decode cX7_digit 13 = .ok (.iaload, 1) := dk_46 (dk_at dksX7_digit_0 13 rfl rfl)
theorem dX7_digit_14 : decode cX7_digit 14 = .ok (.idiv, 1) := dk_108 (dk_at dksX7_digit_0 14 rfl rfl)
theorem dX7_digit_15 : decode cX7_digit 15 = .ok (.bipush 10, 2) := dk_16 10 (dk_at dksX7_digit_0 15 rfl rfl)
theorem dX7_digit_17 : decode cX7_digit 17 = .ok (.irem, 1) := dk_112 (dk_at dksX7_digit_0 17 rfl rfl)
theorem dX7_digit_18 : decode cX7_digit 18 = .ok (.ireturn, 1) := dk_172 (dk_at dksX7_digit_0 18 rfl rfl)
abbrev cX7_isBelow : ByteArray := prog_32_method_11_code
def yX7_isBelow : MethodName := ⟨RX7, "isBelow", "(II)Z"⟩
def dkwX7_isBelow_0 : List UInt8 := [42, 27, 182, 0, 120, 42, 28, 182, 0, 120, 2, 130, 126, 154, 0, 7, 4, 167, 0, 4, 3, 172]
abbrev dktX7_isBelow_0 : List UInt8 := dkwX7_isBelow_0 ++ []
theorem dksX7_isBelow_0 : cX7_isBelow.data.toList.drop 0 = dktX7_isBelow_0 := by decide +kernel
theorem dX7_isBelow_0 : decode cX7_isBelow 0 = .ok (.aload_n 0, 1) := dk_42 (dk_at dksX7_isBelow_0 0 rfl rfl)
theorem dX7_isBelow_1 : decode cX7_isBelow 1 = .ok (.iload_n 1, 1) := dk_27 (dk_at dksX7_isBelow_0 1 rfl rfl)
theorem dX7_isBelow_2 : decode cX7_isBelow 2 = .ok (.invokevirtual 120, 3) := dk_182 0 120 (dk_at dksX7_isBelow_0 2 rfl rfl)
theorem dX7_isBelow_5 : decode cX7_isBelow 5 = .ok (.aload_n 0, 1) := dk_42 (dk_at dksX7_isBelow_0 5 rfl rfl)
theorem dX7_isBelow_6 : decode cX7_isBelow 6 = .ok (.iload_n 2, 1) := dk_28 (dk_at dksX7_isBelow_0 6 rfl rfl)
theorem dX7_isBelow_7 : decode cX7_isBelow 7 = .ok (.invokevirtual 120, 3) := dk_182 0 120 (dk_at dksX7_isBelow_0 7 rfl rfl)
theorem dX7_isBelow_10 : decode cX7_isBelow 10 = .ok (.iconst (-1), 1) := dk_2 (dk_at dksX7_isBelow_0 10 rfl rfl)
theorem dX7_isBelow_11 : decode cX7_isBelow 11 = .ok (.ixor, 1) := dk_130 (dk_at dksX7_isBelow_0 11 rfl rfl)
theorem dX7_isBelow_12 : decode cX7_isBelow 12 = .ok (.iand, 1) := dk_126 (dk_at dksX7_isBelow_0 12 rfl rfl)
theorem dX7_isBelow_13 : decode cX7_isBelow 13 = .ok (.ifCond .ne 7, 3) := dk_154 0 7 (dk_at dksX7_isBelow_0 13 rfl rfl)
theorem dX7_isBelow_16 : decode cX7_isBelow 16 = .ok (.iconst 1, 1) := dk_4 (dk_at dksX7_isBelow_0 16 rfl rfl)
theorem dX7_isBelow_17 : decode cX7_isBelow 17 = .ok (.goto 4, 3) := dk_167 0 4 (dk_at dksX7_isBelow_0 17 rfl rfl)
theorem dX7_isBelow_20 : decode cX7_isBelow 20 = .ok (.iconst 0, 1) := dk_3 (dk_at dksX7_isBelow_0 20 rfl rfl)
theorem dX7_isBelow_21 : decode cX7_isBelow 21 = .ok (.ireturn, 1) := dk_172 (dk_at dksX7_isBelow_0 21 rfl rfl)
abbrev cX7_swapped : ByteArray := prog_32_method_10_code
def yX7_swapped : MethodName := ⟨RX7, "swapped", "(I)I"⟩
def dkwX7_swapped_3 : List UInt8 := [167, 0, 4, 3, 128, 61, 132, 4, 1, 167, 255, 195, 132, 3, 1, 167, 255, 176, 28, 172]
abbrev dktX7_swapped_3 : List UInt8 := dkwX7_swapped_3 ++ []
def dkwX7_swapped_2 : List UInt8 := [21, 6, 164, 0, 24, 4, 21, 5, 4, 100, 21, 5, 5, 100, 104, 5, 108, 21, 6, 96, 4, 100, 120]
abbrev dktX7_swapped_2 : List UInt8 := dkwX7_swapped_2 ++ dktX7_swapped_3
def dkwX7_swapped_1 : List UInt8 := [162, 0, 58, 42, 27, 29, 182, 0, 112, 54, 5, 42, 27, 21, 4, 182, 0, 112, 54, 6, 28, 21, 5]
abbrev dktX7_swapped_1 : List UInt8 := dkwX7_swapped_1 ++ dktX7_swapped_2
def dkwX7_swapped_0 : List UInt8 := [3, 61, 3, 62, 29, 42, 180, 0, 7, 162, 0, 78, 29, 4, 96, 54, 4, 21, 4, 42, 180, 0, 7]
abbrev dktX7_swapped_0 : List UInt8 := dkwX7_swapped_0 ++ dktX7_swapped_1
theorem dksX7_swapped_0 : cX7_swapped.data.toList.drop 0 = dktX7_swapped_0 := by decide +kernel
theorem dksX7_swapped_1 : cX7_swapped.data.toList.drop 23 = dktX7_swapped_1 := dk_seg dksX7_swapped_0 23 rfl rfl
theorem dksX7_swapped_2 : cX7_swapped.data.toList.drop 46 = dktX7_swapped_2 := dk_seg dksX7_swapped_1 23 rfl rfl
theorem dksX7_swapped_3 : cX7_swapped.data.toList.drop 69 = dktX7_swapped_3 := dk_seg dksX7_swapped_2 23 rfl rfl
theorem dX7_swapped_0 : decode cX7_swapped 0 = .ok (.iconst 0, 1) := dk_3 (dk_at dksX7_swapped_0 0 rfl rfl)
theorem dX7_swapped_1 : decode cX7_swapped 1 = .ok (.istore_n 2, 1) := dk_61 (dk_at dksX7_swapped_0 1 rfl rfl)
theorem dX7_swapped_2 : decode cX7_swapped 2 = .ok (.iconst 0, 1) := dk_3 (dk_at dksX7_swapped_0 2 rfl rfl)
theorem dX7_swapped_3 : decode cX7_swapped 3 = .ok (.istore_n 3, 1) := dk_62 (dk_at dksX7_swapped_0 3 rfl rfl)
theorem dX7_swapped_4 : decode cX7_swapped 4 = .ok (.iload_n 3, 1) := dk_29 (dk_at dksX7_swapped_0 4 rfl rfl)
theorem dX7_swapped_5 : decode cX7_swapped 5 = .ok (.aload_n 0, 1) := dk_42 (dk_at dksX7_swapped_0 5 rfl rfl)
theorem dX7_swapped_6 : decode cX7_swapped 6 = .ok (.getfield 7, 3) := dk_180 0 7 (dk_at dksX7_swapped_0 6 rfl rfl)
theorem dX7_swapped_9 : decode cX7_swapped 9 = .ok (.if_icmp .ge 78, 3) := dk_162 0 78 (dk_at dksX7_swapped_0 9 rfl rfl)
theorem dX7_swapped_12 : decode cX7_swapped 12 = .ok (.iload_n 3, 1) := dk_29 (dk_at dksX7_swapped_0 12 rfl rfl)
theorem dX7_swapped_13 : decode cX7_swapped 13 = .ok (.iconst 1, 1) := dk_4 (dk_at dksX7_swapped_0 13 rfl rfl)
theorem dX7_swapped_14 : decode cX7_swapped 14 = .ok (.iadd, 1) := dk_96 (dk_at dksX7_swapped_0 14 rfl rfl)
theorem dX7_swapped_15 : decode cX7_swapped 15 = .ok (.istore 4, 2) := dk_54 4 (dk_at dksX7_swapped_0 15 rfl rfl)
theorem dX7_swapped_17 : decode cX7_swapped 17 = .ok (.iload 4, 2) := dk_21 4 (dk_at dksX7_swapped_0 17 rfl rfl)
theorem dX7_swapped_19 : decode cX7_swapped 19 = .ok (.aload_n 0, 1) := dk_42 (dk_at dksX7_swapped_0 19 rfl rfl)
theorem dX7_swapped_20 : decode cX7_swapped 20 = .ok (.getfield 7, 3) := dk_180 0 7 (dk_at dksX7_swapped_0 20 rfl rfl)
theorem dX7_swapped_23 : decode cX7_swapped 23 = .ok (.if_icmp .ge 58, 3) := dk_162 0 58 (dk_at dksX7_swapped_1 0 rfl rfl)
theorem dX7_swapped_26 : decode cX7_swapped 26 = .ok (.aload_n 0, 1) := dk_42 (dk_at dksX7_swapped_1 3 rfl rfl)
theorem dX7_swapped_27 : decode cX7_swapped 27 = .ok (.iload_n 1, 1) := dk_27 (dk_at dksX7_swapped_1 4 rfl rfl)
theorem dX7_swapped_28 : decode cX7_swapped 28 = .ok (.iload_n 3, 1) := dk_29 (dk_at dksX7_swapped_1 5 rfl rfl)
theorem dX7_swapped_29 : decode cX7_swapped 29 = .ok (.invokevirtual 112, 3) := dk_182 0 112 (dk_at dksX7_swapped_1 6 rfl rfl)
theorem dX7_swapped_32 : decode cX7_swapped 32 = .ok (.istore 5, 2) := dk_54 5 (dk_at dksX7_swapped_1 9 rfl rfl)
theorem dX7_swapped_34 : decode cX7_swapped 34 = .ok (.aload_n 0, 1) := dk_42 (dk_at dksX7_swapped_1 11 rfl rfl)
theorem dX7_swapped_35 : decode cX7_swapped 35 = .ok (.iload_n 1, 1) := dk_27 (dk_at dksX7_swapped_1 12 rfl rfl)
theorem dX7_swapped_36 : decode cX7_swapped 36 = .ok (.iload 4, 2) := dk_21 4 (dk_at dksX7_swapped_1 13 rfl rfl)
theorem dX7_swapped_38 : decode cX7_swapped 38 = .ok (.invokevirtual 112, 3) := dk_182 0 112 (dk_at dksX7_swapped_1 15 rfl rfl)
theorem dX7_swapped_41 : decode cX7_swapped 41 = .ok (.istore 6, 2) := dk_54 6 (dk_at dksX7_swapped_1 18 rfl rfl)
theorem dX7_swapped_43 : decode cX7_swapped 43 = .ok (.iload_n 2, 1) := dk_28 (dk_at dksX7_swapped_1 20 rfl rfl)
theorem dX7_swapped_44 : decode cX7_swapped 44 = .ok (.iload 5, 2) := dk_21 5 (dk_at dksX7_swapped_1 21 rfl rfl)
theorem dX7_swapped_46 : decode cX7_swapped 46 = .ok (.iload 6, 2) := dk_21 6 (dk_at dksX7_swapped_2 0 rfl rfl)
theorem dX7_swapped_48 : decode cX7_swapped 48 = .ok (.if_icmp .le 24, 3) := dk_164 0 24 (dk_at dksX7_swapped_2 2 rfl rfl)
theorem dX7_swapped_51 : decode cX7_swapped 51 = .ok (.iconst 1, 1) := dk_4 (dk_at dksX7_swapped_2 5 rfl rfl)
theorem dX7_swapped_52 : decode cX7_swapped 52 = .ok (.iload 5, 2) := dk_21 5 (dk_at dksX7_swapped_2 6 rfl rfl)
theorem dX7_swapped_54 : decode cX7_swapped 54 = .ok (.iconst 1, 1) := dk_4 (dk_at dksX7_swapped_2 8 rfl rfl)
theorem dX7_swapped_55 : decode cX7_swapped 55 = .ok (.isub, 1) := dk_100 (dk_at dksX7_swapped_2 9 rfl rfl)
theorem dX7_swapped_56 : decode cX7_swapped 56 = .ok (.iload 5, 2) := dk_21 5 (dk_at dksX7_swapped_2 10 rfl rfl)
theorem dX7_swapped_58 : decode cX7_swapped 58 = .ok (.iconst 2, 1) := dk_5 (dk_at dksX7_swapped_2 12 rfl rfl)
theorem dX7_swapped_59 : decode cX7_swapped 59 = .ok (.isub, 1) := dk_100 (dk_at dksX7_swapped_2 13 rfl rfl)
theorem dX7_swapped_60 : decode cX7_swapped 60 = .ok (.imul, 1) := dk_104 (dk_at dksX7_swapped_2 14 rfl rfl)
theorem dX7_swapped_61 : decode cX7_swapped 61 = .ok (.iconst 2, 1) := dk_5 (dk_at dksX7_swapped_2 15 rfl rfl)
theorem dX7_swapped_62 : decode cX7_swapped 62 = .ok (.idiv, 1) := dk_108 (dk_at dksX7_swapped_2 16 rfl rfl)
theorem dX7_swapped_63 : decode cX7_swapped 63 = .ok (.iload 6, 2) := dk_21 6 (dk_at dksX7_swapped_2 17 rfl rfl)
theorem dX7_swapped_65 : decode cX7_swapped 65 = .ok (.iadd, 1) := dk_96 (dk_at dksX7_swapped_2 19 rfl rfl)
theorem dX7_swapped_66 : decode cX7_swapped 66 = .ok (.iconst 1, 1) := dk_4 (dk_at dksX7_swapped_2 20 rfl rfl)
theorem dX7_swapped_67 : decode cX7_swapped 67 = .ok (.isub, 1) := dk_100 (dk_at dksX7_swapped_2 21 rfl rfl)
theorem dX7_swapped_68 : decode cX7_swapped 68 = .ok (.ishl, 1) := dk_120 (dk_at dksX7_swapped_2 22 rfl rfl)
theorem dX7_swapped_69 : decode cX7_swapped 69 = .ok (.goto 4, 3) := dk_167 0 4 (dk_at dksX7_swapped_3 0 rfl rfl)
theorem dX7_swapped_72 : decode cX7_swapped 72 = .ok (.iconst 0, 1) := dk_3 (dk_at dksX7_swapped_3 3 rfl rfl)
theorem dX7_swapped_73 : decode cX7_swapped 73 = .ok (.ior, 1) := dk_128 (dk_at dksX7_swapped_3 4 rfl rfl)
theorem dX7_swapped_74 : decode cX7_swapped 74 = .ok (.istore_n 2, 1) := dk_61 (dk_at dksX7_swapped_3 5 rfl rfl)
theorem dX7_swapped_75 : decode cX7_swapped 75 = .ok (.iinc 4 1, 3) := dk_132 4 1 (dk_at dksX7_swapped_3 6 rfl rfl)
theorem dX7_swapped_78 : decode cX7_swapped 78 = .ok (.goto (-61), 3) := dk_167 255 195 (dk_at dksX7_swapped_3 9 rfl rfl)
theorem dX7_swapped_81 : decode cX7_swapped 81 = .ok (.iinc 3 1, 3) := dk_132 3 1 (dk_at dksX7_swapped_3 12 rfl rfl)
theorem dX7_swapped_84 : decode cX7_swapped 84 = .ok (.goto (-80), 3) := dk_167 255 176 (dk_at dksX7_swapped_3 15 rfl rfl)
theorem dX7_swapped_87 : decode cX7_swapped 87 = .ok (.iload_n 2, 1) := dk_28 (dk_at dksX7_swapped_3 18 rfl rfl)
theorem dX7_swapped_88 : decode cX7_swapped 88 = .ok (.ireturn, 1) := dk_172 (dk_at dksX7_swapped_3 19 rfl rfl)
abbrev cX7_meet : ByteArray := prog_32_method_18_code
def yX7_meet : MethodName := ⟨RX7, "meet", "(II)I"⟩
def dkwX7_meet_0 : List UInt8 := [42, 27, 28, 182, 0, 141, 153, 0, 12, 42, 27, 28, 182, 0, 148, 167, 0, 4, 2, 172]
abbrev dktX7_meet_0 : List UInt8 := dkwX7_meet_0 ++ []
theorem dksX7_meet_0 : cX7_meet.data.toList.drop 0 = dktX7_meet_0 := by decide +kernel
theorem dX7_meet_0 : decode cX7_meet 0 = .ok (.aload_n 0, 1) := dk_42 (dk_at dksX7_meet_0 0 rfl rfl)
theorem dX7_meet_1 : decode cX7_meet 1 = .ok (.iload_n 1, 1) := dk_27 (dk_at dksX7_meet_0 1 rfl rfl)
theorem dX7_meet_2 : decode cX7_meet 2 = .ok (.iload_n 2, 1) := dk_28 (dk_at dksX7_meet_0 2 rfl rfl)
theorem dX7_meet_3 : decode cX7_meet 3 = .ok (.invokevirtual 141, 3) := dk_182 0 141 (dk_at dksX7_meet_0 3 rfl rfl)
theorem dX7_meet_6 : decode cX7_meet 6 = .ok (.ifCond .eq 12, 3) := dk_153 0 12 (dk_at dksX7_meet_0 6 rfl rfl)
theorem dX7_meet_9 : decode cX7_meet 9 = .ok (.aload_n 0, 1) := dk_42 (dk_at dksX7_meet_0 9 rfl rfl)
theorem dX7_meet_10 : decode cX7_meet 10 = .ok (.iload_n 1, 1) := dk_27 (dk_at dksX7_meet_0 10 rfl rfl)
theorem dX7_meet_11 : decode cX7_meet 11 = .ok (.iload_n 2, 1) := dk_28 (dk_at dksX7_meet_0 11 rfl rfl)
theorem dX7_meet_12 : decode cX7_meet 12 = .ok (.invokevirtual 148, 3) := dk_182 0 148 (dk_at dksX7_meet_0 12 rfl rfl)
theorem dX7_meet_15 : decode cX7_meet 15 = .ok (.goto 4, 3) := dk_167 0 4 (dk_at dksX7_meet_0 15 rfl rfl)
theorem dX7_meet_18 : decode cX7_meet 18 = .ok (.iconst (-1), 1) := dk_2 (dk_at dksX7_meet_0 18 rfl rfl)
theorem dX7_meet_19 : decode cX7_meet 19 = .ok (.ireturn, 1) := dk_172 (dk_at dksX7_meet_0 19 rfl rfl)
abbrev cX7_meetOf : ByteArray := prog_32_method_14_code
def yX7_meetOf : MethodName := ⟨RX7, "meetOf", "(II)I"⟩
def dkwX7_meetOf_3 : List UInt8 := [184, 0, 127, 54, 5, 42, 21, 6, 182, 0, 124, 54, 4, 132, 6, 1, 167, 255, 191, 21, 4, 172]
abbrev dktX7_meetOf_3 : List UInt8 := dkwX7_meetOf_3 ++ []
def dkwX7_meetOf_2 : List UInt8 := [21, 7, 29, 2, 130, 126, 154, 0, 30, 21, 7, 133, 184, 0, 127, 21, 5, 164, 0, 19, 21, 7, 133]
abbrev dktX7_meetOf_2 : List UInt8 := dkwX7_meetOf_2 ++ dktX7_meetOf_3
def dkwX7_meetOf_1 : List UInt8 := [180, 0, 47, 42, 180, 0, 7, 46, 162, 0, 57, 42, 42, 21, 6, 182, 0, 124, 182, 0, 120, 54, 7]
abbrev dktX7_meetOf_1 : List UInt8 := dkwX7_meetOf_1 ++ dktX7_meetOf_2
def dkwX7_meetOf_0 : List UInt8 := [42, 27, 182, 0, 120, 42, 28, 182, 0, 120, 126, 62, 3, 54, 4, 2, 54, 5, 3, 54, 6, 21, 6, 42]
abbrev dktX7_meetOf_0 : List UInt8 := dkwX7_meetOf_0 ++ dktX7_meetOf_1
theorem dksX7_meetOf_0 : cX7_meetOf.data.toList.drop 0 = dktX7_meetOf_0 := by decide +kernel
theorem dksX7_meetOf_1 : cX7_meetOf.data.toList.drop 24 = dktX7_meetOf_1 := dk_seg dksX7_meetOf_0 24 rfl rfl
theorem dksX7_meetOf_2 : cX7_meetOf.data.toList.drop 47 = dktX7_meetOf_2 := dk_seg dksX7_meetOf_1 23 rfl rfl
theorem dksX7_meetOf_3 : cX7_meetOf.data.toList.drop 70 = dktX7_meetOf_3 := dk_seg dksX7_meetOf_2 23 rfl rfl
theorem dX7_meetOf_0 : decode cX7_meetOf 0 = .ok (.aload_n 0, 1) := dk_42 (dk_at dksX7_meetOf_0 0 rfl rfl)
theorem dX7_meetOf_1 : decode cX7_meetOf 1 = .ok (.iload_n 1, 1) := dk_27 (dk_at dksX7_meetOf_0 1 rfl rfl)
theorem dX7_meetOf_2 : decode cX7_meetOf 2 = .ok (.invokevirtual 120, 3) := dk_182 0 120 (dk_at dksX7_meetOf_0 2 rfl rfl)
theorem dX7_meetOf_5 : decode cX7_meetOf 5 = .ok (.aload_n 0, 1) := dk_42 (dk_at dksX7_meetOf_0 5 rfl rfl)
theorem dX7_meetOf_6 : decode cX7_meetOf 6 = .ok (.iload_n 2, 1) := dk_28 (dk_at dksX7_meetOf_0 6 rfl rfl)
theorem dX7_meetOf_7 : decode cX7_meetOf 7 = .ok (.invokevirtual 120, 3) := dk_182 0 120 (dk_at dksX7_meetOf_0 7 rfl rfl)
theorem dX7_meetOf_10 : decode cX7_meetOf 10 = .ok (.iand, 1) := dk_126 (dk_at dksX7_meetOf_0 10 rfl rfl)
theorem dX7_meetOf_11 : decode cX7_meetOf 11 = .ok (.istore_n 3, 1) := dk_62 (dk_at dksX7_meetOf_0 11 rfl rfl)
theorem dX7_meetOf_12 : decode cX7_meetOf 12 = .ok (.iconst 0, 1) := dk_3 (dk_at dksX7_meetOf_0 12 rfl rfl)
theorem dX7_meetOf_13 : decode cX7_meetOf 13 = .ok (.istore 4, 2) := dk_54 4 (dk_at dksX7_meetOf_0 13 rfl rfl)
theorem dX7_meetOf_15 : decode cX7_meetOf 15 = .ok (.iconst (-1), 1) := dk_2 (dk_at dksX7_meetOf_0 15 rfl rfl)
theorem dX7_meetOf_16 : decode cX7_meetOf 16 = .ok (.istore 5, 2) := dk_54 5 (dk_at dksX7_meetOf_0 16 rfl rfl)
theorem dX7_meetOf_18 : decode cX7_meetOf 18 = .ok (.iconst 0, 1) := dk_3 (dk_at dksX7_meetOf_0 18 rfl rfl)
theorem dX7_meetOf_19 : decode cX7_meetOf 19 = .ok (.istore 6, 2) := dk_54 6 (dk_at dksX7_meetOf_0 19 rfl rfl)
theorem dX7_meetOf_21 : decode cX7_meetOf 21 = .ok (.iload 6, 2) := dk_21 6 (dk_at dksX7_meetOf_0 21 rfl rfl)
theorem dX7_meetOf_23 : decode cX7_meetOf 23 = .ok (.aload_n 0, 1) := dk_42 (dk_at dksX7_meetOf_0 23 rfl rfl)
theorem dX7_meetOf_24 : decode cX7_meetOf 24 = .ok (.getfield 47, 3) := dk_180 0 47 (dk_at dksX7_meetOf_1 0 rfl rfl)
theorem dX7_meetOf_27 : decode cX7_meetOf 27 = .ok (.aload_n 0, 1) := dk_42 (dk_at dksX7_meetOf_1 3 rfl rfl)
theorem dX7_meetOf_28 : decode cX7_meetOf 28 = .ok (.getfield 7, 3) := dk_180 0 7 (dk_at dksX7_meetOf_1 4 rfl rfl)
theorem dX7_meetOf_31 : decode cX7_meetOf 31 = .ok (.iaload, 1) := dk_46 (dk_at dksX7_meetOf_1 7 rfl rfl)
theorem dX7_meetOf_32 : decode cX7_meetOf 32 = .ok (.if_icmp .ge 57, 3) := dk_162 0 57 (dk_at dksX7_meetOf_1 8 rfl rfl)
theorem dX7_meetOf_35 : decode cX7_meetOf 35 = .ok (.aload_n 0, 1) := dk_42 (dk_at dksX7_meetOf_1 11 rfl rfl)
theorem dX7_meetOf_36 : decode cX7_meetOf 36 = .ok (.aload_n 0, 1) := dk_42 (dk_at dksX7_meetOf_1 12 rfl rfl)
theorem dX7_meetOf_37 : decode cX7_meetOf 37 = .ok (.iload 6, 2) := dk_21 6 (dk_at dksX7_meetOf_1 13 rfl rfl)
theorem dX7_meetOf_39 : decode cX7_meetOf 39 = .ok (.invokevirtual 124, 3) := dk_182 0 124 (dk_at dksX7_meetOf_1 15 rfl rfl)
theorem dX7_meetOf_42 : decode cX7_meetOf 42 = .ok (.invokevirtual 120, 3) := dk_182 0 120 (dk_at dksX7_meetOf_1 18 rfl rfl)
theorem dX7_meetOf_45 : decode cX7_meetOf 45 = .ok (.istore 7, 2) := dk_54 7 (dk_at dksX7_meetOf_1 21 rfl rfl)
theorem dX7_meetOf_47 : decode cX7_meetOf 47 = .ok (.iload 7, 2) := dk_21 7 (dk_at dksX7_meetOf_2 0 rfl rfl)
theorem dX7_meetOf_49 : decode cX7_meetOf 49 = .ok (.iload_n 3, 1) := dk_29 (dk_at dksX7_meetOf_2 2 rfl rfl)
theorem dX7_meetOf_50 : decode cX7_meetOf 50 = .ok (.iconst (-1), 1) := dk_2 (dk_at dksX7_meetOf_2 3 rfl rfl)
theorem dX7_meetOf_51 : decode cX7_meetOf 51 = .ok (.ixor, 1) := dk_130 (dk_at dksX7_meetOf_2 4 rfl rfl)
theorem dX7_meetOf_52 : decode cX7_meetOf 52 = .ok (.iand, 1) := dk_126 (dk_at dksX7_meetOf_2 5 rfl rfl)
theorem dX7_meetOf_53 : decode cX7_meetOf 53 = .ok (.ifCond .ne 30, 3) := dk_154 0 30 (dk_at dksX7_meetOf_2 6 rfl rfl)
theorem dX7_meetOf_56 : decode cX7_meetOf 56 = .ok (.iload 7, 2) := dk_21 7 (dk_at dksX7_meetOf_2 9 rfl rfl)
theorem dX7_meetOf_58 : decode cX7_meetOf 58 = .ok (.i2l, 1) := dk_133 (dk_at dksX7_meetOf_2 11 rfl rfl)
theorem dX7_meetOf_59 : decode cX7_meetOf 59 = .ok (.invokestatic 127, 3) := dk_184 0 127 (dk_at dksX7_meetOf_2 12 rfl rfl)
theorem dX7_meetOf_62 : decode cX7_meetOf 62 = .ok (.iload 5, 2) := dk_21 5 (dk_at dksX7_meetOf_2 15 rfl rfl)
theorem dX7_meetOf_64 : decode cX7_meetOf 64 = .ok (.if_icmp .le 19, 3) := dk_164 0 19 (dk_at dksX7_meetOf_2 17 rfl rfl)
theorem dX7_meetOf_67 : decode cX7_meetOf 67 = .ok (.iload 7, 2) := dk_21 7 (dk_at dksX7_meetOf_2 20 rfl rfl)
theorem dX7_meetOf_69 : decode cX7_meetOf 69 = .ok (.i2l, 1) := dk_133 (dk_at dksX7_meetOf_2 22 rfl rfl)
theorem dX7_meetOf_70 : decode cX7_meetOf 70 = .ok (.invokestatic 127, 3) := dk_184 0 127 (dk_at dksX7_meetOf_3 0 rfl rfl)
theorem dX7_meetOf_73 : decode cX7_meetOf 73 = .ok (.istore 5, 2) := dk_54 5 (dk_at dksX7_meetOf_3 3 rfl rfl)
theorem dX7_meetOf_75 : decode cX7_meetOf 75 = .ok (.aload_n 0, 1) := dk_42 (dk_at dksX7_meetOf_3 5 rfl rfl)
theorem dX7_meetOf_76 : decode cX7_meetOf 76 = .ok (.iload 6, 2) := dk_21 6 (dk_at dksX7_meetOf_3 6 rfl rfl)
theorem dX7_meetOf_78 : decode cX7_meetOf 78 = .ok (.invokevirtual 124, 3) := dk_182 0 124 (dk_at dksX7_meetOf_3 8 rfl rfl)
theorem dX7_meetOf_81 : decode cX7_meetOf 81 = .ok (.istore 4, 2) := dk_54 4 (dk_at dksX7_meetOf_3 11 rfl rfl)
theorem dX7_meetOf_83 : decode cX7_meetOf 83 = .ok (.iinc 6 1, 3) := dk_132 6 1 (dk_at dksX7_meetOf_3 13 rfl rfl)
theorem dX7_meetOf_86 : decode cX7_meetOf 86 = .ok (.goto (-65), 3) := dk_167 255 191 (dk_at dksX7_meetOf_3 16 rfl rfl)
theorem dX7_meetOf_89 : decode cX7_meetOf 89 = .ok (.iload 4, 2) := dk_21 4 (dk_at dksX7_meetOf_3 19 rfl rfl)
theorem dX7_meetOf_91 : decode cX7_meetOf 91 = .ok (.ireturn, 1) := dk_172 (dk_at dksX7_meetOf_3 21 rfl rfl)
abbrev cX7_rowBy : ByteArray := prog_32_method_12_code
def yX7_rowBy : MethodName := ⟨RX7, "rowBy", "(I)I"⟩
def dkwX7_rowBy_5 : List UInt8 := [61, 132, 5, 1, 167, 255, 147, 28, 172]
abbrev dktX7_rowBy_5 : List UInt8 := dkwX7_rowBy_5 ++ []
def dkwX7_rowBy_4 : List UInt8 := [4, 100, 54, 6, 132, 7, 1, 167, 255, 218, 29, 4, 21, 7, 120, 128, 62, 16, 10, 28, 104, 21, 7, 96]
abbrev dktX7_rowBy_4 : List UInt8 := dkwX7_rowBy_4 ++ dktX7_rowBy_5
def dkwX7_rowBy_3 : List UInt8 := [154, 0, 8, 21, 6, 158, 0, 29, 21, 6, 29, 133, 21, 7, 184, 0, 108, 153, 0, 7, 3, 167, 0, 4]
abbrev dktX7_rowBy_3 : List UInt8 := dkwX7_rowBy_3 ++ dktX7_rowBy_4
def dkwX7_rowBy_2 : List UInt8 := [180, 0, 7, 4, 100, 21, 5, 100, 46, 112, 54, 4, 4, 54, 7, 29, 133, 21, 7, 184, 0, 108]
abbrev dktX7_rowBy_2 : List UInt8 := dkwX7_rowBy_2 ++ dktX7_rowBy_3
def dkwX7_rowBy_1 : List UInt8 := [180, 0, 47, 42, 180, 0, 7, 4, 100, 21, 5, 100, 46, 108, 54, 6, 21, 4, 42, 180, 0, 47, 42]
abbrev dktX7_rowBy_1 : List UInt8 := dkwX7_rowBy_1 ++ dktX7_rowBy_2
def dkwX7_rowBy_0 : List UInt8 := [3, 61, 3, 62, 27, 54, 4, 3, 54, 5, 21, 5, 42, 180, 0, 7, 162, 0, 106, 21, 4, 42]
abbrev dktX7_rowBy_0 : List UInt8 := dkwX7_rowBy_0 ++ dktX7_rowBy_1
theorem dksX7_rowBy_0 : cX7_rowBy.data.toList.drop 0 = dktX7_rowBy_0 := by decide +kernel
theorem dksX7_rowBy_1 : cX7_rowBy.data.toList.drop 22 = dktX7_rowBy_1 := dk_seg dksX7_rowBy_0 22 rfl rfl
theorem dksX7_rowBy_2 : cX7_rowBy.data.toList.drop 45 = dktX7_rowBy_2 := dk_seg dksX7_rowBy_1 23 rfl rfl
theorem dksX7_rowBy_3 : cX7_rowBy.data.toList.drop 67 = dktX7_rowBy_3 := dk_seg dksX7_rowBy_2 22 rfl rfl
theorem dksX7_rowBy_4 : cX7_rowBy.data.toList.drop 91 = dktX7_rowBy_4 := dk_seg dksX7_rowBy_3 24 rfl rfl
theorem dksX7_rowBy_5 : cX7_rowBy.data.toList.drop 115 = dktX7_rowBy_5 := dk_seg dksX7_rowBy_4 24 rfl rfl
theorem dX7_rowBy_0 : decode cX7_rowBy 0 = .ok (.iconst 0, 1) := dk_3 (dk_at dksX7_rowBy_0 0 rfl rfl)
theorem dX7_rowBy_1 : decode cX7_rowBy 1 = .ok (.istore_n 2, 1) := dk_61 (dk_at dksX7_rowBy_0 1 rfl rfl)
theorem dX7_rowBy_2 : decode cX7_rowBy 2 = .ok (.iconst 0, 1) := dk_3 (dk_at dksX7_rowBy_0 2 rfl rfl)
theorem dX7_rowBy_3 : decode cX7_rowBy 3 = .ok (.istore_n 3, 1) := dk_62 (dk_at dksX7_rowBy_0 3 rfl rfl)
theorem dX7_rowBy_4 : decode cX7_rowBy 4 = .ok (.iload_n 1, 1) := dk_27 (dk_at dksX7_rowBy_0 4 rfl rfl)
theorem dX7_rowBy_5 : decode cX7_rowBy 5 = .ok (.istore 4, 2) := dk_54 4 (dk_at dksX7_rowBy_0 5 rfl rfl)
theorem dX7_rowBy_7 : decode cX7_rowBy 7 = .ok (.iconst 0, 1) := dk_3 (dk_at dksX7_rowBy_0 7 rfl rfl)
theorem dX7_rowBy_8 : decode cX7_rowBy 8 = .ok (.istore 5, 2) := dk_54 5 (dk_at dksX7_rowBy_0 8 rfl rfl)
theorem dX7_rowBy_10 : decode cX7_rowBy 10 = .ok (.iload 5, 2) := dk_21 5 (dk_at dksX7_rowBy_0 10 rfl rfl)
theorem dX7_rowBy_12 : decode cX7_rowBy 12 = .ok (.aload_n 0, 1) := dk_42 (dk_at dksX7_rowBy_0 12 rfl rfl)
theorem dX7_rowBy_13 : decode cX7_rowBy 13 = .ok (.getfield 7, 3) := dk_180 0 7 (dk_at dksX7_rowBy_0 13 rfl rfl)
theorem dX7_rowBy_16 : decode cX7_rowBy 16 = .ok (.if_icmp .ge 106, 3) := dk_162 0 106 (dk_at dksX7_rowBy_0 16 rfl rfl)
theorem dX7_rowBy_19 : decode cX7_rowBy 19 = .ok (.iload 4, 2) := dk_21 4 (dk_at dksX7_rowBy_0 19 rfl rfl)
theorem dX7_rowBy_21 : decode cX7_rowBy 21 = .ok (.aload_n 0, 1) := dk_42 (dk_at dksX7_rowBy_0 21 rfl rfl)
theorem dX7_rowBy_22 : decode cX7_rowBy 22 = .ok (.getfield 47, 3) := dk_180 0 47 (dk_at dksX7_rowBy_1 0 rfl rfl)
theorem dX7_rowBy_25 : decode cX7_rowBy 25 = .ok (.aload_n 0, 1) := dk_42 (dk_at dksX7_rowBy_1 3 rfl rfl)
theorem dX7_rowBy_26 : decode cX7_rowBy 26 = .ok (.getfield 7, 3) := dk_180 0 7 (dk_at dksX7_rowBy_1 4 rfl rfl)
theorem dX7_rowBy_29 : decode cX7_rowBy 29 = .ok (.iconst 1, 1) := dk_4 (dk_at dksX7_rowBy_1 7 rfl rfl)
theorem dX7_rowBy_30 : decode cX7_rowBy 30 = .ok (.isub, 1) := dk_100 (dk_at dksX7_rowBy_1 8 rfl rfl)
theorem dX7_rowBy_31 : decode cX7_rowBy 31 = .ok (.iload 5, 2) := dk_21 5 (dk_at dksX7_rowBy_1 9 rfl rfl)
theorem dX7_rowBy_33 : decode cX7_rowBy 33 = .ok (.isub, 1) := dk_100 (dk_at dksX7_rowBy_1 11 rfl rfl)
theorem dX7_rowBy_34 : decode cX7_rowBy 34 = .ok (.iaload, 1) := dk_46 (dk_at dksX7_rowBy_1 12 rfl rfl)
theorem dX7_rowBy_35 : decode cX7_rowBy 35 = .ok (.idiv, 1) := dk_108 (dk_at dksX7_rowBy_1 13 rfl rfl)
theorem dX7_rowBy_36 : decode cX7_rowBy 36 = .ok (.istore 6, 2) := dk_54 6 (dk_at dksX7_rowBy_1 14 rfl rfl)
theorem dX7_rowBy_38 : decode cX7_rowBy 38 = .ok (.iload 4, 2) := dk_21 4 (dk_at dksX7_rowBy_1 16 rfl rfl)
theorem dX7_rowBy_40 : decode cX7_rowBy 40 = .ok (.aload_n 0, 1) := dk_42 (dk_at dksX7_rowBy_1 18 rfl rfl)
theorem dX7_rowBy_41 : decode cX7_rowBy 41 = .ok (.getfield 47, 3) := dk_180 0 47 (dk_at dksX7_rowBy_1 19 rfl rfl)
theorem dX7_rowBy_44 : decode cX7_rowBy 44 = .ok (.aload_n 0, 1) := dk_42 (dk_at dksX7_rowBy_1 22 rfl rfl)
theorem dX7_rowBy_45 : decode cX7_rowBy 45 = .ok (.getfield 7, 3) := dk_180 0 7 (dk_at dksX7_rowBy_2 0 rfl rfl)
theorem dX7_rowBy_48 : decode cX7_rowBy 48 = .ok (.iconst 1, 1) := dk_4 (dk_at dksX7_rowBy_2 3 rfl rfl)
theorem dX7_rowBy_49 : decode cX7_rowBy 49 = .ok (.isub, 1) := dk_100 (dk_at dksX7_rowBy_2 4 rfl rfl)
theorem dX7_rowBy_50 : decode cX7_rowBy 50 = .ok (.iload 5, 2) := dk_21 5 (dk_at dksX7_rowBy_2 5 rfl rfl)
theorem dX7_rowBy_52 : decode cX7_rowBy 52 = .ok (.isub, 1) := dk_100 (dk_at dksX7_rowBy_2 7 rfl rfl)
theorem dX7_rowBy_53 : decode cX7_rowBy 53 = .ok (.iaload, 1) := dk_46 (dk_at dksX7_rowBy_2 8 rfl rfl)
theorem dX7_rowBy_54 : decode cX7_rowBy 54 = .ok (.irem, 1) := dk_112 (dk_at dksX7_rowBy_2 9 rfl rfl)
theorem dX7_rowBy_55 : decode cX7_rowBy 55 = .ok (.istore 4, 2) := dk_54 4 (dk_at dksX7_rowBy_2 10 rfl rfl)
theorem dX7_rowBy_57 : decode cX7_rowBy 57 = .ok (.iconst 1, 1) := dk_4 (dk_at dksX7_rowBy_2 12 rfl rfl)
theorem dX7_rowBy_58 : decode cX7_rowBy 58 = .ok (.istore 7, 2) := dk_54 7 (dk_at dksX7_rowBy_2 13 rfl rfl)
theorem dX7_rowBy_60 : decode cX7_rowBy 60 = .ok (.iload_n 3, 1) := dk_29 (dk_at dksX7_rowBy_2 15 rfl rfl)
theorem dX7_rowBy_61 : decode cX7_rowBy 61 = .ok (.i2l, 1) := dk_133 (dk_at dksX7_rowBy_2 16 rfl rfl)
theorem dX7_rowBy_62 : decode cX7_rowBy 62 = .ok (.iload 7, 2) := dk_21 7 (dk_at dksX7_rowBy_2 17 rfl rfl)
theorem dX7_rowBy_64 : decode cX7_rowBy 64 = .ok (.invokestatic 108, 3) := dk_184 0 108 (dk_at dksX7_rowBy_2 19 rfl rfl)
theorem dX7_rowBy_67 : decode cX7_rowBy 67 = .ok (.ifCond .ne 8, 3) := dk_154 0 8 (dk_at dksX7_rowBy_3 0 rfl rfl)
theorem dX7_rowBy_70 : decode cX7_rowBy 70 = .ok (.iload 6, 2) := dk_21 6 (dk_at dksX7_rowBy_3 3 rfl rfl)
theorem dX7_rowBy_72 : decode cX7_rowBy 72 = .ok (.ifCond .le 29, 3) := dk_158 0 29 (dk_at dksX7_rowBy_3 5 rfl rfl)
theorem dX7_rowBy_75 : decode cX7_rowBy 75 = .ok (.iload 6, 2) := dk_21 6 (dk_at dksX7_rowBy_3 8 rfl rfl)
theorem dX7_rowBy_77 : decode cX7_rowBy 77 = .ok (.iload_n 3, 1) := dk_29 (dk_at dksX7_rowBy_3 10 rfl rfl)
theorem dX7_rowBy_78 : decode cX7_rowBy 78 = .ok (.i2l, 1) := dk_133 (dk_at dksX7_rowBy_3 11 rfl rfl)
theorem dX7_rowBy_79 : decode cX7_rowBy 79 = .ok (.iload 7, 2) := dk_21 7 (dk_at dksX7_rowBy_3 12 rfl rfl)
theorem dX7_rowBy_81 : decode cX7_rowBy 81 = .ok (.invokestatic 108, 3) := dk_184 0 108 (dk_at dksX7_rowBy_3 14 rfl rfl)
theorem dX7_rowBy_84 : decode cX7_rowBy 84 = .ok (.ifCond .eq 7, 3) := dk_153 0 7 (dk_at dksX7_rowBy_3 17 rfl rfl)
theorem dX7_rowBy_87 : decode cX7_rowBy 87 = .ok (.iconst 0, 1) := dk_3 (dk_at dksX7_rowBy_3 20 rfl rfl)
theorem dX7_rowBy_88 : decode cX7_rowBy 88 = .ok (.goto 4, 3) := dk_167 0 4 (dk_at dksX7_rowBy_3 21 rfl rfl)
theorem dX7_rowBy_91 : decode cX7_rowBy 91 = .ok (.iconst 1, 1) := dk_4 (dk_at dksX7_rowBy_4 0 rfl rfl)
theorem dX7_rowBy_92 : decode cX7_rowBy 92 = .ok (.isub, 1) := dk_100 (dk_at dksX7_rowBy_4 1 rfl rfl)
theorem dX7_rowBy_93 : decode cX7_rowBy 93 = .ok (.istore 6, 2) := dk_54 6 (dk_at dksX7_rowBy_4 2 rfl rfl)
theorem dX7_rowBy_95 : decode cX7_rowBy 95 = .ok (.iinc 7 1, 3) := dk_132 7 1 (dk_at dksX7_rowBy_4 4 rfl rfl)
theorem dX7_rowBy_98 : decode cX7_rowBy 98 = .ok (.goto (-38), 3) := dk_167 255 218 (dk_at dksX7_rowBy_4 7 rfl rfl)
theorem dX7_rowBy_101 : decode cX7_rowBy 101 = .ok (.iload_n 3, 1) := dk_29 (dk_at dksX7_rowBy_4 10 rfl rfl)
theorem dX7_rowBy_102 : decode cX7_rowBy 102 = .ok (.iconst 1, 1) := dk_4 (dk_at dksX7_rowBy_4 11 rfl rfl)
theorem dX7_rowBy_103 : decode cX7_rowBy 103 = .ok (.iload 7, 2) := dk_21 7 (dk_at dksX7_rowBy_4 12 rfl rfl)
theorem dX7_rowBy_105 : decode cX7_rowBy 105 = .ok (.ishl, 1) := dk_120 (dk_at dksX7_rowBy_4 14 rfl rfl)
theorem dX7_rowBy_106 : decode cX7_rowBy 106 = .ok (.ior, 1) := dk_128 (dk_at dksX7_rowBy_4 15 rfl rfl)
theorem dX7_rowBy_107 : decode cX7_rowBy 107 = .ok (.istore_n 3, 1) := dk_62 (dk_at dksX7_rowBy_4 16 rfl rfl)
theorem dX7_rowBy_108 : decode cX7_rowBy 108 = .ok (.bipush 10, 2) := dk_16 10 (dk_at dksX7_rowBy_4 17 rfl rfl)
theorem dX7_rowBy_110 : decode cX7_rowBy 110 = .ok (.iload_n 2, 1) := dk_28 (dk_at dksX7_rowBy_4 19 rfl rfl)
theorem dX7_rowBy_111 : decode cX7_rowBy 111 = .ok (.imul, 1) := dk_104 (dk_at dksX7_rowBy_4 20 rfl rfl)
theorem dX7_rowBy_112 : decode cX7_rowBy 112 = .ok (.iload 7, 2) := dk_21 7 (dk_at dksX7_rowBy_4 21 rfl rfl)
theorem dX7_rowBy_114 : decode cX7_rowBy 114 = .ok (.iadd, 1) := dk_96 (dk_at dksX7_rowBy_4 23 rfl rfl)
theorem dX7_rowBy_115 : decode cX7_rowBy 115 = .ok (.istore_n 2, 1) := dk_61 (dk_at dksX7_rowBy_5 0 rfl rfl)
theorem dX7_rowBy_116 : decode cX7_rowBy 116 = .ok (.iinc 5 1, 3) := dk_132 5 1 (dk_at dksX7_rowBy_5 1 rfl rfl)
theorem dX7_rowBy_119 : decode cX7_rowBy 119 = .ok (.goto (-109), 3) := dk_167 255 147 (dk_at dksX7_rowBy_5 4 rfl rfl)
theorem dX7_rowBy_122 : decode cX7_rowBy 122 = .ok (.iload_n 2, 1) := dk_28 (dk_at dksX7_rowBy_5 7 rfl rfl)
theorem dX7_rowBy_123 : decode cX7_rowBy 123 = .ok (.ireturn, 1) := dk_172 (dk_at dksX7_rowBy_5 8 rfl rfl)
abbrev cX7_ones : ByteArray := prog_32_method_4_code
def yX7_ones : MethodName := ⟨RX7, "ones", "(J)I"⟩
def dkwX7_ones_1 : List UInt8 := [96, 61, 132, 3, 1, 167, 255, 231, 28, 172]
abbrev dktX7_ones_1 : List UInt8 := dkwX7_ones_1 ++ []
def dkwX7_ones_0 : List UInt8 := [3, 61, 3, 62, 29, 16, 64, 162, 0, 25, 28, 30, 29, 184, 0, 108, 153, 0, 7, 4, 167, 0, 4, 3]
abbrev dktX7_ones_0 : List UInt8 := dkwX7_ones_0 ++ dktX7_ones_1
theorem dksX7_ones_0 : cX7_ones.data.toList.drop 0 = dktX7_ones_0 := by decide +kernel
theorem dksX7_ones_1 : cX7_ones.data.toList.drop 24 = dktX7_ones_1 := dk_seg dksX7_ones_0 24 rfl rfl
theorem dX7_ones_0 : decode cX7_ones 0 = .ok (.iconst 0, 1) := dk_3 (dk_at dksX7_ones_0 0 rfl rfl)
theorem dX7_ones_1 : decode cX7_ones 1 = .ok (.istore_n 2, 1) := dk_61 (dk_at dksX7_ones_0 1 rfl rfl)
theorem dX7_ones_2 : decode cX7_ones 2 = .ok (.iconst 0, 1) := dk_3 (dk_at dksX7_ones_0 2 rfl rfl)
theorem dX7_ones_3 : decode cX7_ones 3 = .ok (.istore_n 3, 1) := dk_62 (dk_at dksX7_ones_0 3 rfl rfl)
theorem dX7_ones_4 : decode cX7_ones 4 = .ok (.iload_n 3, 1) := dk_29 (dk_at dksX7_ones_0 4 rfl rfl)
theorem dX7_ones_5 : decode cX7_ones 5 = .ok (.bipush 64, 2) := dk_16 64 (dk_at dksX7_ones_0 5 rfl rfl)
theorem dX7_ones_7 : decode cX7_ones 7 = .ok (.if_icmp .ge 25, 3) := dk_162 0 25 (dk_at dksX7_ones_0 7 rfl rfl)
theorem dX7_ones_10 : decode cX7_ones 10 = .ok (.iload_n 2, 1) := dk_28 (dk_at dksX7_ones_0 10 rfl rfl)
theorem dX7_ones_11 : decode cX7_ones 11 = .ok (.lload_n 0, 1) := dk_30 (dk_at dksX7_ones_0 11 rfl rfl)
theorem dX7_ones_12 : decode cX7_ones 12 = .ok (.iload_n 3, 1) := dk_29 (dk_at dksX7_ones_0 12 rfl rfl)
theorem dX7_ones_13 : decode cX7_ones 13 = .ok (.invokestatic 108, 3) := dk_184 0 108 (dk_at dksX7_ones_0 13 rfl rfl)
theorem dX7_ones_16 : decode cX7_ones 16 = .ok (.ifCond .eq 7, 3) := dk_153 0 7 (dk_at dksX7_ones_0 16 rfl rfl)
theorem dX7_ones_19 : decode cX7_ones 19 = .ok (.iconst 1, 1) := dk_4 (dk_at dksX7_ones_0 19 rfl rfl)
theorem dX7_ones_20 : decode cX7_ones 20 = .ok (.goto 4, 3) := dk_167 0 4 (dk_at dksX7_ones_0 20 rfl rfl)
theorem dX7_ones_23 : decode cX7_ones 23 = .ok (.iconst 0, 1) := dk_3 (dk_at dksX7_ones_0 23 rfl rfl)
theorem dX7_ones_24 : decode cX7_ones 24 = .ok (.iadd, 1) := dk_96 (dk_at dksX7_ones_1 0 rfl rfl)
theorem dX7_ones_25 : decode cX7_ones 25 = .ok (.istore_n 2, 1) := dk_61 (dk_at dksX7_ones_1 1 rfl rfl)
theorem dX7_ones_26 : decode cX7_ones 26 = .ok (.iinc 3 1, 3) := dk_132 3 1 (dk_at dksX7_ones_1 2 rfl rfl)
theorem dX7_ones_29 : decode cX7_ones 29 = .ok (.goto (-25), 3) := dk_167 255 231 (dk_at dksX7_ones_1 5 rfl rfl)
theorem dX7_ones_32 : decode cX7_ones 32 = .ok (.iload_n 2, 1) := dk_28 (dk_at dksX7_ones_1 8 rfl rfl)
theorem dX7_ones_33 : decode cX7_ones 33 = .ok (.ireturn, 1) := dk_172 (dk_at dksX7_ones_1 9 rfl rfl)
abbrev cX7_join : ByteArray := prog_32_method_19_code
def yX7_join : MethodName := ⟨RX7, "join", "(II)I"⟩
def dkwX7_join_0 : List UInt8 := [42, 27, 28, 182, 0, 141, 153, 0, 12, 42, 27, 28, 182, 0, 151, 167, 0, 4, 2, 172]
abbrev dktX7_join_0 : List UInt8 := dkwX7_join_0 ++ []
theorem dksX7_join_0 : cX7_join.data.toList.drop 0 = dktX7_join_0 := by decide +kernel
theorem dX7_join_0 : decode cX7_join 0 = .ok (.aload_n 0, 1) := dk_42 (dk_at dksX7_join_0 0 rfl rfl)
theorem dX7_join_1 : decode cX7_join 1 = .ok (.iload_n 1, 1) := dk_27 (dk_at dksX7_join_0 1 rfl rfl)
theorem dX7_join_2 : decode cX7_join 2 = .ok (.iload_n 2, 1) := dk_28 (dk_at dksX7_join_0 2 rfl rfl)
theorem dX7_join_3 : decode cX7_join 3 = .ok (.invokevirtual 141, 3) := dk_182 0 141 (dk_at dksX7_join_0 3 rfl rfl)
theorem dX7_join_6 : decode cX7_join 6 = .ok (.ifCond .eq 12, 3) := dk_153 0 12 (dk_at dksX7_join_0 6 rfl rfl)
theorem dX7_join_9 : decode cX7_join 9 = .ok (.aload_n 0, 1) := dk_42 (dk_at dksX7_join_0 9 rfl rfl)
theorem dX7_join_10 : decode cX7_join 10 = .ok (.iload_n 1, 1) := dk_27 (dk_at dksX7_join_0 10 rfl rfl)
theorem dX7_join_11 : decode cX7_join 11 = .ok (.iload_n 2, 1) := dk_28 (dk_at dksX7_join_0 11 rfl rfl)
theorem dX7_join_12 : decode cX7_join 12 = .ok (.invokevirtual 151, 3) := dk_182 0 151 (dk_at dksX7_join_0 12 rfl rfl)
theorem dX7_join_15 : decode cX7_join 15 = .ok (.goto 4, 3) := dk_167 0 4 (dk_at dksX7_join_0 15 rfl rfl)
theorem dX7_join_18 : decode cX7_join 18 = .ok (.iconst (-1), 1) := dk_2 (dk_at dksX7_join_0 18 rfl rfl)
theorem dX7_join_19 : decode cX7_join 19 = .ok (.ireturn, 1) := dk_172 (dk_at dksX7_join_0 19 rfl rfl)
abbrev cX7_joinOf : ByteArray := prog_32_method_15_code
def yX7_joinOf : MethodName := ⟨RX7, "joinOf", "(II)I"⟩
def dkwX7_joinOf_3 : List UInt8 := [184, 0, 127, 54, 5, 42, 21, 6, 182, 0, 124, 54, 4, 132, 6, 1, 167, 255, 191, 21, 4, 172]
abbrev dktX7_joinOf_3 : List UInt8 := dkwX7_joinOf_3 ++ []
def dkwX7_joinOf_2 : List UInt8 := [29, 21, 7, 2, 130, 126, 154, 0, 30, 21, 7, 133, 184, 0, 127, 21, 5, 162, 0, 19, 21, 7, 133]
abbrev dktX7_joinOf_2 : List UInt8 := dkwX7_joinOf_2 ++ dktX7_joinOf_3
def dkwX7_joinOf_1 : List UInt8 := [42, 180, 0, 47, 42, 180, 0, 7, 46, 162, 0, 57, 42, 42, 21, 6, 182, 0, 124, 182, 0, 120, 54, 7]
abbrev dktX7_joinOf_1 : List UInt8 := dkwX7_joinOf_1 ++ dktX7_joinOf_2
def dkwX7_joinOf_0 : List UInt8 := [42, 27, 182, 0, 120, 42, 28, 182, 0, 120, 128, 62, 3, 54, 4, 16, 99, 54, 5, 3, 54, 6, 21, 6]
abbrev dktX7_joinOf_0 : List UInt8 := dkwX7_joinOf_0 ++ dktX7_joinOf_1
theorem dksX7_joinOf_0 : cX7_joinOf.data.toList.drop 0 = dktX7_joinOf_0 := by decide +kernel
theorem dksX7_joinOf_1 : cX7_joinOf.data.toList.drop 24 = dktX7_joinOf_1 := dk_seg dksX7_joinOf_0 24 rfl rfl
theorem dksX7_joinOf_2 : cX7_joinOf.data.toList.drop 48 = dktX7_joinOf_2 := dk_seg dksX7_joinOf_1 24 rfl rfl
theorem dksX7_joinOf_3 : cX7_joinOf.data.toList.drop 71 = dktX7_joinOf_3 := dk_seg dksX7_joinOf_2 23 rfl rfl
theorem dX7_joinOf_0 : decode cX7_joinOf 0 = .ok (.aload_n 0, 1) := dk_42 (dk_at dksX7_joinOf_0 0 rfl rfl)
theorem dX7_joinOf_1 : decode cX7_joinOf 1 = .ok (.iload_n 1, 1) := dk_27 (dk_at dksX7_joinOf_0 1 rfl rfl)
theorem dX7_joinOf_2 : decode cX7_joinOf 2 = .ok (.invokevirtual 120, 3) := dk_182 0 120 (dk_at dksX7_joinOf_0 2 rfl rfl)
theorem dX7_joinOf_5 : decode cX7_joinOf 5 = .ok (.aload_n 0, 1) := dk_42 (dk_at dksX7_joinOf_0 5 rfl rfl)
theorem dX7_joinOf_6 : decode cX7_joinOf 6 = .ok (.iload_n 2, 1) := dk_28 (dk_at dksX7_joinOf_0 6 rfl rfl)
theorem dX7_joinOf_7 : decode cX7_joinOf 7 = .ok (.invokevirtual 120, 3) := dk_182 0 120 (dk_at dksX7_joinOf_0 7 rfl rfl)
theorem dX7_joinOf_10 : decode cX7_joinOf 10 = .ok (.ior, 1) := dk_128 (dk_at dksX7_joinOf_0 10 rfl rfl)
theorem dX7_joinOf_11 : decode cX7_joinOf 11 = .ok (.istore_n 3, 1) := dk_62 (dk_at dksX7_joinOf_0 11 rfl rfl)
theorem dX7_joinOf_12 : decode cX7_joinOf 12 = .ok (.iconst 0, 1) := dk_3 (dk_at dksX7_joinOf_0 12 rfl rfl)
theorem dX7_joinOf_13 : decode cX7_joinOf 13 = .ok (.istore 4, 2) := dk_54 4 (dk_at dksX7_joinOf_0 13 rfl rfl)
theorem dX7_joinOf_15 : decode cX7_joinOf 15 = .ok (.bipush 99, 2) := dk_16 99 (dk_at dksX7_joinOf_0 15 rfl rfl)
theorem dX7_joinOf_17 : decode cX7_joinOf 17 = .ok (.istore 5, 2) := dk_54 5 (dk_at dksX7_joinOf_0 17 rfl rfl)
theorem dX7_joinOf_19 : decode cX7_joinOf 19 = .ok (.iconst 0, 1) := dk_3 (dk_at dksX7_joinOf_0 19 rfl rfl)
theorem dX7_joinOf_20 : decode cX7_joinOf 20 = .ok (.istore 6, 2) := dk_54 6 (dk_at dksX7_joinOf_0 20 rfl rfl)
theorem dX7_joinOf_22 : decode cX7_joinOf 22 = .ok (.iload 6, 2) := dk_21 6 (dk_at dksX7_joinOf_0 22 rfl rfl)
theorem dX7_joinOf_24 : decode cX7_joinOf 24 = .ok (.aload_n 0, 1) := dk_42 (dk_at dksX7_joinOf_1 0 rfl rfl)
theorem dX7_joinOf_25 : decode cX7_joinOf 25 = .ok (.getfield 47, 3) := dk_180 0 47 (dk_at dksX7_joinOf_1 1 rfl rfl)
theorem dX7_joinOf_28 : decode cX7_joinOf 28 = .ok (.aload_n 0, 1) := dk_42 (dk_at dksX7_joinOf_1 4 rfl rfl)
theorem dX7_joinOf_29 : decode cX7_joinOf 29 = .ok (.getfield 7, 3) := dk_180 0 7 (dk_at dksX7_joinOf_1 5 rfl rfl)
theorem dX7_joinOf_32 : decode cX7_joinOf 32 = .ok (.iaload, 1) := dk_46 (dk_at dksX7_joinOf_1 8 rfl rfl)
theorem dX7_joinOf_33 : decode cX7_joinOf 33 = .ok (.if_icmp .ge 57, 3) := dk_162 0 57 (dk_at dksX7_joinOf_1 9 rfl rfl)
theorem dX7_joinOf_36 : decode cX7_joinOf 36 = .ok (.aload_n 0, 1) := dk_42 (dk_at dksX7_joinOf_1 12 rfl rfl)
theorem dX7_joinOf_37 : decode cX7_joinOf 37 = .ok (.aload_n 0, 1) := dk_42 (dk_at dksX7_joinOf_1 13 rfl rfl)
theorem dX7_joinOf_38 : decode cX7_joinOf 38 = .ok (.iload 6, 2) := dk_21 6 (dk_at dksX7_joinOf_1 14 rfl rfl)
theorem dX7_joinOf_40 : decode cX7_joinOf 40 = .ok (.invokevirtual 124, 3) := dk_182 0 124 (dk_at dksX7_joinOf_1 16 rfl rfl)
theorem dX7_joinOf_43 : decode cX7_joinOf 43 = .ok (.invokevirtual 120, 3) := dk_182 0 120 (dk_at dksX7_joinOf_1 19 rfl rfl)
theorem dX7_joinOf_46 : decode cX7_joinOf 46 = .ok (.istore 7, 2) := dk_54 7 (dk_at dksX7_joinOf_1 22 rfl rfl)
theorem dX7_joinOf_48 : decode cX7_joinOf 48 = .ok (.iload_n 3, 1) := dk_29 (dk_at dksX7_joinOf_2 0 rfl rfl)
theorem dX7_joinOf_49 : decode cX7_joinOf 49 = .ok (.iload 7, 2) := dk_21 7 (dk_at dksX7_joinOf_2 1 rfl rfl)
theorem dX7_joinOf_51 : decode cX7_joinOf 51 = .ok (.iconst (-1), 1) := dk_2 (dk_at dksX7_joinOf_2 3 rfl rfl)
theorem dX7_joinOf_52 : decode cX7_joinOf 52 = .ok (.ixor, 1) := dk_130 (dk_at dksX7_joinOf_2 4 rfl rfl)
theorem dX7_joinOf_53 : decode cX7_joinOf 53 = .ok (.iand, 1) := dk_126 (dk_at dksX7_joinOf_2 5 rfl rfl)
theorem dX7_joinOf_54 : decode cX7_joinOf 54 = .ok (.ifCond .ne 30, 3) := dk_154 0 30 (dk_at dksX7_joinOf_2 6 rfl rfl)
theorem dX7_joinOf_57 : decode cX7_joinOf 57 = .ok (.iload 7, 2) := dk_21 7 (dk_at dksX7_joinOf_2 9 rfl rfl)
theorem dX7_joinOf_59 : decode cX7_joinOf 59 = .ok (.i2l, 1) := dk_133 (dk_at dksX7_joinOf_2 11 rfl rfl)
theorem dX7_joinOf_60 : decode cX7_joinOf 60 = .ok (.invokestatic 127, 3) := dk_184 0 127 (dk_at dksX7_joinOf_2 12 rfl rfl)
theorem dX7_joinOf_63 : decode cX7_joinOf 63 = .ok (.iload 5, 2) := dk_21 5 (dk_at dksX7_joinOf_2 15 rfl rfl)
theorem dX7_joinOf_65 : decode cX7_joinOf 65 = .ok (.if_icmp .ge 19, 3) := dk_162 0 19 (dk_at dksX7_joinOf_2 17 rfl rfl)
theorem dX7_joinOf_68 : decode cX7_joinOf 68 = .ok (.iload 7, 2) := dk_21 7 (dk_at dksX7_joinOf_2 20 rfl rfl)
theorem dX7_joinOf_70 : decode cX7_joinOf 70 = .ok (.i2l, 1) := dk_133 (dk_at dksX7_joinOf_2 22 rfl rfl)
theorem dX7_joinOf_71 : decode cX7_joinOf 71 = .ok (.invokestatic 127, 3) := dk_184 0 127 (dk_at dksX7_joinOf_3 0 rfl rfl)
theorem dX7_joinOf_74 : decode cX7_joinOf 74 = .ok (.istore 5, 2) := dk_54 5 (dk_at dksX7_joinOf_3 3 rfl rfl)
theorem dX7_joinOf_76 : decode cX7_joinOf 76 = .ok (.aload_n 0, 1) := dk_42 (dk_at dksX7_joinOf_3 5 rfl rfl)
theorem dX7_joinOf_77 : decode cX7_joinOf 77 = .ok (.iload 6, 2) := dk_21 6 (dk_at dksX7_joinOf_3 6 rfl rfl)
theorem dX7_joinOf_79 : decode cX7_joinOf 79 = .ok (.invokevirtual 124, 3) := dk_182 0 124 (dk_at dksX7_joinOf_3 8 rfl rfl)
theorem dX7_joinOf_82 : decode cX7_joinOf 82 = .ok (.istore 4, 2) := dk_54 4 (dk_at dksX7_joinOf_3 11 rfl rfl)
theorem dX7_joinOf_84 : decode cX7_joinOf 84 = .ok (.iinc 6 1, 3) := dk_132 6 1 (dk_at dksX7_joinOf_3 13 rfl rfl)
theorem dX7_joinOf_87 : decode cX7_joinOf 87 = .ok (.goto (-65), 3) := dk_167 255 191 (dk_at dksX7_joinOf_3 16 rfl rfl)
theorem dX7_joinOf_90 : decode cX7_joinOf 90 = .ok (.iload 4, 2) := dk_21 4 (dk_at dksX7_joinOf_3 19 rfl rfl)
theorem dX7_joinOf_92 : decode cX7_joinOf 92 = .ok (.ireturn, 1) := dk_172 (dk_at dksX7_joinOf_3 21 rfl rfl)
abbrev cX7_of : ByteArray := prog_32_method_22_code
def yX7_of : MethodName := ⟨RX7, "of", "(II)I"⟩
def dkwX7_of_3 : List UInt8 := [172]
abbrev dktX7_of_3 : List UInt8 := dkwX7_of_3 ++ []
def dkwX7_of_2 : List UInt8 := [182, 0, 159, 167, 0, 21, 28, 5, 160, 0, 11, 42, 27, 182, 0, 162, 167, 0, 8, 42, 27, 182, 0, 165]
abbrev dktX7_of_2 : List UInt8 := dkwX7_of_2 ++ dktX7_of_3
def dkwX7_of_1 : List UInt8 := [154, 0, 15, 42, 27, 182, 0, 120, 133, 184, 0, 127, 167, 0, 34, 28, 4, 160, 0, 11, 42, 27]
abbrev dktX7_of_1 : List UInt8 := dkwX7_of_1 ++ dktX7_of_2
def dkwX7_of_0 : List UInt8 := [42, 27, 182, 0, 116, 153, 0, 15, 28, 133, 9, 20, 0, 157, 184, 0, 133, 154, 0, 5, 2, 172, 28]
abbrev dktX7_of_0 : List UInt8 := dkwX7_of_0 ++ dktX7_of_1
theorem dksX7_of_0 : cX7_of.data.toList.drop 0 = dktX7_of_0 := by decide +kernel
theorem dksX7_of_1 : cX7_of.data.toList.drop 23 = dktX7_of_1 := dk_seg dksX7_of_0 23 rfl rfl
theorem dksX7_of_2 : cX7_of.data.toList.drop 45 = dktX7_of_2 := dk_seg dksX7_of_1 22 rfl rfl
theorem dksX7_of_3 : cX7_of.data.toList.drop 69 = dktX7_of_3 := dk_seg dksX7_of_2 24 rfl rfl
theorem dX7_of_0 : decode cX7_of 0 = .ok (.aload_n 0, 1) := dk_42 (dk_at dksX7_of_0 0 rfl rfl)
theorem dX7_of_1 : decode cX7_of 1 = .ok (.iload_n 1, 1) := dk_27 (dk_at dksX7_of_0 1 rfl rfl)
theorem dX7_of_2 : decode cX7_of 2 = .ok (.invokevirtual 116, 3) := dk_182 0 116 (dk_at dksX7_of_0 2 rfl rfl)
theorem dX7_of_5 : decode cX7_of 5 = .ok (.ifCond .eq 15, 3) := dk_153 0 15 (dk_at dksX7_of_0 5 rfl rfl)
theorem dX7_of_8 : decode cX7_of 8 = .ok (.iload_n 2, 1) := dk_28 (dk_at dksX7_of_0 8 rfl rfl)
theorem dX7_of_9 : decode cX7_of 9 = .ok (.i2l, 1) := dk_133 (dk_at dksX7_of_0 9 rfl rfl)
theorem dX7_of_10 : decode cX7_of 10 = .ok (.lconst 0, 1) := dk_9 (dk_at dksX7_of_0 10 rfl rfl)
theorem dX7_of_11 : decode cX7_of 11 = .ok (.ldc2_w 157, 3) := dk_20 0 157 (dk_at dksX7_of_0 11 rfl rfl)
theorem dX7_of_14 : decode cX7_of 14 = .ok (.invokestatic 133, 3) := dk_184 0 133 (dk_at dksX7_of_0 14 rfl rfl)
theorem dX7_of_17 : decode cX7_of 17 = .ok (.ifCond .ne 5, 3) := dk_154 0 5 (dk_at dksX7_of_0 17 rfl rfl)
theorem dX7_of_20 : decode cX7_of 20 = .ok (.iconst (-1), 1) := dk_2 (dk_at dksX7_of_0 20 rfl rfl)
theorem dX7_of_21 : decode cX7_of 21 = .ok (.ireturn, 1) := dk_172 (dk_at dksX7_of_0 21 rfl rfl)
theorem dX7_of_22 : decode cX7_of 22 = .ok (.iload_n 2, 1) := dk_28 (dk_at dksX7_of_0 22 rfl rfl)
theorem dX7_of_23 : decode cX7_of 23 = .ok (.ifCond .ne 15, 3) := dk_154 0 15 (dk_at dksX7_of_1 0 rfl rfl)
theorem dX7_of_26 : decode cX7_of 26 = .ok (.aload_n 0, 1) := dk_42 (dk_at dksX7_of_1 3 rfl rfl)
theorem dX7_of_27 : decode cX7_of 27 = .ok (.iload_n 1, 1) := dk_27 (dk_at dksX7_of_1 4 rfl rfl)
theorem dX7_of_28 : decode cX7_of 28 = .ok (.invokevirtual 120, 3) := dk_182 0 120 (dk_at dksX7_of_1 5 rfl rfl)
theorem dX7_of_31 : decode cX7_of 31 = .ok (.i2l, 1) := dk_133 (dk_at dksX7_of_1 8 rfl rfl)
theorem dX7_of_32 : decode cX7_of 32 = .ok (.invokestatic 127, 3) := dk_184 0 127 (dk_at dksX7_of_1 9 rfl rfl)
theorem dX7_of_35 : decode cX7_of 35 = .ok (.goto 34, 3) := dk_167 0 34 (dk_at dksX7_of_1 12 rfl rfl)
theorem dX7_of_38 : decode cX7_of 38 = .ok (.iload_n 2, 1) := dk_28 (dk_at dksX7_of_1 15 rfl rfl)
theorem dX7_of_39 : decode cX7_of 39 = .ok (.iconst 1, 1) := dk_4 (dk_at dksX7_of_1 16 rfl rfl)
theorem dX7_of_40 : decode cX7_of 40 = .ok (.if_icmp .ne 11, 3) := dk_160 0 11 (dk_at dksX7_of_1 17 rfl rfl)
theorem dX7_of_43 : decode cX7_of 43 = .ok (.aload_n 0, 1) := dk_42 (dk_at dksX7_of_1 20 rfl rfl)
theorem dX7_of_44 : decode cX7_of 44 = .ok (.iload_n 1, 1) := dk_27 (dk_at dksX7_of_1 21 rfl rfl)
theorem dX7_of_45 : decode cX7_of 45 = .ok (.invokevirtual 159, 3) := dk_182 0 159 (dk_at dksX7_of_2 0 rfl rfl)
theorem dX7_of_48 : decode cX7_of 48 = .ok (.goto 21, 3) := dk_167 0 21 (dk_at dksX7_of_2 3 rfl rfl)
theorem dX7_of_51 : decode cX7_of 51 = .ok (.iload_n 2, 1) := dk_28 (dk_at dksX7_of_2 6 rfl rfl)
theorem dX7_of_52 : decode cX7_of 52 = .ok (.iconst 2, 1) := dk_5 (dk_at dksX7_of_2 7 rfl rfl)
theorem dX7_of_53 : decode cX7_of 53 = .ok (.if_icmp .ne 11, 3) := dk_160 0 11 (dk_at dksX7_of_2 8 rfl rfl)
theorem dX7_of_56 : decode cX7_of 56 = .ok (.aload_n 0, 1) := dk_42 (dk_at dksX7_of_2 11 rfl rfl)
theorem dX7_of_57 : decode cX7_of 57 = .ok (.iload_n 1, 1) := dk_27 (dk_at dksX7_of_2 12 rfl rfl)
theorem dX7_of_58 : decode cX7_of 58 = .ok (.invokevirtual 162, 3) := dk_182 0 162 (dk_at dksX7_of_2 13 rfl rfl)
theorem dX7_of_61 : decode cX7_of 61 = .ok (.goto 8, 3) := dk_167 0 8 (dk_at dksX7_of_2 16 rfl rfl)
theorem dX7_of_64 : decode cX7_of 64 = .ok (.aload_n 0, 1) := dk_42 (dk_at dksX7_of_2 19 rfl rfl)
theorem dX7_of_65 : decode cX7_of 65 = .ok (.iload_n 1, 1) := dk_27 (dk_at dksX7_of_2 20 rfl rfl)
theorem dX7_of_66 : decode cX7_of 66 = .ok (.invokevirtual 165, 3) := dk_182 0 165 (dk_at dksX7_of_2 21 rfl rfl)
theorem dX7_of_69 : decode cX7_of 69 = .ok (.ireturn, 1) := dk_172 (dk_at dksX7_of_3 0 rfl rfl)
abbrev cX7_drops : ByteArray := prog_32_method_20_code
def yX7_drops : MethodName := ⟨RX7, "drops", "(I)I"⟩
def dkwX7_drops_1 : List UInt8 := [4, 29, 120, 167, 0, 4, 3, 128, 61, 132, 3, 1, 167, 255, 224, 28, 172]
abbrev dktX7_drops_1 : List UInt8 := dkwX7_drops_1 ++ []
def dkwX7_drops_0 : List UInt8 := [3, 61, 3, 62, 29, 42, 180, 0, 7, 4, 100, 162, 0, 28, 28, 42, 27, 29, 182, 0, 154, 153, 0, 9]
abbrev dktX7_drops_0 : List UInt8 := dkwX7_drops_0 ++ dktX7_drops_1
theorem dksX7_drops_0 : cX7_drops.data.toList.drop 0 = dktX7_drops_0 := by decide +kernel
theorem dksX7_drops_1 : cX7_drops.data.toList.drop 24 = dktX7_drops_1 := dk_seg dksX7_drops_0 24 rfl rfl
theorem dX7_drops_0 : decode cX7_drops 0 = .ok (.iconst 0, 1) := dk_3 (dk_at dksX7_drops_0 0 rfl rfl)
theorem dX7_drops_1 : decode cX7_drops 1 = .ok (.istore_n 2, 1) := dk_61 (dk_at dksX7_drops_0 1 rfl rfl)
theorem dX7_drops_2 : decode cX7_drops 2 = .ok (.iconst 0, 1) := dk_3 (dk_at dksX7_drops_0 2 rfl rfl)
theorem dX7_drops_3 : decode cX7_drops 3 = .ok (.istore_n 3, 1) := dk_62 (dk_at dksX7_drops_0 3 rfl rfl)
theorem dX7_drops_4 : decode cX7_drops 4 = .ok (.iload_n 3, 1) := dk_29 (dk_at dksX7_drops_0 4 rfl rfl)
theorem dX7_drops_5 : decode cX7_drops 5 = .ok (.aload_n 0, 1) := dk_42 (dk_at dksX7_drops_0 5 rfl rfl)
theorem dX7_drops_6 : decode cX7_drops 6 = .ok (.getfield 7, 3) := dk_180 0 7 (dk_at dksX7_drops_0 6 rfl rfl)
theorem dX7_drops_9 : decode cX7_drops 9 = .ok (.iconst 1, 1) := dk_4 (dk_at dksX7_drops_0 9 rfl rfl)
theorem dX7_drops_10 : decode cX7_drops 10 = .ok (.isub, 1) := dk_100 (dk_at dksX7_drops_0 10 rfl rfl)
theorem dX7_drops_11 : decode cX7_drops 11 = .ok (.if_icmp .ge 28, 3) := dk_162 0 28 (dk_at dksX7_drops_0 11 rfl rfl)
theorem dX7_drops_14 : decode cX7_drops 14 = .ok (.iload_n 2, 1) := dk_28 (dk_at dksX7_drops_0 14 rfl rfl)
theorem dX7_drops_15 : decode cX7_drops 15 = .ok (.aload_n 0, 1) := dk_42 (dk_at dksX7_drops_0 15 rfl rfl)
theorem dX7_drops_16 : decode cX7_drops 16 = .ok (.iload_n 1, 1) := dk_27 (dk_at dksX7_drops_0 16 rfl rfl)
theorem dX7_drops_17 : decode cX7_drops 17 = .ok (.iload_n 3, 1) := dk_29 (dk_at dksX7_drops_0 17 rfl rfl)
theorem dX7_drops_18 : decode cX7_drops 18 = .ok (.invokevirtual 154, 3) := dk_182 0 154 (dk_at dksX7_drops_0 18 rfl rfl)
theorem dX7_drops_21 : decode cX7_drops 21 = .ok (.ifCond .eq 9, 3) := dk_153 0 9 (dk_at dksX7_drops_0 21 rfl rfl)
theorem dX7_drops_24 : decode cX7_drops 24 = .ok (.iconst 1, 1) := dk_4 (dk_at dksX7_drops_1 0 rfl rfl)
theorem dX7_drops_25 : decode cX7_drops 25 = .ok (.iload_n 3, 1) := dk_29 (dk_at dksX7_drops_1 1 rfl rfl)
theorem dX7_drops_26 : decode cX7_drops 26 = .ok (.ishl, 1) := dk_120 (dk_at dksX7_drops_1 2 rfl rfl)
theorem dX7_drops_27 : decode cX7_drops 27 = .ok (.goto 4, 3) := dk_167 0 4 (dk_at dksX7_drops_1 3 rfl rfl)
theorem dX7_drops_30 : decode cX7_drops 30 = .ok (.iconst 0, 1) := dk_3 (dk_at dksX7_drops_1 6 rfl rfl)
theorem dX7_drops_31 : decode cX7_drops 31 = .ok (.ior, 1) := dk_128 (dk_at dksX7_drops_1 7 rfl rfl)
theorem dX7_drops_32 : decode cX7_drops 32 = .ok (.istore_n 2, 1) := dk_61 (dk_at dksX7_drops_1 8 rfl rfl)
theorem dX7_drops_33 : decode cX7_drops 33 = .ok (.iinc 3 1, 3) := dk_132 3 1 (dk_at dksX7_drops_1 9 rfl rfl)
theorem dX7_drops_36 : decode cX7_drops 36 = .ok (.goto (-32), 3) := dk_167 255 224 (dk_at dksX7_drops_1 12 rfl rfl)
theorem dX7_drops_39 : decode cX7_drops 39 = .ok (.iload_n 2, 1) := dk_28 (dk_at dksX7_drops_1 15 rfl rfl)
theorem dX7_drops_40 : decode cX7_drops 40 = .ok (.ireturn, 1) := dk_172 (dk_at dksX7_drops_1 16 rfl rfl)
abbrev cX7_isDrop : ByteArray := prog_32_method_9_code
def yX7_isDrop : MethodName := ⟨RX7, "isDrop", "(II)Z"⟩
def dkwX7_isDrop_0 : List UInt8 := [42, 27, 28, 182, 0, 112, 42, 27, 28, 4, 96, 182, 0, 112, 164, 0, 7, 4, 167, 0, 4, 3, 172]
abbrev dktX7_isDrop_0 : List UInt8 := dkwX7_isDrop_0 ++ []
theorem dksX7_isDrop_0 : cX7_isDrop.data.toList.drop 0 = dktX7_isDrop_0 := by decide +kernel
theorem dX7_isDrop_0 : decode cX7_isDrop 0 = .ok (.aload_n 0, 1) := dk_42 (dk_at dksX7_isDrop_0 0 rfl rfl)
theorem dX7_isDrop_1 : decode cX7_isDrop 1 = .ok (.iload_n 1, 1) := dk_27 (dk_at dksX7_isDrop_0 1 rfl rfl)
theorem dX7_isDrop_2 : decode cX7_isDrop 2 = .ok (.iload_n 2, 1) := dk_28 (dk_at dksX7_isDrop_0 2 rfl rfl)
theorem dX7_isDrop_3 : decode cX7_isDrop 3 = .ok (.invokevirtual 112, 3) := dk_182 0 112 (dk_at dksX7_isDrop_0 3 rfl rfl)
theorem dX7_isDrop_6 : decode cX7_isDrop 6 = .ok (.aload_n 0, 1) := dk_42 (dk_at dksX7_isDrop_0 6 rfl rfl)
theorem dX7_isDrop_7 : decode cX7_isDrop 7 = .ok (.iload_n 1, 1) := dk_27 (dk_at dksX7_isDrop_0 7 rfl rfl)
theorem dX7_isDrop_8 : decode cX7_isDrop 8 = .ok (.iload_n 2, 1) := dk_28 (dk_at dksX7_isDrop_0 8 rfl rfl)
theorem dX7_isDrop_9 : decode cX7_isDrop 9 = .ok (.iconst 1, 1) := dk_4 (dk_at dksX7_isDrop_0 9 rfl rfl)
theorem dX7_isDrop_10 : decode cX7_isDrop 10 = .ok (.iadd, 1) := dk_96 (dk_at dksX7_isDrop_0 10 rfl rfl)
theorem dX7_isDrop_11 : decode cX7_isDrop 11 = .ok (.invokevirtual 112, 3) := dk_182 0 112 (dk_at dksX7_isDrop_0 11 rfl rfl)
theorem dX7_isDrop_14 : decode cX7_isDrop 14 = .ok (.if_icmp .le 7, 3) := dk_164 0 7 (dk_at dksX7_isDrop_0 14 rfl rfl)
theorem dX7_isDrop_17 : decode cX7_isDrop 17 = .ok (.iconst 1, 1) := dk_4 (dk_at dksX7_isDrop_0 17 rfl rfl)
theorem dX7_isDrop_18 : decode cX7_isDrop 18 = .ok (.goto 4, 3) := dk_167 0 4 (dk_at dksX7_isDrop_0 18 rfl rfl)
theorem dX7_isDrop_21 : decode cX7_isDrop 21 = .ok (.iconst 0, 1) := dk_3 (dk_at dksX7_isDrop_0 21 rfl rfl)
theorem dX7_isDrop_22 : decode cX7_isDrop 22 = .ok (.ireturn, 1) := dk_172 (dk_at dksX7_isDrop_0 22 rfl rfl)
abbrev cX7_rank : ByteArray := prog_32_method_13_code
def yX7_rank : MethodName := ⟨RX7, "rank", "(I)I"⟩
def dkwX7_rank_3 : List UInt8 := [167, 255, 189, 28, 172]
abbrev dktX7_rank_3 : List UInt8 := dkwX7_rank_3 ++ []
def dkwX7_rank_2 : List UInt8 := [42, 180, 0, 7, 4, 100, 29, 100, 46, 167, 0, 4, 3, 96, 61, 132, 4, 1, 167, 255, 208, 132, 3, 1]
abbrev dktX7_rank_2 : List UInt8 := dkwX7_rank_2 ++ dktX7_rank_3
def dkwX7_rank_1 : List UInt8 := [162, 0, 45, 28, 42, 27, 21, 4, 182, 0, 112, 42, 27, 29, 182, 0, 112, 162, 0, 19, 42, 180, 0, 47]
abbrev dktX7_rank_1 : List UInt8 := dkwX7_rank_1 ++ dktX7_rank_2
def dkwX7_rank_0 : List UInt8 := [3, 61, 3, 62, 29, 42, 180, 0, 7, 162, 0, 65, 29, 4, 96, 54, 4, 21, 4, 42, 180, 0, 7]
abbrev dktX7_rank_0 : List UInt8 := dkwX7_rank_0 ++ dktX7_rank_1
theorem dksX7_rank_0 : cX7_rank.data.toList.drop 0 = dktX7_rank_0 := by decide +kernel
theorem dksX7_rank_1 : cX7_rank.data.toList.drop 23 = dktX7_rank_1 := dk_seg dksX7_rank_0 23 rfl rfl
theorem dksX7_rank_2 : cX7_rank.data.toList.drop 47 = dktX7_rank_2 := dk_seg dksX7_rank_1 24 rfl rfl
theorem dksX7_rank_3 : cX7_rank.data.toList.drop 71 = dktX7_rank_3 := dk_seg dksX7_rank_2 24 rfl rfl
theorem dX7_rank_0 : decode cX7_rank 0 = .ok (.iconst 0, 1) := dk_3 (dk_at dksX7_rank_0 0 rfl rfl)
theorem dX7_rank_1 : decode cX7_rank 1 = .ok (.istore_n 2, 1) := dk_61 (dk_at dksX7_rank_0 1 rfl rfl)
theorem dX7_rank_2 : decode cX7_rank 2 = .ok (.iconst 0, 1) := dk_3 (dk_at dksX7_rank_0 2 rfl rfl)
theorem dX7_rank_3 : decode cX7_rank 3 = .ok (.istore_n 3, 1) := dk_62 (dk_at dksX7_rank_0 3 rfl rfl)
theorem dX7_rank_4 : decode cX7_rank 4 = .ok (.iload_n 3, 1) := dk_29 (dk_at dksX7_rank_0 4 rfl rfl)
theorem dX7_rank_5 : decode cX7_rank 5 = .ok (.aload_n 0, 1) := dk_42 (dk_at dksX7_rank_0 5 rfl rfl)
theorem dX7_rank_6 : decode cX7_rank 6 = .ok (.getfield 7, 3) := dk_180 0 7 (dk_at dksX7_rank_0 6 rfl rfl)
theorem dX7_rank_9 : decode cX7_rank 9 = .ok (.if_icmp .ge 65, 3) := dk_162 0 65 (dk_at dksX7_rank_0 9 rfl rfl)
theorem dX7_rank_12 : decode cX7_rank 12 = .ok (.iload_n 3, 1) := dk_29 (dk_at dksX7_rank_0 12 rfl rfl)
theorem dX7_rank_13 : decode cX7_rank 13 = .ok (.iconst 1, 1) := dk_4 (dk_at dksX7_rank_0 13 rfl rfl)
theorem dX7_rank_14 : decode cX7_rank 14 = .ok (.iadd, 1) := dk_96 (dk_at dksX7_rank_0 14 rfl rfl)
theorem dX7_rank_15 : decode cX7_rank 15 = .ok (.istore 4, 2) := dk_54 4 (dk_at dksX7_rank_0 15 rfl rfl)
theorem dX7_rank_17 : decode cX7_rank 17 = .ok (.iload 4, 2) := dk_21 4 (dk_at dksX7_rank_0 17 rfl rfl)
theorem dX7_rank_19 : decode cX7_rank 19 = .ok (.aload_n 0, 1) := dk_42 (dk_at dksX7_rank_0 19 rfl rfl)
theorem dX7_rank_20 : decode cX7_rank 20 = .ok (.getfield 7, 3) := dk_180 0 7 (dk_at dksX7_rank_0 20 rfl rfl)
theorem dX7_rank_23 : decode cX7_rank 23 = .ok (.if_icmp .ge 45, 3) := dk_162 0 45 (dk_at dksX7_rank_1 0 rfl rfl)
theorem dX7_rank_26 : decode cX7_rank 26 = .ok (.iload_n 2, 1) := dk_28 (dk_at dksX7_rank_1 3 rfl rfl)
theorem dX7_rank_27 : decode cX7_rank 27 = .ok (.aload_n 0, 1) := dk_42 (dk_at dksX7_rank_1 4 rfl rfl)
theorem dX7_rank_28 : decode cX7_rank 28 = .ok (.iload_n 1, 1) := dk_27 (dk_at dksX7_rank_1 5 rfl rfl)
theorem dX7_rank_29 : decode cX7_rank 29 = .ok (.iload 4, 2) := dk_21 4 (dk_at dksX7_rank_1 6 rfl rfl)
theorem dX7_rank_31 : decode cX7_rank 31 = .ok (.invokevirtual 112, 3) := dk_182 0 112 (dk_at dksX7_rank_1 8 rfl rfl)
theorem dX7_rank_34 : decode cX7_rank 34 = .ok (.aload_n 0, 1) := dk_42 (dk_at dksX7_rank_1 11 rfl rfl)
theorem dX7_rank_35 : decode cX7_rank 35 = .ok (.iload_n 1, 1) := dk_27 (dk_at dksX7_rank_1 12 rfl rfl)
theorem dX7_rank_36 : decode cX7_rank 36 = .ok (.iload_n 3, 1) := dk_29 (dk_at dksX7_rank_1 13 rfl rfl)
theorem dX7_rank_37 : decode cX7_rank 37 = .ok (.invokevirtual 112, 3) := dk_182 0 112 (dk_at dksX7_rank_1 14 rfl rfl)
theorem dX7_rank_40 : decode cX7_rank 40 = .ok (.if_icmp .ge 19, 3) := dk_162 0 19 (dk_at dksX7_rank_1 17 rfl rfl)
theorem dX7_rank_43 : decode cX7_rank 43 = .ok (.aload_n 0, 1) := dk_42 (dk_at dksX7_rank_1 20 rfl rfl)
theorem dX7_rank_44 : decode cX7_rank 44 = .ok (.getfield 47, 3) := dk_180 0 47 (dk_at dksX7_rank_1 21 rfl rfl)
theorem dX7_rank_47 : decode cX7_rank 47 = .ok (.aload_n 0, 1) := dk_42 (dk_at dksX7_rank_2 0 rfl rfl)
theorem dX7_rank_48 : decode cX7_rank 48 = .ok (.getfield 7, 3) := dk_180 0 7 (dk_at dksX7_rank_2 1 rfl rfl)
theorem dX7_rank_51 : decode cX7_rank 51 = .ok (.iconst 1, 1) := dk_4 (dk_at dksX7_rank_2 4 rfl rfl)
theorem dX7_rank_52 : decode cX7_rank 52 = .ok (.isub, 1) := dk_100 (dk_at dksX7_rank_2 5 rfl rfl)
theorem dX7_rank_53 : decode cX7_rank 53 = .ok (.iload_n 3, 1) := dk_29 (dk_at dksX7_rank_2 6 rfl rfl)
theorem dX7_rank_54 : decode cX7_rank 54 = .ok (.isub, 1) := dk_100 (dk_at dksX7_rank_2 7 rfl rfl)
theorem dX7_rank_55 : decode cX7_rank 55 = .ok (.iaload, 1) := dk_46 (dk_at dksX7_rank_2 8 rfl rfl)
theorem dX7_rank_56 : decode cX7_rank 56 = .ok (.goto 4, 3) := dk_167 0 4 (dk_at dksX7_rank_2 9 rfl rfl)
theorem dX7_rank_59 : decode cX7_rank 59 = .ok (.iconst 0, 1) := dk_3 (dk_at dksX7_rank_2 12 rfl rfl)
theorem dX7_rank_60 : decode cX7_rank 60 = .ok (.iadd, 1) := dk_96 (dk_at dksX7_rank_2 13 rfl rfl)
theorem dX7_rank_61 : decode cX7_rank 61 = .ok (.istore_n 2, 1) := dk_61 (dk_at dksX7_rank_2 14 rfl rfl)
theorem dX7_rank_62 : decode cX7_rank 62 = .ok (.iinc 4 1, 3) := dk_132 4 1 (dk_at dksX7_rank_2 15 rfl rfl)
theorem dX7_rank_65 : decode cX7_rank 65 = .ok (.goto (-48), 3) := dk_167 255 208 (dk_at dksX7_rank_2 18 rfl rfl)
theorem dX7_rank_68 : decode cX7_rank 68 = .ok (.iinc 3 1, 3) := dk_132 3 1 (dk_at dksX7_rank_2 21 rfl rfl)
theorem dX7_rank_71 : decode cX7_rank 71 = .ok (.goto (-67), 3) := dk_167 255 189 (dk_at dksX7_rank_3 0 rfl rfl)
theorem dX7_rank_74 : decode cX7_rank 74 = .ok (.iload_n 2, 1) := dk_28 (dk_at dksX7_rank_3 3 rfl rfl)
theorem dX7_rank_75 : decode cX7_rank 75 = .ok (.ireturn, 1) := dk_172 (dk_at dksX7_rank_3 4 rfl rfl)
abbrev cX7_turned : ByteArray := prog_32_method_21_code
def yX7_turned : MethodName := ⟨RX7, "turned", "(I)I"⟩
def dkwX7_turned_1 : List UInt8 := [61, 132, 3, 255, 167, 255, 237, 28, 172]
abbrev dktX7_turned_1 : List UInt8 := dkwX7_turned_1 ++ []
def dkwX7_turned_0 : List UInt8 := [3, 61, 42, 180, 0, 7, 4, 100, 62, 29, 155, 0, 21, 16, 10, 28, 104, 42, 27, 29, 182, 0, 112, 96]
abbrev dktX7_turned_0 : List UInt8 := dkwX7_turned_0 ++ dktX7_turned_1
theorem dksX7_turned_0 : cX7_turned.data.toList.drop 0 = dktX7_turned_0 := by decide +kernel
theorem dksX7_turned_1 : cX7_turned.data.toList.drop 24 = dktX7_turned_1 := dk_seg dksX7_turned_0 24 rfl rfl
theorem dX7_turned_0 : decode cX7_turned 0 = .ok (.iconst 0, 1) := dk_3 (dk_at dksX7_turned_0 0 rfl rfl)
theorem dX7_turned_1 : decode cX7_turned 1 = .ok (.istore_n 2, 1) := dk_61 (dk_at dksX7_turned_0 1 rfl rfl)
theorem dX7_turned_2 : decode cX7_turned 2 = .ok (.aload_n 0, 1) := dk_42 (dk_at dksX7_turned_0 2 rfl rfl)
theorem dX7_turned_3 : decode cX7_turned 3 = .ok (.getfield 7, 3) := dk_180 0 7 (dk_at dksX7_turned_0 3 rfl rfl)
theorem dX7_turned_6 : decode cX7_turned 6 = .ok (.iconst 1, 1) := dk_4 (dk_at dksX7_turned_0 6 rfl rfl)
theorem dX7_turned_7 : decode cX7_turned 7 = .ok (.isub, 1) := dk_100 (dk_at dksX7_turned_0 7 rfl rfl)
theorem dX7_turned_8 : decode cX7_turned 8 = .ok (.istore_n 3, 1) := dk_62 (dk_at dksX7_turned_0 8 rfl rfl)
theorem dX7_turned_9 : decode cX7_turned 9 = .ok (.iload_n 3, 1) := dk_29 (dk_at dksX7_turned_0 9 rfl rfl)
theorem dX7_turned_10 : decode cX7_turned 10 = .ok (.ifCond .lt 21, 3) := dk_155 0 21 (dk_at dksX7_turned_0 10 rfl rfl)
theorem dX7_turned_13 : decode cX7_turned 13 = .ok (.bipush 10, 2) := dk_16 10 (dk_at dksX7_turned_0 13 rfl rfl)
theorem dX7_turned_15 : decode cX7_turned 15 = .ok (.iload_n 2, 1) := dk_28 (dk_at dksX7_turned_0 15 rfl rfl)
theorem dX7_turned_16 : decode cX7_turned 16 = .ok (.imul, 1) := dk_104 (dk_at dksX7_turned_0 16 rfl rfl)
theorem dX7_turned_17 : decode cX7_turned 17 = .ok (.aload_n 0, 1) := dk_42 (dk_at dksX7_turned_0 17 rfl rfl)
theorem dX7_turned_18 : decode cX7_turned 18 = .ok (.iload_n 1, 1) := dk_27 (dk_at dksX7_turned_0 18 rfl rfl)
theorem dX7_turned_19 : decode cX7_turned 19 = .ok (.iload_n 3, 1) := dk_29 (dk_at dksX7_turned_0 19 rfl rfl)
theorem dX7_turned_20 : decode cX7_turned 20 = .ok (.invokevirtual 112, 3) := dk_182 0 112 (dk_at dksX7_turned_0 20 rfl rfl)
theorem dX7_turned_23 : decode cX7_turned 23 = .ok (.iadd, 1) := dk_96 (dk_at dksX7_turned_0 23 rfl rfl)
theorem dX7_turned_24 : decode cX7_turned 24 = .ok (.istore_n 2, 1) := dk_61 (dk_at dksX7_turned_1 0 rfl rfl)
theorem dX7_turned_25 : decode cX7_turned 25 = .ok (.iinc 3 (-1), 3) := dk_132 3 255 (dk_at dksX7_turned_1 1 rfl rfl)
theorem dX7_turned_28 : decode cX7_turned 28 = .ok (.goto (-19), 3) := dk_167 255 237 (dk_at dksX7_turned_1 4 rfl rfl)
theorem dX7_turned_31 : decode cX7_turned 31 = .ok (.iload_n 2, 1) := dk_28 (dk_at dksX7_turned_1 7 rfl rfl)
theorem dX7_turned_32 : decode cX7_turned 32 = .ok (.ireturn, 1) := dk_172 (dk_at dksX7_turned_1 8 rfl rfl)
abbrev cX7_rowAt : ByteArray := prog_32_method_23_code
def yX7_rowAt : MethodName := ⟨RX7, "rowAt", "(I)I"⟩
def dkwX7_rowAt_1 : List UInt8 := [182, 0, 124, 167, 0, 4, 2, 172]
abbrev dktX7_rowAt_1 : List UInt8 := dkwX7_rowAt_1 ++ []
def dkwX7_rowAt_0 : List UInt8 := [27, 133, 9, 42, 180, 0, 47, 42, 180, 0, 7, 46, 4, 100, 133, 184, 0, 133, 153, 0, 11, 42, 27]
abbrev dktX7_rowAt_0 : List UInt8 := dkwX7_rowAt_0 ++ dktX7_rowAt_1
theorem dksX7_rowAt_0 : cX7_rowAt.data.toList.drop 0 = dktX7_rowAt_0 := by decide +kernel
theorem dksX7_rowAt_1 : cX7_rowAt.data.toList.drop 23 = dktX7_rowAt_1 := dk_seg dksX7_rowAt_0 23 rfl rfl
theorem dX7_rowAt_0 : decode cX7_rowAt 0 = .ok (.iload_n 1, 1) := dk_27 (dk_at dksX7_rowAt_0 0 rfl rfl)
theorem dX7_rowAt_1 : decode cX7_rowAt 1 = .ok (.i2l, 1) := dk_133 (dk_at dksX7_rowAt_0 1 rfl rfl)
theorem dX7_rowAt_2 : decode cX7_rowAt 2 = .ok (.lconst 0, 1) := dk_9 (dk_at dksX7_rowAt_0 2 rfl rfl)
theorem dX7_rowAt_3 : decode cX7_rowAt 3 = .ok (.aload_n 0, 1) := dk_42 (dk_at dksX7_rowAt_0 3 rfl rfl)
theorem dX7_rowAt_4 : decode cX7_rowAt 4 = .ok (.getfield 47, 3) := dk_180 0 47 (dk_at dksX7_rowAt_0 4 rfl rfl)
theorem dX7_rowAt_7 : decode cX7_rowAt 7 = .ok (.aload_n 0, 1) := dk_42 (dk_at dksX7_rowAt_0 7 rfl rfl)
theorem dX7_rowAt_8 : decode cX7_rowAt 8 = .ok (.getfield 7, 3) := dk_180 0 7 (dk_at dksX7_rowAt_0 8 rfl rfl)
theorem dX7_rowAt_11 : decode cX7_rowAt 11 = .ok (.iaload, 1) := dk_46 (dk_at dksX7_rowAt_0 11 rfl rfl)
theorem dX7_rowAt_12 : decode cX7_rowAt 12 = .ok (.iconst 1, 1) := dk_4 (dk_at dksX7_rowAt_0 12 rfl rfl)
theorem dX7_rowAt_13 : decode cX7_rowAt 13 = .ok (.isub, 1) := dk_100 (dk_at dksX7_rowAt_0 13 rfl rfl)
theorem dX7_rowAt_14 : decode cX7_rowAt 14 = .ok (.i2l, 1) := dk_133 (dk_at dksX7_rowAt_0 14 rfl rfl)
theorem dX7_rowAt_15 : decode cX7_rowAt 15 = .ok (.invokestatic 133, 3) := dk_184 0 133 (dk_at dksX7_rowAt_0 15 rfl rfl)
theorem dX7_rowAt_18 : decode cX7_rowAt 18 = .ok (.ifCond .eq 11, 3) := dk_153 0 11 (dk_at dksX7_rowAt_0 18 rfl rfl)
theorem dX7_rowAt_21 : decode cX7_rowAt 21 = .ok (.aload_n 0, 1) := dk_42 (dk_at dksX7_rowAt_0 21 rfl rfl)
theorem dX7_rowAt_22 : decode cX7_rowAt 22 = .ok (.iload_n 1, 1) := dk_27 (dk_at dksX7_rowAt_0 22 rfl rfl)
theorem dX7_rowAt_23 : decode cX7_rowAt 23 = .ok (.invokevirtual 124, 3) := dk_182 0 124 (dk_at dksX7_rowAt_1 0 rfl rfl)
theorem dX7_rowAt_26 : decode cX7_rowAt 26 = .ok (.goto 4, 3) := dk_167 0 4 (dk_at dksX7_rowAt_1 3 rfl rfl)
theorem dX7_rowAt_29 : decode cX7_rowAt 29 = .ok (.iconst (-1), 1) := dk_2 (dk_at dksX7_rowAt_1 6 rfl rfl)
theorem dX7_rowAt_30 : decode cX7_rowAt 30 = .ok (.ireturn, 1) := dk_172 (dk_at dksX7_rowAt_1 7 rfl rfl)
abbrev cX7_jump : ByteArray := prog_32_method_26_code
def yX7_jump : MethodName := ⟨RX7, "jump", "(III)I"⟩
def dkwX7_jump_1 : List UInt8 := [28, 29, 182, 0, 174, 167, 0, 4, 2, 172]
abbrev dktX7_jump_1 : List UInt8 := dkwX7_jump_1 ++ []
def dkwX7_jump_0 : List UInt8 := [42, 27, 182, 0, 116, 153, 0, 27, 28, 133, 10, 42, 180, 0, 7, 133, 184, 0, 133, 153, 0, 13, 42, 27]
abbrev dktX7_jump_0 : List UInt8 := dkwX7_jump_0 ++ dktX7_jump_1
theorem dksX7_jump_0 : cX7_jump.data.toList.drop 0 = dktX7_jump_0 := by decide +kernel
theorem dksX7_jump_1 : cX7_jump.data.toList.drop 24 = dktX7_jump_1 := dk_seg dksX7_jump_0 24 rfl rfl
theorem dX7_jump_0 : decode cX7_jump 0 = .ok (.aload_n 0, 1) := dk_42 (dk_at dksX7_jump_0 0 rfl rfl)
theorem dX7_jump_1 : decode cX7_jump 1 = .ok (.iload_n 1, 1) := dk_27 (dk_at dksX7_jump_0 1 rfl rfl)
theorem dX7_jump_2 : decode cX7_jump 2 = .ok (.invokevirtual 116, 3) := dk_182 0 116 (dk_at dksX7_jump_0 2 rfl rfl)
theorem dX7_jump_5 : decode cX7_jump 5 = .ok (.ifCond .eq 27, 3) := dk_153 0 27 (dk_at dksX7_jump_0 5 rfl rfl)
theorem dX7_jump_8 : decode cX7_jump 8 = .ok (.iload_n 2, 1) := dk_28 (dk_at dksX7_jump_0 8 rfl rfl)
theorem dX7_jump_9 : decode cX7_jump 9 = .ok (.i2l, 1) := dk_133 (dk_at dksX7_jump_0 9 rfl rfl)
theorem dX7_jump_10 : decode cX7_jump 10 = .ok (.lconst 1, 1) := dk_10 (dk_at dksX7_jump_0 10 rfl rfl)
theorem dX7_jump_11 : decode cX7_jump 11 = .ok (.aload_n 0, 1) := dk_42 (dk_at dksX7_jump_0 11 rfl rfl)
theorem dX7_jump_12 : decode cX7_jump 12 = .ok (.getfield 7, 3) := dk_180 0 7 (dk_at dksX7_jump_0 12 rfl rfl)
theorem dX7_jump_15 : decode cX7_jump 15 = .ok (.i2l, 1) := dk_133 (dk_at dksX7_jump_0 15 rfl rfl)
theorem dX7_jump_16 : decode cX7_jump 16 = .ok (.invokestatic 133, 3) := dk_184 0 133 (dk_at dksX7_jump_0 16 rfl rfl)
theorem dX7_jump_19 : decode cX7_jump 19 = .ok (.ifCond .eq 13, 3) := dk_153 0 13 (dk_at dksX7_jump_0 19 rfl rfl)
theorem dX7_jump_22 : decode cX7_jump 22 = .ok (.aload_n 0, 1) := dk_42 (dk_at dksX7_jump_0 22 rfl rfl)
theorem dX7_jump_23 : decode cX7_jump 23 = .ok (.iload_n 1, 1) := dk_27 (dk_at dksX7_jump_0 23 rfl rfl)
theorem dX7_jump_24 : decode cX7_jump 24 = .ok (.iload_n 2, 1) := dk_28 (dk_at dksX7_jump_1 0 rfl rfl)
theorem dX7_jump_25 : decode cX7_jump 25 = .ok (.iload_n 3, 1) := dk_29 (dk_at dksX7_jump_1 1 rfl rfl)
theorem dX7_jump_26 : decode cX7_jump 26 = .ok (.invokevirtual 174, 3) := dk_182 0 174 (dk_at dksX7_jump_1 2 rfl rfl)
theorem dX7_jump_29 : decode cX7_jump 29 = .ok (.goto 4, 3) := dk_167 0 4 (dk_at dksX7_jump_1 5 rfl rfl)
theorem dX7_jump_32 : decode cX7_jump 32 = .ok (.iconst (-1), 1) := dk_2 (dk_at dksX7_jump_1 8 rfl rfl)
theorem dX7_jump_33 : decode cX7_jump 33 = .ok (.ireturn, 1) := dk_172 (dk_at dksX7_jump_1 9 rfl rfl)
abbrev cX7_jumped : ByteArray := prog_32_method_25_code
def yX7_jumped : MethodName := ⟨RX7, "jumped", "(III)I"⟩
def dkwX7_jumped_4 : List UInt8 := [21, 9, 4, 100, 182, 0, 171, 54, 8, 21, 9, 21, 7, 96, 54, 9, 167, 255, 200, 21, 8, 172]
abbrev dktX7_jumped_4 : List UInt8 := dkwX7_jumped_4 ++ []
def dkwX7_jumped_3 : List UInt8 := [182, 0, 112, 28, 164, 0, 6, 16, 253, 172, 42, 21, 8, 21, 7, 158, 0, 8, 21, 9, 167, 0, 7]
abbrev dktX7_jumped_3 : List UInt8 := dkwX7_jumped_3 ++ dktX7_jumped_4
def dkwX7_jumped_2 : List UInt8 := [54, 8, 21, 4, 54, 9, 21, 9, 133, 22, 5, 148, 153, 0, 53, 42, 21, 8, 21, 9, 21, 7, 96]
abbrev dktX7_jumped_2 : List UInt8 := dkwX7_jumped_2 ++ dktX7_jumped_3
def dkwX7_jumped_1 : List UInt8 := [100, 133, 184, 0, 133, 154, 0, 6, 16, 253, 172, 29, 158, 0, 7, 4, 167, 0, 4, 2, 54, 7, 27]
abbrev dktX7_jumped_1 : List UInt8 := dkwX7_jumped_1 ++ dktX7_jumped_2
def dkwX7_jumped_0 : List UInt8 := [42, 27, 28, 182, 0, 168, 54, 4, 21, 4, 133, 29, 133, 97, 55, 5, 22, 5, 9, 42, 180, 0, 7, 4]
abbrev dktX7_jumped_0 : List UInt8 := dkwX7_jumped_0 ++ dktX7_jumped_1
theorem dksX7_jumped_0 : cX7_jumped.data.toList.drop 0 = dktX7_jumped_0 := by decide +kernel
theorem dksX7_jumped_1 : cX7_jumped.data.toList.drop 24 = dktX7_jumped_1 := dk_seg dksX7_jumped_0 24 rfl rfl
theorem dksX7_jumped_2 : cX7_jumped.data.toList.drop 47 = dktX7_jumped_2 := dk_seg dksX7_jumped_1 23 rfl rfl
theorem dksX7_jumped_3 : cX7_jumped.data.toList.drop 70 = dktX7_jumped_3 := dk_seg dksX7_jumped_2 23 rfl rfl
theorem dksX7_jumped_4 : cX7_jumped.data.toList.drop 93 = dktX7_jumped_4 := dk_seg dksX7_jumped_3 23 rfl rfl
theorem dX7_jumped_0 : decode cX7_jumped 0 = .ok (.aload_n 0, 1) := dk_42 (dk_at dksX7_jumped_0 0 rfl rfl)
theorem dX7_jumped_1 : decode cX7_jumped 1 = .ok (.iload_n 1, 1) := dk_27 (dk_at dksX7_jumped_0 1 rfl rfl)
theorem dX7_jumped_2 : decode cX7_jumped 2 = .ok (.iload_n 2, 1) := dk_28 (dk_at dksX7_jumped_0 2 rfl rfl)
theorem dX7_jumped_3 : decode cX7_jumped 3 = .ok (.invokevirtual 168, 3) := dk_182 0 168 (dk_at dksX7_jumped_0 3 rfl rfl)
theorem dX7_jumped_6 : decode cX7_jumped 6 = .ok (.istore 4, 2) := dk_54 4 (dk_at dksX7_jumped_0 6 rfl rfl)
theorem dX7_jumped_8 : decode cX7_jumped 8 = .ok (.iload 4, 2) := dk_21 4 (dk_at dksX7_jumped_0 8 rfl rfl)
theorem dX7_jumped_10 : decode cX7_jumped 10 = .ok (.i2l, 1) := dk_133 (dk_at dksX7_jumped_0 10 rfl rfl)
theorem dX7_jumped_11 : decode cX7_jumped 11 = .ok (.iload_n 3, 1) := dk_29 (dk_at dksX7_jumped_0 11 rfl rfl)
theorem dX7_jumped_12 : decode cX7_jumped 12 = .ok (.i2l, 1) := dk_133 (dk_at dksX7_jumped_0 12 rfl rfl)
theorem dX7_jumped_13 : decode cX7_jumped 13 = .ok (.ladd, 1) := dk_97 (dk_at dksX7_jumped_0 13 rfl rfl)
theorem dX7_jumped_14 : decode cX7_jumped 14 = .ok (.lstore 5, 2) := dk_55 5 (dk_at dksX7_jumped_0 14 rfl rfl)
theorem dX7_jumped_16 : decode cX7_jumped 16 = .ok (.lload 5, 2) := dk_22 5 (dk_at dksX7_jumped_0 16 rfl rfl)
theorem dX7_jumped_18 : decode cX7_jumped 18 = .ok (.lconst 0, 1) := dk_9 (dk_at dksX7_jumped_0 18 rfl rfl)
theorem dX7_jumped_19 : decode cX7_jumped 19 = .ok (.aload_n 0, 1) := dk_42 (dk_at dksX7_jumped_0 19 rfl rfl)
theorem dX7_jumped_20 : decode cX7_jumped 20 = .ok (.getfield 7, 3) := dk_180 0 7 (dk_at dksX7_jumped_0 20 rfl rfl)
theorem dX7_jumped_23 : decode cX7_jumped 23 = .ok (.iconst 1, 1) := dk_4 (dk_at dksX7_jumped_0 23 rfl rfl)
theorem dX7_jumped_24 : decode cX7_jumped 24 = .ok (.isub, 1) := dk_100 (dk_at dksX7_jumped_1 0 rfl rfl)
theorem dX7_jumped_25 : decode cX7_jumped 25 = .ok (.i2l, 1) := dk_133 (dk_at dksX7_jumped_1 1 rfl rfl)
theorem dX7_jumped_26 : decode cX7_jumped 26 = .ok (.invokestatic 133, 3) := dk_184 0 133 (dk_at dksX7_jumped_1 2 rfl rfl)
theorem dX7_jumped_29 : decode cX7_jumped 29 = .ok (.ifCond .ne 6, 3) := dk_154 0 6 (dk_at dksX7_jumped_1 5 rfl rfl)
theorem dX7_jumped_32 : decode cX7_jumped 32 = .ok (.bipush (-3), 2) := dk_16 253 (dk_at dksX7_jumped_1 8 rfl rfl)
theorem dX7_jumped_34 : decode cX7_jumped 34 = .ok (.ireturn, 1) := dk_172 (dk_at dksX7_jumped_1 10 rfl rfl)
theorem dX7_jumped_35 : decode cX7_jumped 35 = .ok (.iload_n 3, 1) := dk_29 (dk_at dksX7_jumped_1 11 rfl rfl)
theorem dX7_jumped_36 : decode cX7_jumped 36 = .ok (.ifCond .le 7, 3) := dk_158 0 7 (dk_at dksX7_jumped_1 12 rfl rfl)
theorem dX7_jumped_39 : decode cX7_jumped 39 = .ok (.iconst 1, 1) := dk_4 (dk_at dksX7_jumped_1 15 rfl rfl)
theorem dX7_jumped_40 : decode cX7_jumped 40 = .ok (.goto 4, 3) := dk_167 0 4 (dk_at dksX7_jumped_1 16 rfl rfl)
theorem dX7_jumped_43 : decode cX7_jumped 43 = .ok (.iconst (-1), 1) := dk_2 (dk_at dksX7_jumped_1 19 rfl rfl)
theorem dX7_jumped_44 : decode cX7_jumped 44 = .ok (.istore 7, 2) := dk_54 7 (dk_at dksX7_jumped_1 20 rfl rfl)
theorem dX7_jumped_46 : decode cX7_jumped 46 = .ok (.iload_n 1, 1) := dk_27 (dk_at dksX7_jumped_1 22 rfl rfl)
theorem dX7_jumped_47 : decode cX7_jumped 47 = .ok (.istore 8, 2) := dk_54 8 (dk_at dksX7_jumped_2 0 rfl rfl)
theorem dX7_jumped_49 : decode cX7_jumped 49 = .ok (.iload 4, 2) := dk_21 4 (dk_at dksX7_jumped_2 2 rfl rfl)
theorem dX7_jumped_51 : decode cX7_jumped 51 = .ok (.istore 9, 2) := dk_54 9 (dk_at dksX7_jumped_2 4 rfl rfl)
theorem dX7_jumped_53 : decode cX7_jumped 53 = .ok (.iload 9, 2) := dk_21 9 (dk_at dksX7_jumped_2 6 rfl rfl)
theorem dX7_jumped_55 : decode cX7_jumped 55 = .ok (.i2l, 1) := dk_133 (dk_at dksX7_jumped_2 8 rfl rfl)
theorem dX7_jumped_56 : decode cX7_jumped 56 = .ok (.lload 5, 2) := dk_22 5 (dk_at dksX7_jumped_2 9 rfl rfl)
theorem dX7_jumped_58 : decode cX7_jumped 58 = .ok (.lcmp, 1) := dk_148 (dk_at dksX7_jumped_2 11 rfl rfl)
theorem dX7_jumped_59 : decode cX7_jumped 59 = .ok (.ifCond .eq 53, 3) := dk_153 0 53 (dk_at dksX7_jumped_2 12 rfl rfl)
theorem dX7_jumped_62 : decode cX7_jumped 62 = .ok (.aload_n 0, 1) := dk_42 (dk_at dksX7_jumped_2 15 rfl rfl)
theorem dX7_jumped_63 : decode cX7_jumped 63 = .ok (.iload 8, 2) := dk_21 8 (dk_at dksX7_jumped_2 16 rfl rfl)
theorem dX7_jumped_65 : decode cX7_jumped 65 = .ok (.iload 9, 2) := dk_21 9 (dk_at dksX7_jumped_2 18 rfl rfl)
theorem dX7_jumped_67 : decode cX7_jumped 67 = .ok (.iload 7, 2) := dk_21 7 (dk_at dksX7_jumped_2 20 rfl rfl)
theorem dX7_jumped_69 : decode cX7_jumped 69 = .ok (.iadd, 1) := dk_96 (dk_at dksX7_jumped_2 22 rfl rfl)
theorem dX7_jumped_70 : decode cX7_jumped 70 = .ok (.invokevirtual 112, 3) := dk_182 0 112 (dk_at dksX7_jumped_3 0 rfl rfl)
theorem dX7_jumped_73 : decode cX7_jumped 73 = .ok (.iload_n 2, 1) := dk_28 (dk_at dksX7_jumped_3 3 rfl rfl)
theorem dX7_jumped_74 : decode cX7_jumped 74 = .ok (.if_icmp .le 6, 3) := dk_164 0 6 (dk_at dksX7_jumped_3 4 rfl rfl)
theorem dX7_jumped_77 : decode cX7_jumped 77 = .ok (.bipush (-3), 2) := dk_16 253 (dk_at dksX7_jumped_3 7 rfl rfl)
theorem dX7_jumped_79 : decode cX7_jumped 79 = .ok (.ireturn, 1) := dk_172 (dk_at dksX7_jumped_3 9 rfl rfl)
theorem dX7_jumped_80 : decode cX7_jumped 80 = .ok (.aload_n 0, 1) := dk_42 (dk_at dksX7_jumped_3 10 rfl rfl)
theorem dX7_jumped_81 : decode cX7_jumped 81 = .ok (.iload 8, 2) := dk_21 8 (dk_at dksX7_jumped_3 11 rfl rfl)
theorem dX7_jumped_83 : decode cX7_jumped 83 = .ok (.iload 7, 2) := dk_21 7 (dk_at dksX7_jumped_3 13 rfl rfl)
theorem dX7_jumped_85 : decode cX7_jumped 85 = .ok (.ifCond .le 8, 3) := dk_158 0 8 (dk_at dksX7_jumped_3 15 rfl rfl)
theorem dX7_jumped_88 : decode cX7_jumped 88 = .ok (.iload 9, 2) := dk_21 9 (dk_at dksX7_jumped_3 18 rfl rfl)
theorem dX7_jumped_90 : decode cX7_jumped 90 = .ok (.goto 7, 3) := dk_167 0 7 (dk_at dksX7_jumped_3 20 rfl rfl)
theorem dX7_jumped_93 : decode cX7_jumped 93 = .ok (.iload 9, 2) := dk_21 9 (dk_at dksX7_jumped_4 0 rfl rfl)
theorem dX7_jumped_95 : decode cX7_jumped 95 = .ok (.iconst 1, 1) := dk_4 (dk_at dksX7_jumped_4 2 rfl rfl)
theorem dX7_jumped_96 : decode cX7_jumped 96 = .ok (.isub, 1) := dk_100 (dk_at dksX7_jumped_4 3 rfl rfl)
theorem dX7_jumped_97 : decode cX7_jumped 97 = .ok (.invokevirtual 171, 3) := dk_182 0 171 (dk_at dksX7_jumped_4 4 rfl rfl)
theorem dX7_jumped_100 : decode cX7_jumped 100 = .ok (.istore 8, 2) := dk_54 8 (dk_at dksX7_jumped_4 7 rfl rfl)
theorem dX7_jumped_102 : decode cX7_jumped 102 = .ok (.iload 9, 2) := dk_21 9 (dk_at dksX7_jumped_4 9 rfl rfl)
theorem dX7_jumped_104 : decode cX7_jumped 104 = .ok (.iload 7, 2) := dk_21 7 (dk_at dksX7_jumped_4 11 rfl rfl)
theorem dX7_jumped_106 : decode cX7_jumped 106 = .ok (.iadd, 1) := dk_96 (dk_at dksX7_jumped_4 13 rfl rfl)
theorem dX7_jumped_107 : decode cX7_jumped 107 = .ok (.istore 9, 2) := dk_54 9 (dk_at dksX7_jumped_4 14 rfl rfl)
theorem dX7_jumped_109 : decode cX7_jumped 109 = .ok (.goto (-56), 3) := dk_167 255 200 (dk_at dksX7_jumped_4 16 rfl rfl)
theorem dX7_jumped_112 : decode cX7_jumped 112 = .ok (.iload 8, 2) := dk_21 8 (dk_at dksX7_jumped_4 19 rfl rfl)
theorem dX7_jumped_114 : decode cX7_jumped 114 = .ok (.ireturn, 1) := dk_172 (dk_at dksX7_jumped_4 21 rfl rfl)
abbrev cX7_placeOf : ByteArray := prog_32_method_24_code
def yX7_placeOf : MethodName := ⟨RX7, "placeOf", "(II)I"⟩
def dkwX7_placeOf_0 : List UInt8 := [3, 62, 42, 27, 29, 182, 0, 112, 28, 159, 0, 9, 132, 3, 1, 167, 255, 243, 29, 172]
abbrev dktX7_placeOf_0 : List UInt8 := dkwX7_placeOf_0 ++ []
theorem dksX7_placeOf_0 : cX7_placeOf.data.toList.drop 0 = dktX7_placeOf_0 := by decide +kernel
theorem dX7_placeOf_0 : decode cX7_placeOf 0 = .ok (.iconst 0, 1) := dk_3 (dk_at dksX7_placeOf_0 0 rfl rfl)
theorem dX7_placeOf_1 : decode cX7_placeOf 1 = .ok (.istore_n 3, 1) := dk_62 (dk_at dksX7_placeOf_0 1 rfl rfl)
theorem dX7_placeOf_2 : decode cX7_placeOf 2 = .ok (.aload_n 0, 1) := dk_42 (dk_at dksX7_placeOf_0 2 rfl rfl)
theorem dX7_placeOf_3 : decode cX7_placeOf 3 = .ok (.iload_n 1, 1) := dk_27 (dk_at dksX7_placeOf_0 3 rfl rfl)
theorem dX7_placeOf_4 : decode cX7_placeOf 4 = .ok (.iload_n 3, 1) := dk_29 (dk_at dksX7_placeOf_0 4 rfl rfl)
theorem dX7_placeOf_5 : decode cX7_placeOf 5 = .ok (.invokevirtual 112, 3) := dk_182 0 112 (dk_at dksX7_placeOf_0 5 rfl rfl)
theorem dX7_placeOf_8 : decode cX7_placeOf 8 = .ok (.iload_n 2, 1) := dk_28 (dk_at dksX7_placeOf_0 8 rfl rfl)
theorem dX7_placeOf_9 : decode cX7_placeOf 9 = .ok (.if_icmp .eq 9, 3) := dk_159 0 9 (dk_at dksX7_placeOf_0 9 rfl rfl)
theorem dX7_placeOf_12 : decode cX7_placeOf 12 = .ok (.iinc 3 1, 3) := dk_132 3 1 (dk_at dksX7_placeOf_0 12 rfl rfl)
theorem dX7_placeOf_15 : decode cX7_placeOf 15 = .ok (.goto (-13), 3) := dk_167 255 243 (dk_at dksX7_placeOf_0 15 rfl rfl)
theorem dX7_placeOf_18 : decode cX7_placeOf 18 = .ok (.iload_n 3, 1) := dk_29 (dk_at dksX7_placeOf_0 18 rfl rfl)
theorem dX7_placeOf_19 : decode cX7_placeOf 19 = .ok (.ireturn, 1) := dk_172 (dk_at dksX7_placeOf_0 19 rfl rfl)
abbrev cX7_swapAt : ByteArray := prog_32_method_8_code
def yX7_swapAt : MethodName := ⟨RX7, "swapAt", "(II)I"⟩
def dkwX7_swapAt_1 : List UInt8 := [4, 100, 28, 100, 46, 42, 180, 0, 44, 42, 180, 0, 7, 5, 100, 28, 100, 46, 100, 104, 96, 172]
abbrev dktX7_swapAt_1 : List UInt8 := dkwX7_swapAt_1 ++ []
def dkwX7_swapAt_0 : List UInt8 := [27, 42, 27, 28, 4, 96, 182, 0, 112, 42, 27, 28, 182, 0, 112, 100, 42, 180, 0, 44, 42, 180, 0, 7]
abbrev dktX7_swapAt_0 : List UInt8 := dkwX7_swapAt_0 ++ dktX7_swapAt_1
theorem dksX7_swapAt_0 : cX7_swapAt.data.toList.drop 0 = dktX7_swapAt_0 := by decide +kernel
theorem dksX7_swapAt_1 : cX7_swapAt.data.toList.drop 24 = dktX7_swapAt_1 := dk_seg dksX7_swapAt_0 24 rfl rfl
theorem dX7_swapAt_0 : decode cX7_swapAt 0 = .ok (.iload_n 1, 1) := dk_27 (dk_at dksX7_swapAt_0 0 rfl rfl)
theorem dX7_swapAt_1 : decode cX7_swapAt 1 = .ok (.aload_n 0, 1) := dk_42 (dk_at dksX7_swapAt_0 1 rfl rfl)
theorem dX7_swapAt_2 : decode cX7_swapAt 2 = .ok (.iload_n 1, 1) := dk_27 (dk_at dksX7_swapAt_0 2 rfl rfl)
theorem dX7_swapAt_3 : decode cX7_swapAt 3 = .ok (.iload_n 2, 1) := dk_28 (dk_at dksX7_swapAt_0 3 rfl rfl)
theorem dX7_swapAt_4 : decode cX7_swapAt 4 = .ok (.iconst 1, 1) := dk_4 (dk_at dksX7_swapAt_0 4 rfl rfl)
theorem dX7_swapAt_5 : decode cX7_swapAt 5 = .ok (.iadd, 1) := dk_96 (dk_at dksX7_swapAt_0 5 rfl rfl)
theorem dX7_swapAt_6 : decode cX7_swapAt 6 = .ok (.invokevirtual 112, 3) := dk_182 0 112 (dk_at dksX7_swapAt_0 6 rfl rfl)
theorem dX7_swapAt_9 : decode cX7_swapAt 9 = .ok (.aload_n 0, 1) := dk_42 (dk_at dksX7_swapAt_0 9 rfl rfl)
theorem dX7_swapAt_10 : decode cX7_swapAt 10 = .ok (.iload_n 1, 1) := dk_27 (dk_at dksX7_swapAt_0 10 rfl rfl)
theorem dX7_swapAt_11 : decode cX7_swapAt 11 = .ok (.iload_n 2, 1) := dk_28 (dk_at dksX7_swapAt_0 11 rfl rfl)
theorem dX7_swapAt_12 : decode cX7_swapAt 12 = .ok (.invokevirtual 112, 3) := dk_182 0 112 (dk_at dksX7_swapAt_0 12 rfl rfl)
theorem dX7_swapAt_15 : decode cX7_swapAt 15 = .ok (.isub, 1) := dk_100 (dk_at dksX7_swapAt_0 15 rfl rfl)
theorem dX7_swapAt_16 : decode cX7_swapAt 16 = .ok (.aload_n 0, 1) := dk_42 (dk_at dksX7_swapAt_0 16 rfl rfl)
theorem dX7_swapAt_17 : decode cX7_swapAt 17 = .ok (.getfield 44, 3) := dk_180 0 44 (dk_at dksX7_swapAt_0 17 rfl rfl)
theorem dX7_swapAt_20 : decode cX7_swapAt 20 = .ok (.aload_n 0, 1) := dk_42 (dk_at dksX7_swapAt_0 20 rfl rfl)
theorem dX7_swapAt_21 : decode cX7_swapAt 21 = .ok (.getfield 7, 3) := dk_180 0 7 (dk_at dksX7_swapAt_0 21 rfl rfl)
theorem dX7_swapAt_24 : decode cX7_swapAt 24 = .ok (.iconst 1, 1) := dk_4 (dk_at dksX7_swapAt_1 0 rfl rfl)
theorem dX7_swapAt_25 : decode cX7_swapAt 25 = .ok (.isub, 1) := dk_100 (dk_at dksX7_swapAt_1 1 rfl rfl)
theorem dX7_swapAt_26 : decode cX7_swapAt 26 = .ok (.iload_n 2, 1) := dk_28 (dk_at dksX7_swapAt_1 2 rfl rfl)
theorem dX7_swapAt_27 : decode cX7_swapAt 27 = .ok (.isub, 1) := dk_100 (dk_at dksX7_swapAt_1 3 rfl rfl)
theorem dX7_swapAt_28 : decode cX7_swapAt 28 = .ok (.iaload, 1) := dk_46 (dk_at dksX7_swapAt_1 4 rfl rfl)
theorem dX7_swapAt_29 : decode cX7_swapAt 29 = .ok (.aload_n 0, 1) := dk_42 (dk_at dksX7_swapAt_1 5 rfl rfl)
theorem dX7_swapAt_30 : decode cX7_swapAt 30 = .ok (.getfield 44, 3) := dk_180 0 44 (dk_at dksX7_swapAt_1 6 rfl rfl)
theorem dX7_swapAt_33 : decode cX7_swapAt 33 = .ok (.aload_n 0, 1) := dk_42 (dk_at dksX7_swapAt_1 9 rfl rfl)
theorem dX7_swapAt_34 : decode cX7_swapAt 34 = .ok (.getfield 7, 3) := dk_180 0 7 (dk_at dksX7_swapAt_1 10 rfl rfl)
theorem dX7_swapAt_37 : decode cX7_swapAt 37 = .ok (.iconst 2, 1) := dk_5 (dk_at dksX7_swapAt_1 13 rfl rfl)
theorem dX7_swapAt_38 : decode cX7_swapAt 38 = .ok (.isub, 1) := dk_100 (dk_at dksX7_swapAt_1 14 rfl rfl)
theorem dX7_swapAt_39 : decode cX7_swapAt 39 = .ok (.iload_n 2, 1) := dk_28 (dk_at dksX7_swapAt_1 15 rfl rfl)
theorem dX7_swapAt_40 : decode cX7_swapAt 40 = .ok (.isub, 1) := dk_100 (dk_at dksX7_swapAt_1 16 rfl rfl)
theorem dX7_swapAt_41 : decode cX7_swapAt 41 = .ok (.iaload, 1) := dk_46 (dk_at dksX7_swapAt_1 17 rfl rfl)
theorem dX7_swapAt_42 : decode cX7_swapAt 42 = .ok (.isub, 1) := dk_100 (dk_at dksX7_swapAt_1 18 rfl rfl)
theorem dX7_swapAt_43 : decode cX7_swapAt 43 = .ok (.imul, 1) := dk_104 (dk_at dksX7_swapAt_1 19 rfl rfl)
theorem dX7_swapAt_44 : decode cX7_swapAt 44 = .ok (.iadd, 1) := dk_96 (dk_at dksX7_swapAt_1 20 rfl rfl)
theorem dX7_swapAt_45 : decode cX7_swapAt 45 = .ok (.ireturn, 1) := dk_172 (dk_at dksX7_swapAt_1 21 rfl rfl)
abbrev cX7_arc : ByteArray := prog_32_method_32_code
def yX7_arc : MethodName := ⟨RX7, "arc", "(II)I"⟩
def dkwX7_arc_1 : List UInt8 := [42, 27, 28, 182, 0, 187, 167, 0, 4, 2, 172]
abbrev dktX7_arc_1 : List UInt8 := dkwX7_arc_1 ++ []
def dkwX7_arc_0 : List UInt8 := [42, 27, 182, 0, 116, 153, 0, 28, 28, 133, 9, 42, 180, 0, 7, 5, 100, 133, 184, 0, 133, 153, 0, 12]
abbrev dktX7_arc_0 : List UInt8 := dkwX7_arc_0 ++ dktX7_arc_1
theorem dksX7_arc_0 : cX7_arc.data.toList.drop 0 = dktX7_arc_0 := by decide +kernel
theorem dksX7_arc_1 : cX7_arc.data.toList.drop 24 = dktX7_arc_1 := dk_seg dksX7_arc_0 24 rfl rfl
theorem dX7_arc_0 : decode cX7_arc 0 = .ok (.aload_n 0, 1) := dk_42 (dk_at dksX7_arc_0 0 rfl rfl)
theorem dX7_arc_1 : decode cX7_arc 1 = .ok (.iload_n 1, 1) := dk_27 (dk_at dksX7_arc_0 1 rfl rfl)
theorem dX7_arc_2 : decode cX7_arc 2 = .ok (.invokevirtual 116, 3) := dk_182 0 116 (dk_at dksX7_arc_0 2 rfl rfl)
theorem dX7_arc_5 : decode cX7_arc 5 = .ok (.ifCond .eq 28, 3) := dk_153 0 28 (dk_at dksX7_arc_0 5 rfl rfl)
theorem dX7_arc_8 : decode cX7_arc 8 = .ok (.iload_n 2, 1) := dk_28 (dk_at dksX7_arc_0 8 rfl rfl)
theorem dX7_arc_9 : decode cX7_arc 9 = .ok (.i2l, 1) := dk_133 (dk_at dksX7_arc_0 9 rfl rfl)
theorem dX7_arc_10 : decode cX7_arc 10 = .ok (.lconst 0, 1) := dk_9 (dk_at dksX7_arc_0 10 rfl rfl)
theorem dX7_arc_11 : decode cX7_arc 11 = .ok (.aload_n 0, 1) := dk_42 (dk_at dksX7_arc_0 11 rfl rfl)
theorem dX7_arc_12 : decode cX7_arc 12 = .ok (.getfield 7, 3) := dk_180 0 7 (dk_at dksX7_arc_0 12 rfl rfl)
theorem dX7_arc_15 : decode cX7_arc 15 = .ok (.iconst 2, 1) := dk_5 (dk_at dksX7_arc_0 15 rfl rfl)
theorem dX7_arc_16 : decode cX7_arc 16 = .ok (.isub, 1) := dk_100 (dk_at dksX7_arc_0 16 rfl rfl)
theorem dX7_arc_17 : decode cX7_arc 17 = .ok (.i2l, 1) := dk_133 (dk_at dksX7_arc_0 17 rfl rfl)
theorem dX7_arc_18 : decode cX7_arc 18 = .ok (.invokestatic 133, 3) := dk_184 0 133 (dk_at dksX7_arc_0 18 rfl rfl)
theorem dX7_arc_21 : decode cX7_arc 21 = .ok (.ifCond .eq 12, 3) := dk_153 0 12 (dk_at dksX7_arc_0 21 rfl rfl)
theorem dX7_arc_24 : decode cX7_arc 24 = .ok (.aload_n 0, 1) := dk_42 (dk_at dksX7_arc_1 0 rfl rfl)
theorem dX7_arc_25 : decode cX7_arc 25 = .ok (.iload_n 1, 1) := dk_27 (dk_at dksX7_arc_1 1 rfl rfl)
theorem dX7_arc_26 : decode cX7_arc 26 = .ok (.iload_n 2, 1) := dk_28 (dk_at dksX7_arc_1 2 rfl rfl)
theorem dX7_arc_27 : decode cX7_arc 27 = .ok (.invokevirtual 187, 3) := dk_182 0 187 (dk_at dksX7_arc_1 3 rfl rfl)
theorem dX7_arc_30 : decode cX7_arc 30 = .ok (.goto 4, 3) := dk_167 0 4 (dk_at dksX7_arc_1 6 rfl rfl)
theorem dX7_arc_33 : decode cX7_arc 33 = .ok (.iconst (-1), 1) := dk_2 (dk_at dksX7_arc_1 9 rfl rfl)
theorem dX7_arc_34 : decode cX7_arc 34 = .ok (.ireturn, 1) := dk_172 (dk_at dksX7_arc_1 10 rfl rfl)
abbrev cX7_arcAt : ByteArray := prog_32_method_31_code
def yX7_arcAt : MethodName := ⟨RX7, "arcAt", "(II)I"⟩
def dkwX7_arcAt_6 : List UInt8 := [132, 8, 1, 167, 255, 217, 21, 8, 172]
abbrev dktX7_arcAt_6 : List UInt8 := dkwX7_arcAt_6 ++ []
def dkwX7_arcAt_5 : List UInt8 := [180, 0, 32, 21, 8, 46, 21, 6, 160, 0, 15, 42, 180, 0, 35, 21, 8, 46, 21, 7, 159, 0, 9]
abbrev dktX7_arcAt_5 : List UInt8 := dkwX7_arcAt_5 ++ dktX7_arcAt_6
def dkwX7_arcAt_4 : List UInt8 := [54, 7, 132, 8, 1, 167, 255, 206, 3, 54, 8, 42, 180, 0, 29, 21, 8, 46, 21, 5, 160, 0, 27, 42]
abbrev dktX7_arcAt_4 : List UInt8 := dkwX7_arcAt_4 ++ dktX7_arcAt_5
def dkwX7_arcAt_3 : List UInt8 := [164, 0, 22, 21, 9, 21, 6, 162, 0, 15, 4, 21, 9, 21, 5, 100, 4, 100, 120, 167, 0, 4, 3, 128]
abbrev dktX7_arcAt_3 : List UInt8 := dkwX7_arcAt_3 ++ dktX7_arcAt_4
def dkwX7_arcAt_2 : List UInt8 := [3, 54, 8, 21, 8, 28, 162, 0, 50, 42, 27, 21, 8, 182, 0, 112, 54, 9, 21, 7, 21, 9, 21, 5]
abbrev dktX7_arcAt_2 : List UInt8 := dkwX7_arcAt_2 ++ dktX7_arcAt_3
def dkwX7_arcAt_1 : List UInt8 := [167, 0, 5, 21, 4, 54, 5, 29, 21, 4, 162, 0, 8, 21, 4, 167, 0, 4, 29, 54, 6, 3, 54, 7]
abbrev dktX7_arcAt_1 : List UInt8 := dkwX7_arcAt_1 ++ dktX7_arcAt_2
def dkwX7_arcAt_0 : List UInt8 := [42, 27, 28, 182, 0, 112, 62, 42, 27, 28, 4, 96, 182, 0, 112, 54, 4, 29, 21, 4, 162, 0, 7, 29]
abbrev dktX7_arcAt_0 : List UInt8 := dkwX7_arcAt_0 ++ dktX7_arcAt_1
theorem dksX7_arcAt_0 : cX7_arcAt.data.toList.drop 0 = dktX7_arcAt_0 := by decide +kernel
theorem dksX7_arcAt_1 : cX7_arcAt.data.toList.drop 24 = dktX7_arcAt_1 := dk_seg dksX7_arcAt_0 24 rfl rfl
theorem dksX7_arcAt_2 : cX7_arcAt.data.toList.drop 48 = dktX7_arcAt_2 := dk_seg dksX7_arcAt_1 24 rfl rfl
theorem dksX7_arcAt_3 : cX7_arcAt.data.toList.drop 72 = dktX7_arcAt_3 := dk_seg dksX7_arcAt_2 24 rfl rfl
theorem dksX7_arcAt_4 : cX7_arcAt.data.toList.drop 96 = dktX7_arcAt_4 := dk_seg dksX7_arcAt_3 24 rfl rfl
theorem dksX7_arcAt_5 : cX7_arcAt.data.toList.drop 120 = dktX7_arcAt_5 := dk_seg dksX7_arcAt_4 24 rfl rfl
theorem dksX7_arcAt_6 : cX7_arcAt.data.toList.drop 143 = dktX7_arcAt_6 := dk_seg dksX7_arcAt_5 23 rfl rfl
theorem dX7_arcAt_0 : decode cX7_arcAt 0 = .ok (.aload_n 0, 1) := dk_42 (dk_at dksX7_arcAt_0 0 rfl rfl)
theorem dX7_arcAt_1 : decode cX7_arcAt 1 = .ok (.iload_n 1, 1) := dk_27 (dk_at dksX7_arcAt_0 1 rfl rfl)
theorem dX7_arcAt_2 : decode cX7_arcAt 2 = .ok (.iload_n 2, 1) := dk_28 (dk_at dksX7_arcAt_0 2 rfl rfl)
theorem dX7_arcAt_3 : decode cX7_arcAt 3 = .ok (.invokevirtual 112, 3) := dk_182 0 112 (dk_at dksX7_arcAt_0 3 rfl rfl)
theorem dX7_arcAt_6 : decode cX7_arcAt 6 = .ok (.istore_n 3, 1) := dk_62 (dk_at dksX7_arcAt_0 6 rfl rfl)
theorem dX7_arcAt_7 : decode cX7_arcAt 7 = .ok (.aload_n 0, 1) := dk_42 (dk_at dksX7_arcAt_0 7 rfl rfl)
theorem dX7_arcAt_8 : decode cX7_arcAt 8 = .ok (.iload_n 1, 1) := dk_27 (dk_at dksX7_arcAt_0 8 rfl rfl)
theorem dX7_arcAt_9 : decode cX7_arcAt 9 = .ok (.iload_n 2, 1) := dk_28 (dk_at dksX7_arcAt_0 9 rfl rfl)
theorem dX7_arcAt_10 : decode cX7_arcAt 10 = .ok (.iconst 1, 1) := dk_4 (dk_at dksX7_arcAt_0 10 rfl rfl)
theorem dX7_arcAt_11 : decode cX7_arcAt 11 = .ok (.iadd, 1) := dk_96 (dk_at dksX7_arcAt_0 11 rfl rfl)
theorem dX7_arcAt_12 : decode cX7_arcAt 12 = .ok (.invokevirtual 112, 3) := dk_182 0 112 (dk_at dksX7_arcAt_0 12 rfl rfl)
theorem dX7_arcAt_15 : decode cX7_arcAt 15 = .ok (.istore 4, 2) := dk_54 4 (dk_at dksX7_arcAt_0 15 rfl rfl)
theorem dX7_arcAt_17 : decode cX7_arcAt 17 = .ok (.iload_n 3, 1) := dk_29 (dk_at dksX7_arcAt_0 17 rfl rfl)
theorem dX7_arcAt_18 : decode cX7_arcAt 18 = .ok (.iload 4, 2) := dk_21 4 (dk_at dksX7_arcAt_0 18 rfl rfl)
theorem dX7_arcAt_20 : decode cX7_arcAt 20 = .ok (.if_icmp .ge 7, 3) := dk_162 0 7 (dk_at dksX7_arcAt_0 20 rfl rfl)
theorem dX7_arcAt_23 : decode cX7_arcAt 23 = .ok (.iload_n 3, 1) := dk_29 (dk_at dksX7_arcAt_0 23 rfl rfl)
theorem dX7_arcAt_24 : decode cX7_arcAt 24 = .ok (.goto 5, 3) := dk_167 0 5 (dk_at dksX7_arcAt_1 0 rfl rfl)
theorem dX7_arcAt_27 : decode cX7_arcAt 27 = .ok (.iload 4, 2) := dk_21 4 (dk_at dksX7_arcAt_1 3 rfl rfl)
theorem dX7_arcAt_29 : decode cX7_arcAt 29 = .ok (.istore 5, 2) := dk_54 5 (dk_at dksX7_arcAt_1 5 rfl rfl)
theorem dX7_arcAt_31 : decode cX7_arcAt 31 = .ok (.iload_n 3, 1) := dk_29 (dk_at dksX7_arcAt_1 7 rfl rfl)
theorem dX7_arcAt_32 : decode cX7_arcAt 32 = .ok (.iload 4, 2) := dk_21 4 (dk_at dksX7_arcAt_1 8 rfl rfl)
theorem dX7_arcAt_34 : decode cX7_arcAt 34 = .ok (.if_icmp .ge 8, 3) := dk_162 0 8 (dk_at dksX7_arcAt_1 10 rfl rfl)
theorem dX7_arcAt_37 : decode cX7_arcAt 37 = .ok (.iload 4, 2) := dk_21 4 (dk_at dksX7_arcAt_1 13 rfl rfl)
theorem dX7_arcAt_39 : decode cX7_arcAt 39 = .ok (.goto 4, 3) := dk_167 0 4 (dk_at dksX7_arcAt_1 15 rfl rfl)
theorem dX7_arcAt_42 : decode cX7_arcAt 42 = .ok (.iload_n 3, 1) := dk_29 (dk_at dksX7_arcAt_1 18 rfl rfl)
theorem dX7_arcAt_43 : decode cX7_arcAt 43 = .ok (.istore 6, 2) := dk_54 6 (dk_at dksX7_arcAt_1 19 rfl rfl)
theorem dX7_arcAt_45 : decode cX7_arcAt 45 = .ok (.iconst 0, 1) := dk_3 (dk_at dksX7_arcAt_1 21 rfl rfl)
theorem dX7_arcAt_46 : decode cX7_arcAt 46 = .ok (.istore 7, 2) := dk_54 7 (dk_at dksX7_arcAt_1 22 rfl rfl)
theorem dX7_arcAt_48 : decode cX7_arcAt 48 = .ok (.iconst 0, 1) := dk_3 (dk_at dksX7_arcAt_2 0 rfl rfl)
theorem dX7_arcAt_49 : decode cX7_arcAt 49 = .ok (.istore 8, 2) := dk_54 8 (dk_at dksX7_arcAt_2 1 rfl rfl)
theorem dX7_arcAt_51 : decode cX7_arcAt 51 = .ok (.iload 8, 2) := dk_21 8 (dk_at dksX7_arcAt_2 3 rfl rfl)
theorem dX7_arcAt_53 : decode cX7_arcAt 53 = .ok (.iload_n 2, 1) := dk_28 (dk_at dksX7_arcAt_2 5 rfl rfl)
theorem dX7_arcAt_54 : decode cX7_arcAt 54 = .ok (.if_icmp .ge 50, 3) := dk_162 0 50 (dk_at dksX7_arcAt_2 6 rfl rfl)
theorem dX7_arcAt_57 : decode cX7_arcAt 57 = .ok (.aload_n 0, 1) := dk_42 (dk_at dksX7_arcAt_2 9 rfl rfl)
theorem dX7_arcAt_58 : decode cX7_arcAt 58 = .ok (.iload_n 1, 1) := dk_27 (dk_at dksX7_arcAt_2 10 rfl rfl)
theorem dX7_arcAt_59 : decode cX7_arcAt 59 = .ok (.iload 8, 2) := dk_21 8 (dk_at dksX7_arcAt_2 11 rfl rfl)
theorem dX7_arcAt_61 : decode cX7_arcAt 61 = .ok (.invokevirtual 112, 3) := dk_182 0 112 (dk_at dksX7_arcAt_2 13 rfl rfl)
theorem dX7_arcAt_64 : decode cX7_arcAt 64 = .ok (.istore 9, 2) := dk_54 9 (dk_at dksX7_arcAt_2 16 rfl rfl)
theorem dX7_arcAt_66 : decode cX7_arcAt 66 = .ok (.iload 7, 2) := dk_21 7 (dk_at dksX7_arcAt_2 18 rfl rfl)
theorem dX7_arcAt_68 : decode cX7_arcAt 68 = .ok (.iload 9, 2) := dk_21 9 (dk_at dksX7_arcAt_2 20 rfl rfl)
theorem dX7_arcAt_70 : decode cX7_arcAt 70 = .ok (.iload 5, 2) := dk_21 5 (dk_at dksX7_arcAt_2 22 rfl rfl)
theorem dX7_arcAt_72 : decode cX7_arcAt 72 = .ok (.if_icmp .le 22, 3) := dk_164 0 22 (dk_at dksX7_arcAt_3 0 rfl rfl)
theorem dX7_arcAt_75 : decode cX7_arcAt 75 = .ok (.iload 9, 2) := dk_21 9 (dk_at dksX7_arcAt_3 3 rfl rfl)
theorem dX7_arcAt_77 : decode cX7_arcAt 77 = .ok (.iload 6, 2) := dk_21 6 (dk_at dksX7_arcAt_3 5 rfl rfl)
theorem dX7_arcAt_79 : decode cX7_arcAt 79 = .ok (.if_icmp .ge 15, 3) := dk_162 0 15 (dk_at dksX7_arcAt_3 7 rfl rfl)
theorem dX7_arcAt_82 : decode cX7_arcAt 82 = .ok (.iconst 1, 1) := dk_4 (dk_at dksX7_arcAt_3 10 rfl rfl)
theorem dX7_arcAt_83 : decode cX7_arcAt 83 = .ok (.iload 9, 2) := dk_21 9 (dk_at dksX7_arcAt_3 11 rfl rfl)
theorem dX7_arcAt_85 : decode cX7_arcAt 85 = .ok (.iload 5, 2) := dk_21 5 (dk_at dksX7_arcAt_3 13 rfl rfl)
theorem dX7_arcAt_87 : decode cX7_arcAt 87 = .ok (.isub, 1) := dk_100 (dk_at dksX7_arcAt_3 15 rfl rfl)
theorem dX7_arcAt_88 : decode cX7_arcAt 88 = .ok (.iconst 1, 1) := dk_4 (dk_at dksX7_arcAt_3 16 rfl rfl)
theorem dX7_arcAt_89 : decode cX7_arcAt 89 = .ok (.isub, 1) := dk_100 (dk_at dksX7_arcAt_3 17 rfl rfl)
theorem dX7_arcAt_90 : decode cX7_arcAt 90 = .ok (.ishl, 1) := dk_120 (dk_at dksX7_arcAt_3 18 rfl rfl)
theorem dX7_arcAt_91 : decode cX7_arcAt 91 = .ok (.goto 4, 3) := dk_167 0 4 (dk_at dksX7_arcAt_3 19 rfl rfl)
theorem dX7_arcAt_94 : decode cX7_arcAt 94 = .ok (.iconst 0, 1) := dk_3 (dk_at dksX7_arcAt_3 22 rfl rfl)
theorem dX7_arcAt_95 : decode cX7_arcAt 95 = .ok (.ior, 1) := dk_128 (dk_at dksX7_arcAt_3 23 rfl rfl)
theorem dX7_arcAt_96 : decode cX7_arcAt 96 = .ok (.istore 7, 2) := dk_54 7 (dk_at dksX7_arcAt_4 0 rfl rfl)
theorem dX7_arcAt_98 : decode cX7_arcAt 98 = .ok (.iinc 8 1, 3) := dk_132 8 1 (dk_at dksX7_arcAt_4 2 rfl rfl)
theorem dX7_arcAt_101 : decode cX7_arcAt 101 = .ok (.goto (-50), 3) := dk_167 255 206 (dk_at dksX7_arcAt_4 5 rfl rfl)
theorem dX7_arcAt_104 : decode cX7_arcAt 104 = .ok (.iconst 0, 1) := dk_3 (dk_at dksX7_arcAt_4 8 rfl rfl)
theorem dX7_arcAt_105 : decode cX7_arcAt 105 = .ok (.istore 8, 2) := dk_54 8 (dk_at dksX7_arcAt_4 9 rfl rfl)
theorem dX7_arcAt_107 : decode cX7_arcAt 107 = .ok (.aload_n 0, 1) := dk_42 (dk_at dksX7_arcAt_4 11 rfl rfl)
theorem dX7_arcAt_108 : decode cX7_arcAt 108 = .ok (.getfield 29, 3) := dk_180 0 29 (dk_at dksX7_arcAt_4 12 rfl rfl)
theorem dX7_arcAt_111 : decode cX7_arcAt 111 = .ok (.iload 8, 2) := dk_21 8 (dk_at dksX7_arcAt_4 15 rfl rfl)
theorem dX7_arcAt_113 : decode cX7_arcAt 113 = .ok (.iaload, 1) := dk_46 (dk_at dksX7_arcAt_4 17 rfl rfl)
theorem dX7_arcAt_114 : decode cX7_arcAt 114 = .ok (.iload 5, 2) := dk_21 5 (dk_at dksX7_arcAt_4 18 rfl rfl)
theorem dX7_arcAt_116 : decode cX7_arcAt 116 = .ok (.if_icmp .ne 27, 3) := dk_160 0 27 (dk_at dksX7_arcAt_4 20 rfl rfl)
theorem dX7_arcAt_119 : decode cX7_arcAt 119 = .ok (.aload_n 0, 1) := dk_42 (dk_at dksX7_arcAt_4 23 rfl rfl)
theorem dX7_arcAt_120 : decode cX7_arcAt 120 = .ok (.getfield 32, 3) := dk_180 0 32 (dk_at dksX7_arcAt_5 0 rfl rfl)
theorem dX7_arcAt_123 : decode cX7_arcAt 123 = .ok (.iload 8, 2) := dk_21 8 (dk_at dksX7_arcAt_5 3 rfl rfl)
theorem dX7_arcAt_125 : decode cX7_arcAt 125 = .ok (.iaload, 1) := dk_46 (dk_at dksX7_arcAt_5 5 rfl rfl)
theorem dX7_arcAt_126 : decode cX7_arcAt 126 = .ok (.iload 6, 2) := dk_21 6 (dk_at dksX7_arcAt_5 6 rfl rfl)
theorem dX7_arcAt_128 : decode cX7_arcAt 128 = .ok (.if_icmp .ne 15, 3) := dk_160 0 15 (dk_at dksX7_arcAt_5 8 rfl rfl)
theorem dX7_arcAt_131 : decode cX7_arcAt 131 = .ok (.aload_n 0, 1) := dk_42 (dk_at dksX7_arcAt_5 11 rfl rfl)
theorem dX7_arcAt_132 : decode cX7_arcAt 132 = .ok (.getfield 35, 3) := dk_180 0 35 (dk_at dksX7_arcAt_5 12 rfl rfl)
theorem dX7_arcAt_135 : decode cX7_arcAt 135 = .ok (.iload 8, 2) := dk_21 8 (dk_at dksX7_arcAt_5 15 rfl rfl)
theorem dX7_arcAt_137 : decode cX7_arcAt 137 = .ok (.iaload, 1) := dk_46 (dk_at dksX7_arcAt_5 17 rfl rfl)
theorem dX7_arcAt_138 : decode cX7_arcAt 138 = .ok (.iload 7, 2) := dk_21 7 (dk_at dksX7_arcAt_5 18 rfl rfl)
theorem dX7_arcAt_140 : decode cX7_arcAt 140 = .ok (.if_icmp .eq 9, 3) := dk_159 0 9 (dk_at dksX7_arcAt_5 20 rfl rfl)
theorem dX7_arcAt_143 : decode cX7_arcAt 143 = .ok (.iinc 8 1, 3) := dk_132 8 1 (dk_at dksX7_arcAt_6 0 rfl rfl)
theorem dX7_arcAt_146 : decode cX7_arcAt 146 = .ok (.goto (-39), 3) := dk_167 255 217 (dk_at dksX7_arcAt_6 3 rfl rfl)
theorem dX7_arcAt_149 : decode cX7_arcAt 149 = .ok (.iload 8, 2) := dk_21 8 (dk_at dksX7_arcAt_6 6 rfl rfl)
theorem dX7_arcAt_151 : decode cX7_arcAt 151 = .ok (.ireturn, 1) := dk_172 (dk_at dksX7_arcAt_6 8 rfl rfl)
abbrev cX7_arcIs : ByteArray := prog_32_method_37_code
def yX7_arcIs : MethodName := ⟨RX7, "arcIs", "(II)I"⟩
def dkwX7_arcIs_4 : List UInt8 := [184, 0, 127, 172, 42, 27, 182, 0, 197, 184, 0, 127, 172, 42, 27, 182, 0, 200, 172, 2, 172]
abbrev dktX7_arcIs_4 : List UInt8 := dkwX7_arcIs_4 ++ []
def dkwX7_arcIs_3 : List UInt8 := [180, 0, 137, 27, 184, 0, 108, 153, 0, 7, 4, 167, 0, 4, 3, 172, 42, 180, 0, 38, 27, 47]
abbrev dktX7_arcIs_3 : List UInt8 := dkwX7_arcIs_3 ++ dktX7_arcIs_4
def dkwX7_arcIs_2 : List UInt8 := [42, 180, 0, 29, 27, 46, 172, 42, 180, 0, 32, 27, 46, 172, 42, 180, 0, 35, 27, 46, 172, 42]
abbrev dktX7_arcIs_2 : List UInt8 := dkwX7_arcIs_2 ++ dktX7_arcIs_3
def dkwX7_arcIs_1 : List UInt8 := [170, 0, 0, 0, 104, 0, 0, 0, 0, 0, 0, 0, 6, 0, 0, 0, 41, 0, 0, 0, 48, 0, 0, 0, 55, 0, 0, 0, 62, 0, 0, 0, 79, 0, 0, 0, 89, 0, 0, 0, 98]
abbrev dktX7_arcIs_1 : List UInt8 := dkwX7_arcIs_1 ++ dktX7_arcIs_2
def dkwX7_arcIs_0 : List UInt8 := [42, 27, 182, 0, 194, 154, 0, 5, 2, 172, 28]
abbrev dktX7_arcIs_0 : List UInt8 := dkwX7_arcIs_0 ++ dktX7_arcIs_1
theorem dksX7_arcIs_0 : cX7_arcIs.data.toList.drop 0 = dktX7_arcIs_0 := by decide +kernel
theorem dksX7_arcIs_1 : cX7_arcIs.data.toList.drop 11 = dktX7_arcIs_1 := dk_seg dksX7_arcIs_0 11 rfl rfl
theorem dksX7_arcIs_2 : cX7_arcIs.data.toList.drop 52 = dktX7_arcIs_2 := dk_seg dksX7_arcIs_1 41 rfl rfl
theorem dksX7_arcIs_3 : cX7_arcIs.data.toList.drop 74 = dktX7_arcIs_3 := dk_seg dksX7_arcIs_2 22 rfl rfl
theorem dksX7_arcIs_4 : cX7_arcIs.data.toList.drop 96 = dktX7_arcIs_4 := dk_seg dksX7_arcIs_3 22 rfl rfl
theorem dX7_arcIs_0 : decode cX7_arcIs 0 = .ok (.aload_n 0, 1) := dk_42 (dk_at dksX7_arcIs_0 0 rfl rfl)
theorem dX7_arcIs_1 : decode cX7_arcIs 1 = .ok (.iload_n 1, 1) := dk_27 (dk_at dksX7_arcIs_0 1 rfl rfl)
theorem dX7_arcIs_2 : decode cX7_arcIs 2 = .ok (.invokevirtual 194, 3) := dk_182 0 194 (dk_at dksX7_arcIs_0 2 rfl rfl)
theorem dX7_arcIs_5 : decode cX7_arcIs 5 = .ok (.ifCond .ne 5, 3) := dk_154 0 5 (dk_at dksX7_arcIs_0 5 rfl rfl)
theorem dX7_arcIs_8 : decode cX7_arcIs 8 = .ok (.iconst (-1), 1) := dk_2 (dk_at dksX7_arcIs_0 8 rfl rfl)
theorem dX7_arcIs_9 : decode cX7_arcIs 9 = .ok (.ireturn, 1) := dk_172 (dk_at dksX7_arcIs_0 9 rfl rfl)
theorem dX7_arcIs_10 : decode cX7_arcIs 10 = .ok (.iload_n 2, 1) := dk_28 (dk_at dksX7_arcIs_0 10 rfl rfl)
theorem dX7_arcIs_11 : decode cX7_arcIs 11 = .ok (.tableswitch 104 0 6 #[41, 48, 55, 62, 79, 89, 98], 41) := by decide +kernel
theorem dX7_arcIs_52 : decode cX7_arcIs 52 = .ok (.aload_n 0, 1) := dk_42 (dk_at dksX7_arcIs_2 0 rfl rfl)
theorem dX7_arcIs_53 : decode cX7_arcIs 53 = .ok (.getfield 29, 3) := dk_180 0 29 (dk_at dksX7_arcIs_2 1 rfl rfl)
theorem dX7_arcIs_56 : decode cX7_arcIs 56 = .ok (.iload_n 1, 1) := dk_27 (dk_at dksX7_arcIs_2 4 rfl rfl)
theorem dX7_arcIs_57 : decode cX7_arcIs 57 = .ok (.iaload, 1) := dk_46 (dk_at dksX7_arcIs_2 5 rfl rfl)
theorem dX7_arcIs_58 : decode cX7_arcIs 58 = .ok (.ireturn, 1) := dk_172 (dk_at dksX7_arcIs_2 6 rfl rfl)
theorem dX7_arcIs_59 : decode cX7_arcIs 59 = .ok (.aload_n 0, 1) := dk_42 (dk_at dksX7_arcIs_2 7 rfl rfl)
theorem dX7_arcIs_60 : decode cX7_arcIs 60 = .ok (.getfield 32, 3) := dk_180 0 32 (dk_at dksX7_arcIs_2 8 rfl rfl)
theorem dX7_arcIs_63 : decode cX7_arcIs 63 = .ok (.iload_n 1, 1) := dk_27 (dk_at dksX7_arcIs_2 11 rfl rfl)
theorem dX7_arcIs_64 : decode cX7_arcIs 64 = .ok (.iaload, 1) := dk_46 (dk_at dksX7_arcIs_2 12 rfl rfl)
theorem dX7_arcIs_65 : decode cX7_arcIs 65 = .ok (.ireturn, 1) := dk_172 (dk_at dksX7_arcIs_2 13 rfl rfl)
theorem dX7_arcIs_66 : decode cX7_arcIs 66 = .ok (.aload_n 0, 1) := dk_42 (dk_at dksX7_arcIs_2 14 rfl rfl)
theorem dX7_arcIs_67 : decode cX7_arcIs 67 = .ok (.getfield 35, 3) := dk_180 0 35 (dk_at dksX7_arcIs_2 15 rfl rfl)
theorem dX7_arcIs_70 : decode cX7_arcIs 70 = .ok (.iload_n 1, 1) := dk_27 (dk_at dksX7_arcIs_2 18 rfl rfl)
theorem dX7_arcIs_71 : decode cX7_arcIs 71 = .ok (.iaload, 1) := dk_46 (dk_at dksX7_arcIs_2 19 rfl rfl)
theorem dX7_arcIs_72 : decode cX7_arcIs 72 = .ok (.ireturn, 1) := dk_172 (dk_at dksX7_arcIs_2 20 rfl rfl)
theorem dX7_arcIs_73 : decode cX7_arcIs 73 = .ok (.aload_n 0, 1) := dk_42 (dk_at dksX7_arcIs_2 21 rfl rfl)
theorem dX7_arcIs_74 : decode cX7_arcIs 74 = .ok (.getfield 137, 3) := dk_180 0 137 (dk_at dksX7_arcIs_3 0 rfl rfl)
theorem dX7_arcIs_77 : decode cX7_arcIs 77 = .ok (.iload_n 1, 1) := dk_27 (dk_at dksX7_arcIs_3 3 rfl rfl)
theorem dX7_arcIs_78 : decode cX7_arcIs 78 = .ok (.invokestatic 108, 3) := dk_184 0 108 (dk_at dksX7_arcIs_3 4 rfl rfl)
theorem dX7_arcIs_81 : decode cX7_arcIs 81 = .ok (.ifCond .eq 7, 3) := dk_153 0 7 (dk_at dksX7_arcIs_3 7 rfl rfl)
theorem dX7_arcIs_84 : decode cX7_arcIs 84 = .ok (.iconst 1, 1) := dk_4 (dk_at dksX7_arcIs_3 10 rfl rfl)
theorem dX7_arcIs_85 : decode cX7_arcIs 85 = .ok (.goto 4, 3) := dk_167 0 4 (dk_at dksX7_arcIs_3 11 rfl rfl)
theorem dX7_arcIs_88 : decode cX7_arcIs 88 = .ok (.iconst 0, 1) := dk_3 (dk_at dksX7_arcIs_3 14 rfl rfl)
theorem dX7_arcIs_89 : decode cX7_arcIs 89 = .ok (.ireturn, 1) := dk_172 (dk_at dksX7_arcIs_3 15 rfl rfl)
theorem dX7_arcIs_90 : decode cX7_arcIs 90 = .ok (.aload_n 0, 1) := dk_42 (dk_at dksX7_arcIs_3 16 rfl rfl)
theorem dX7_arcIs_91 : decode cX7_arcIs 91 = .ok (.getfield 38, 3) := dk_180 0 38 (dk_at dksX7_arcIs_3 17 rfl rfl)
theorem dX7_arcIs_94 : decode cX7_arcIs 94 = .ok (.iload_n 1, 1) := dk_27 (dk_at dksX7_arcIs_3 20 rfl rfl)
theorem dX7_arcIs_95 : decode cX7_arcIs 95 = .ok (.laload, 1) := dk_47 (dk_at dksX7_arcIs_3 21 rfl rfl)
theorem dX7_arcIs_96 : decode cX7_arcIs 96 = .ok (.invokestatic 127, 3) := dk_184 0 127 (dk_at dksX7_arcIs_4 0 rfl rfl)
theorem dX7_arcIs_99 : decode cX7_arcIs 99 = .ok (.ireturn, 1) := dk_172 (dk_at dksX7_arcIs_4 3 rfl rfl)
theorem dX7_arcIs_100 : decode cX7_arcIs 100 = .ok (.aload_n 0, 1) := dk_42 (dk_at dksX7_arcIs_4 4 rfl rfl)
theorem dX7_arcIs_101 : decode cX7_arcIs 101 = .ok (.iload_n 1, 1) := dk_27 (dk_at dksX7_arcIs_4 5 rfl rfl)
theorem dX7_arcIs_102 : decode cX7_arcIs 102 = .ok (.invokevirtual 197, 3) := dk_182 0 197 (dk_at dksX7_arcIs_4 6 rfl rfl)
theorem dX7_arcIs_105 : decode cX7_arcIs 105 = .ok (.invokestatic 127, 3) := dk_184 0 127 (dk_at dksX7_arcIs_4 9 rfl rfl)
theorem dX7_arcIs_108 : decode cX7_arcIs 108 = .ok (.ireturn, 1) := dk_172 (dk_at dksX7_arcIs_4 12 rfl rfl)
theorem dX7_arcIs_109 : decode cX7_arcIs 109 = .ok (.aload_n 0, 1) := dk_42 (dk_at dksX7_arcIs_4 13 rfl rfl)
theorem dX7_arcIs_110 : decode cX7_arcIs 110 = .ok (.iload_n 1, 1) := dk_27 (dk_at dksX7_arcIs_4 14 rfl rfl)
theorem dX7_arcIs_111 : decode cX7_arcIs 111 = .ok (.invokevirtual 200, 3) := dk_182 0 200 (dk_at dksX7_arcIs_4 15 rfl rfl)
theorem dX7_arcIs_114 : decode cX7_arcIs 114 = .ok (.ireturn, 1) := dk_172 (dk_at dksX7_arcIs_4 18 rfl rfl)
theorem dX7_arcIs_115 : decode cX7_arcIs 115 = .ok (.iconst (-1), 1) := dk_2 (dk_at dksX7_arcIs_4 19 rfl rfl)
theorem dX7_arcIs_116 : decode cX7_arcIs 116 = .ok (.ireturn, 1) := dk_172 (dk_at dksX7_arcIs_4 20 rfl rfl)
abbrev cX7_isArc : ByteArray := prog_32_method_30_code
def yX7_isArc : MethodName := ⟨RX7, "isArc", "(I)Z"⟩
def dkwX7_isArc_0 : List UInt8 := [27, 133, 9, 42, 180, 0, 178, 4, 100, 133, 184, 0, 133, 172]
abbrev dktX7_isArc_0 : List UInt8 := dkwX7_isArc_0 ++ []
theorem dksX7_isArc_0 : cX7_isArc.data.toList.drop 0 = dktX7_isArc_0 := by decide +kernel
theorem dX7_isArc_0 : decode cX7_isArc 0 = .ok (.iload_n 1, 1) := dk_27 (dk_at dksX7_isArc_0 0 rfl rfl)
theorem dX7_isArc_1 : decode cX7_isArc 1 = .ok (.i2l, 1) := dk_133 (dk_at dksX7_isArc_0 1 rfl rfl)
theorem dX7_isArc_2 : decode cX7_isArc 2 = .ok (.lconst 0, 1) := dk_9 (dk_at dksX7_isArc_0 2 rfl rfl)
theorem dX7_isArc_3 : decode cX7_isArc 3 = .ok (.aload_n 0, 1) := dk_42 (dk_at dksX7_isArc_0 3 rfl rfl)
theorem dX7_isArc_4 : decode cX7_isArc 4 = .ok (.getfield 178, 3) := dk_180 0 178 (dk_at dksX7_isArc_0 4 rfl rfl)
theorem dX7_isArc_7 : decode cX7_isArc 7 = .ok (.iconst 1, 1) := dk_4 (dk_at dksX7_isArc_0 7 rfl rfl)
theorem dX7_isArc_8 : decode cX7_isArc 8 = .ok (.isub, 1) := dk_100 (dk_at dksX7_isArc_0 8 rfl rfl)
theorem dX7_isArc_9 : decode cX7_isArc 9 = .ok (.i2l, 1) := dk_133 (dk_at dksX7_isArc_0 9 rfl rfl)
theorem dX7_isArc_10 : decode cX7_isArc 10 = .ok (.invokestatic 133, 3) := dk_184 0 133 (dk_at dksX7_isArc_0 10 rfl rfl)
theorem dX7_isArc_13 : decode cX7_isArc 13 = .ok (.ireturn, 1) := dk_172 (dk_at dksX7_isArc_0 13 rfl rfl)
abbrev cX7_forcers : ByteArray := prog_32_method_35_code
def yX7_forcers : MethodName := ⟨RX7, "forcers", "(I)J"⟩
def dkwX7_forcers_1 : List UInt8 := [184, 0, 108, 153, 0, 10, 10, 21, 4, 121, 167, 0, 4, 9, 129, 65, 132, 4, 1, 167, 255, 219, 32, 173]
abbrev dktX7_forcers_1 : List UInt8 := dkwX7_forcers_1 ++ []
def dkwX7_forcers_0 : List UInt8 := [9, 65, 3, 54, 4, 21, 4, 42, 180, 0, 178, 162, 0, 34, 32, 42, 180, 0, 38, 21, 4, 47, 27]
abbrev dktX7_forcers_0 : List UInt8 := dkwX7_forcers_0 ++ dktX7_forcers_1
theorem dksX7_forcers_0 : cX7_forcers.data.toList.drop 0 = dktX7_forcers_0 := by decide +kernel
theorem dksX7_forcers_1 : cX7_forcers.data.toList.drop 23 = dktX7_forcers_1 := dk_seg dksX7_forcers_0 23 rfl rfl
theorem dX7_forcers_0 : decode cX7_forcers 0 = .ok (.lconst 0, 1) := dk_9 (dk_at dksX7_forcers_0 0 rfl rfl)
theorem dX7_forcers_1 : decode cX7_forcers 1 = .ok (.lstore_n 2, 1) := dk_65 (dk_at dksX7_forcers_0 1 rfl rfl)
theorem dX7_forcers_2 : decode cX7_forcers 2 = .ok (.iconst 0, 1) := dk_3 (dk_at dksX7_forcers_0 2 rfl rfl)
theorem dX7_forcers_3 : decode cX7_forcers 3 = .ok (.istore 4, 2) := dk_54 4 (dk_at dksX7_forcers_0 3 rfl rfl)
theorem dX7_forcers_5 : decode cX7_forcers 5 = .ok (.iload 4, 2) := dk_21 4 (dk_at dksX7_forcers_0 5 rfl rfl)
theorem dX7_forcers_7 : decode cX7_forcers 7 = .ok (.aload_n 0, 1) := dk_42 (dk_at dksX7_forcers_0 7 rfl rfl)
theorem dX7_forcers_8 : decode cX7_forcers 8 = .ok (.getfield 178, 3) := dk_180 0 178 (dk_at dksX7_forcers_0 8 rfl rfl)
theorem dX7_forcers_11 : decode cX7_forcers 11 = .ok (.if_icmp .ge 34, 3) := dk_162 0 34 (dk_at dksX7_forcers_0 11 rfl rfl)
theorem dX7_forcers_14 : decode cX7_forcers 14 = .ok (.lload_n 2, 1) := dk_32 (dk_at dksX7_forcers_0 14 rfl rfl)
theorem dX7_forcers_15 : decode cX7_forcers 15 = .ok (.aload_n 0, 1) := dk_42 (dk_at dksX7_forcers_0 15 rfl rfl)
theorem dX7_forcers_16 : decode cX7_forcers 16 = .ok (.getfield 38, 3) := dk_180 0 38 (dk_at dksX7_forcers_0 16 rfl rfl)
theorem dX7_forcers_19 : decode cX7_forcers 19 = .ok (.iload 4, 2) := dk_21 4 (dk_at dksX7_forcers_0 19 rfl rfl)
theorem dX7_forcers_21 : decode cX7_forcers 21 = .ok (.laload, 1) := dk_47 (dk_at dksX7_forcers_0 21 rfl rfl)
theorem dX7_forcers_22 : decode cX7_forcers 22 = .ok (.iload_n 1, 1) := dk_27 (dk_at dksX7_forcers_0 22 rfl rfl)
theorem dX7_forcers_23 : decode cX7_forcers 23 = .ok (.invokestatic 108, 3) := dk_184 0 108 (dk_at dksX7_forcers_1 0 rfl rfl)
theorem dX7_forcers_26 : decode cX7_forcers 26 = .ok (.ifCond .eq 10, 3) := dk_153 0 10 (dk_at dksX7_forcers_1 3 rfl rfl)
theorem dX7_forcers_29 : decode cX7_forcers 29 = .ok (.lconst 1, 1) := dk_10 (dk_at dksX7_forcers_1 6 rfl rfl)
theorem dX7_forcers_30 : decode cX7_forcers 30 = .ok (.iload 4, 2) := dk_21 4 (dk_at dksX7_forcers_1 7 rfl rfl)
theorem dX7_forcers_32 : decode cX7_forcers 32 = .ok (.lshl, 1) := dk_121 (dk_at dksX7_forcers_1 9 rfl rfl)
theorem dX7_forcers_33 : decode cX7_forcers 33 = .ok (.goto 4, 3) := dk_167 0 4 (dk_at dksX7_forcers_1 10 rfl rfl)
theorem dX7_forcers_36 : decode cX7_forcers 36 = .ok (.lconst 0, 1) := dk_9 (dk_at dksX7_forcers_1 13 rfl rfl)
theorem dX7_forcers_37 : decode cX7_forcers 37 = .ok (.lor, 1) := dk_129 (dk_at dksX7_forcers_1 14 rfl rfl)
theorem dX7_forcers_38 : decode cX7_forcers 38 = .ok (.lstore_n 2, 1) := dk_65 (dk_at dksX7_forcers_1 15 rfl rfl)
theorem dX7_forcers_39 : decode cX7_forcers 39 = .ok (.iinc 4 1, 3) := dk_132 4 1 (dk_at dksX7_forcers_1 16 rfl rfl)
theorem dX7_forcers_42 : decode cX7_forcers 42 = .ok (.goto (-37), 3) := dk_167 255 219 (dk_at dksX7_forcers_1 19 rfl rfl)
theorem dX7_forcers_45 : decode cX7_forcers 45 = .ok (.lload_n 2, 1) := dk_32 (dk_at dksX7_forcers_1 22 rfl rfl)
theorem dX7_forcers_46 : decode cX7_forcers 46 = .ok (.lreturn, 1) := dk_173 (dk_at dksX7_forcers_1 23 rfl rfl)
abbrev cX7_leastWith : ByteArray := prog_32_method_36_code
def yX7_leastWith : MethodName := ⟨RX7, "leastWith", "(I)I"⟩
def dkwX7_leastWith_3 : List UInt8 := [61, 132, 4, 1, 167, 255, 190, 28, 172]
abbrev dktX7_leastWith_3 : List UInt8 := dkwX7_leastWith_3 ++ []
def dkwX7_leastWith_2 : List UInt8 := [182, 0, 120, 133, 184, 0, 127, 29, 162, 0, 17, 42, 21, 5, 182, 0, 120, 133, 184, 0, 127, 62, 21, 5]
abbrev dktX7_leastWith_2 : List UInt8 := dkwX7_leastWith_2 ++ dktX7_leastWith_3
def dkwX7_leastWith_1 : List UInt8 := [21, 4, 182, 0, 124, 54, 5, 42, 21, 5, 182, 0, 190, 27, 184, 0, 108, 153, 0, 31, 42, 21, 5]
abbrev dktX7_leastWith_1 : List UInt8 := dkwX7_leastWith_1 ++ dktX7_leastWith_2
def dkwX7_leastWith_0 : List UInt8 := [3, 61, 16, 99, 62, 3, 54, 4, 21, 4, 42, 180, 0, 47, 42, 180, 0, 7, 46, 162, 0, 58, 42]
abbrev dktX7_leastWith_0 : List UInt8 := dkwX7_leastWith_0 ++ dktX7_leastWith_1
theorem dksX7_leastWith_0 : cX7_leastWith.data.toList.drop 0 = dktX7_leastWith_0 := by decide +kernel
theorem dksX7_leastWith_1 : cX7_leastWith.data.toList.drop 23 = dktX7_leastWith_1 := dk_seg dksX7_leastWith_0 23 rfl rfl
theorem dksX7_leastWith_2 : cX7_leastWith.data.toList.drop 46 = dktX7_leastWith_2 := dk_seg dksX7_leastWith_1 23 rfl rfl
theorem dksX7_leastWith_3 : cX7_leastWith.data.toList.drop 70 = dktX7_leastWith_3 := dk_seg dksX7_leastWith_2 24 rfl rfl
theorem dX7_leastWith_0 : decode cX7_leastWith 0 = .ok (.iconst 0, 1) := dk_3 (dk_at dksX7_leastWith_0 0 rfl rfl)
theorem dX7_leastWith_1 : decode cX7_leastWith 1 = .ok (.istore_n 2, 1) := dk_61 (dk_at dksX7_leastWith_0 1 rfl rfl)
theorem dX7_leastWith_2 : decode cX7_leastWith 2 = .ok (.bipush 99, 2) := dk_16 99 (dk_at dksX7_leastWith_0 2 rfl rfl)
theorem dX7_leastWith_4 : decode cX7_leastWith 4 = .ok (.istore_n 3, 1) := dk_62 (dk_at dksX7_leastWith_0 4 rfl rfl)
theorem dX7_leastWith_5 : decode cX7_leastWith 5 = .ok (.iconst 0, 1) := dk_3 (dk_at dksX7_leastWith_0 5 rfl rfl)
theorem dX7_leastWith_6 : decode cX7_leastWith 6 = .ok (.istore 4, 2) := dk_54 4 (dk_at dksX7_leastWith_0 6 rfl rfl)
theorem dX7_leastWith_8 : decode cX7_leastWith 8 = .ok (.iload 4, 2) := dk_21 4 (dk_at dksX7_leastWith_0 8 rfl rfl)
theorem dX7_leastWith_10 : decode cX7_leastWith 10 = .ok (.aload_n 0, 1) := dk_42 (dk_at dksX7_leastWith_0 10 rfl rfl)
theorem dX7_leastWith_11 : decode cX7_leastWith 11 = .ok (.getfield 47, 3) := dk_180 0 47 (dk_at dksX7_leastWith_0 11 rfl rfl)
theorem dX7_leastWith_14 : decode cX7_leastWith 14 = .ok (.aload_n 0, 1) := dk_42 (dk_at dksX7_leastWith_0 14 rfl rfl)
theorem dX7_leastWith_15 : decode cX7_leastWith 15 = .ok (.getfield 7, 3) := dk_180 0 7 (dk_at dksX7_leastWith_0 15 rfl rfl)
theorem dX7_leastWith_18 : decode cX7_leastWith 18 = .ok (.iaload, 1) := dk_46 (dk_at dksX7_leastWith_0 18 rfl rfl)
theorem dX7_leastWith_19 : decode cX7_leastWith 19 = .ok (.if_icmp .ge 58, 3) := dk_162 0 58 (dk_at dksX7_leastWith_0 19 rfl rfl)
theorem dX7_leastWith_22 : decode cX7_leastWith 22 = .ok (.aload_n 0, 1) := dk_42 (dk_at dksX7_leastWith_0 22 rfl rfl)
theorem dX7_leastWith_23 : decode cX7_leastWith 23 = .ok (.iload 4, 2) := dk_21 4 (dk_at dksX7_leastWith_1 0 rfl rfl)
theorem dX7_leastWith_25 : decode cX7_leastWith 25 = .ok (.invokevirtual 124, 3) := dk_182 0 124 (dk_at dksX7_leastWith_1 2 rfl rfl)
theorem dX7_leastWith_28 : decode cX7_leastWith 28 = .ok (.istore 5, 2) := dk_54 5 (dk_at dksX7_leastWith_1 5 rfl rfl)
theorem dX7_leastWith_30 : decode cX7_leastWith 30 = .ok (.aload_n 0, 1) := dk_42 (dk_at dksX7_leastWith_1 7 rfl rfl)
theorem dX7_leastWith_31 : decode cX7_leastWith 31 = .ok (.iload 5, 2) := dk_21 5 (dk_at dksX7_leastWith_1 8 rfl rfl)
theorem dX7_leastWith_33 : decode cX7_leastWith 33 = .ok (.invokevirtual 190, 3) := dk_182 0 190 (dk_at dksX7_leastWith_1 10 rfl rfl)
theorem dX7_leastWith_36 : decode cX7_leastWith 36 = .ok (.iload_n 1, 1) := dk_27 (dk_at dksX7_leastWith_1 13 rfl rfl)
theorem dX7_leastWith_37 : decode cX7_leastWith 37 = .ok (.invokestatic 108, 3) := dk_184 0 108 (dk_at dksX7_leastWith_1 14 rfl rfl)
theorem dX7_leastWith_40 : decode cX7_leastWith 40 = .ok (.ifCond .eq 31, 3) := dk_153 0 31 (dk_at dksX7_leastWith_1 17 rfl rfl)
theorem dX7_leastWith_43 : decode cX7_leastWith 43 = .ok (.aload_n 0, 1) := dk_42 (dk_at dksX7_leastWith_1 20 rfl rfl)
theorem dX7_leastWith_44 : decode cX7_leastWith 44 = .ok (.iload 5, 2) := dk_21 5 (dk_at dksX7_leastWith_1 21 rfl rfl)
theorem dX7_leastWith_46 : decode cX7_leastWith 46 = .ok (.invokevirtual 120, 3) := dk_182 0 120 (dk_at dksX7_leastWith_2 0 rfl rfl)
theorem dX7_leastWith_49 : decode cX7_leastWith 49 = .ok (.i2l, 1) := dk_133 (dk_at dksX7_leastWith_2 3 rfl rfl)
theorem dX7_leastWith_50 : decode cX7_leastWith 50 = .ok (.invokestatic 127, 3) := dk_184 0 127 (dk_at dksX7_leastWith_2 4 rfl rfl)
theorem dX7_leastWith_53 : decode cX7_leastWith 53 = .ok (.iload_n 3, 1) := dk_29 (dk_at dksX7_leastWith_2 7 rfl rfl)
theorem dX7_leastWith_54 : decode cX7_leastWith 54 = .ok (.if_icmp .ge 17, 3) := dk_162 0 17 (dk_at dksX7_leastWith_2 8 rfl rfl)
theorem dX7_leastWith_57 : decode cX7_leastWith 57 = .ok (.aload_n 0, 1) := dk_42 (dk_at dksX7_leastWith_2 11 rfl rfl)
theorem dX7_leastWith_58 : decode cX7_leastWith 58 = .ok (.iload 5, 2) := dk_21 5 (dk_at dksX7_leastWith_2 12 rfl rfl)
theorem dX7_leastWith_60 : decode cX7_leastWith 60 = .ok (.invokevirtual 120, 3) := dk_182 0 120 (dk_at dksX7_leastWith_2 14 rfl rfl)
theorem dX7_leastWith_63 : decode cX7_leastWith 63 = .ok (.i2l, 1) := dk_133 (dk_at dksX7_leastWith_2 17 rfl rfl)
theorem dX7_leastWith_64 : decode cX7_leastWith 64 = .ok (.invokestatic 127, 3) := dk_184 0 127 (dk_at dksX7_leastWith_2 18 rfl rfl)
theorem dX7_leastWith_67 : decode cX7_leastWith 67 = .ok (.istore_n 3, 1) := dk_62 (dk_at dksX7_leastWith_2 21 rfl rfl)
theorem dX7_leastWith_68 : decode cX7_leastWith 68 = .ok (.iload 5, 2) := dk_21 5 (dk_at dksX7_leastWith_2 22 rfl rfl)
theorem dX7_leastWith_70 : decode cX7_leastWith 70 = .ok (.istore_n 2, 1) := dk_61 (dk_at dksX7_leastWith_3 0 rfl rfl)
theorem dX7_leastWith_71 : decode cX7_leastWith 71 = .ok (.iinc 4 1, 3) := dk_132 4 1 (dk_at dksX7_leastWith_3 1 rfl rfl)
theorem dX7_leastWith_74 : decode cX7_leastWith 74 = .ok (.goto (-66), 3) := dk_167 255 190 (dk_at dksX7_leastWith_3 4 rfl rfl)
theorem dX7_leastWith_77 : decode cX7_leastWith 77 = .ok (.iload_n 2, 1) := dk_28 (dk_at dksX7_leastWith_3 7 rfl rfl)
theorem dX7_leastWith_78 : decode cX7_leastWith 78 = .ok (.ireturn, 1) := dk_172 (dk_at dksX7_leastWith_3 8 rfl rfl)
abbrev cX7_diagramOf : ByteArray := prog_32_method_33_code
def yX7_diagramOf : MethodName := ⟨RX7, "diagramOf", "(I)J"⟩
def dkwX7_diagramOf_2 : List UInt8 := [32, 173]
abbrev dktX7_diagramOf_2 : List UInt8 := dkwX7_diagramOf_2 ++ []
def dkwX7_diagramOf_1 : List UInt8 := [153, 0, 15, 10, 42, 27, 21, 4, 182, 0, 187, 121, 167, 0, 4, 9, 129, 65, 132, 4, 1, 167, 255, 216]
abbrev dktX7_diagramOf_1 : List UInt8 := dkwX7_diagramOf_1 ++ dktX7_diagramOf_2
def dkwX7_diagramOf_0 : List UInt8 := [9, 65, 3, 54, 4, 21, 4, 42, 180, 0, 7, 4, 100, 162, 0, 35, 32, 42, 27, 21, 4, 182, 0, 154]
abbrev dktX7_diagramOf_0 : List UInt8 := dkwX7_diagramOf_0 ++ dktX7_diagramOf_1
theorem dksX7_diagramOf_0 : cX7_diagramOf.data.toList.drop 0 = dktX7_diagramOf_0 := by decide +kernel
theorem dksX7_diagramOf_1 : cX7_diagramOf.data.toList.drop 24 = dktX7_diagramOf_1 := dk_seg dksX7_diagramOf_0 24 rfl rfl
theorem dksX7_diagramOf_2 : cX7_diagramOf.data.toList.drop 48 = dktX7_diagramOf_2 := dk_seg dksX7_diagramOf_1 24 rfl rfl
theorem dX7_diagramOf_0 : decode cX7_diagramOf 0 = .ok (.lconst 0, 1) := dk_9 (dk_at dksX7_diagramOf_0 0 rfl rfl)
theorem dX7_diagramOf_1 : decode cX7_diagramOf 1 = .ok (.lstore_n 2, 1) := dk_65 (dk_at dksX7_diagramOf_0 1 rfl rfl)
theorem dX7_diagramOf_2 : decode cX7_diagramOf 2 = .ok (.iconst 0, 1) := dk_3 (dk_at dksX7_diagramOf_0 2 rfl rfl)
theorem dX7_diagramOf_3 : decode cX7_diagramOf 3 = .ok (.istore 4, 2) := dk_54 4 (dk_at dksX7_diagramOf_0 3 rfl rfl)
theorem dX7_diagramOf_5 : decode cX7_diagramOf 5 = .ok (.iload 4, 2) := dk_21 4 (dk_at dksX7_diagramOf_0 5 rfl rfl)
theorem dX7_diagramOf_7 : decode cX7_diagramOf 7 = .ok (.aload_n 0, 1) := dk_42 (dk_at dksX7_diagramOf_0 7 rfl rfl)
theorem dX7_diagramOf_8 : decode cX7_diagramOf 8 = .ok (.getfield 7, 3) := dk_180 0 7 (dk_at dksX7_diagramOf_0 8 rfl rfl)
theorem dX7_diagramOf_11 : decode cX7_diagramOf 11 = .ok (.iconst 1, 1) := dk_4 (dk_at dksX7_diagramOf_0 11 rfl rfl)
theorem dX7_diagramOf_12 : decode cX7_diagramOf 12 = .ok (.isub, 1) := dk_100 (dk_at dksX7_diagramOf_0 12 rfl rfl)
theorem dX7_diagramOf_13 : decode cX7_diagramOf 13 = .ok (.if_icmp .ge 35, 3) := dk_162 0 35 (dk_at dksX7_diagramOf_0 13 rfl rfl)
theorem dX7_diagramOf_16 : decode cX7_diagramOf 16 = .ok (.lload_n 2, 1) := dk_32 (dk_at dksX7_diagramOf_0 16 rfl rfl)
theorem dX7_diagramOf_17 : decode cX7_diagramOf 17 = .ok (.aload_n 0, 1) := dk_42 (dk_at dksX7_diagramOf_0 17 rfl rfl)
theorem dX7_diagramOf_18 : decode cX7_diagramOf 18 = .ok (.iload_n 1, 1) := dk_27 (dk_at dksX7_diagramOf_0 18 rfl rfl)
theorem dX7_diagramOf_19 : decode cX7_diagramOf 19 = .ok (.iload 4, 2) := dk_21 4 (dk_at dksX7_diagramOf_0 19 rfl rfl)
theorem dX7_diagramOf_21 : decode cX7_diagramOf 21 = .ok (.invokevirtual 154, 3) := dk_182 0 154 (dk_at dksX7_diagramOf_0 21 rfl rfl)
theorem dX7_diagramOf_24 : decode cX7_diagramOf 24 = .ok (.ifCond .eq 15, 3) := dk_153 0 15 (dk_at dksX7_diagramOf_1 0 rfl rfl)
theorem dX7_diagramOf_27 : decode cX7_diagramOf 27 = .ok (.lconst 1, 1) := dk_10 (dk_at dksX7_diagramOf_1 3 rfl rfl)
theorem dX7_diagramOf_28 : decode cX7_diagramOf 28 = .ok (.aload_n 0, 1) := dk_42 (dk_at dksX7_diagramOf_1 4 rfl rfl)
theorem dX7_diagramOf_29 : decode cX7_diagramOf 29 = .ok (.iload_n 1, 1) := dk_27 (dk_at dksX7_diagramOf_1 5 rfl rfl)
theorem dX7_diagramOf_30 : decode cX7_diagramOf 30 = .ok (.iload 4, 2) := dk_21 4 (dk_at dksX7_diagramOf_1 6 rfl rfl)
theorem dX7_diagramOf_32 : decode cX7_diagramOf 32 = .ok (.invokevirtual 187, 3) := dk_182 0 187 (dk_at dksX7_diagramOf_1 8 rfl rfl)
theorem dX7_diagramOf_35 : decode cX7_diagramOf 35 = .ok (.lshl, 1) := dk_121 (dk_at dksX7_diagramOf_1 11 rfl rfl)
theorem dX7_diagramOf_36 : decode cX7_diagramOf 36 = .ok (.goto 4, 3) := dk_167 0 4 (dk_at dksX7_diagramOf_1 12 rfl rfl)
theorem dX7_diagramOf_39 : decode cX7_diagramOf 39 = .ok (.lconst 0, 1) := dk_9 (dk_at dksX7_diagramOf_1 15 rfl rfl)
theorem dX7_diagramOf_40 : decode cX7_diagramOf 40 = .ok (.lor, 1) := dk_129 (dk_at dksX7_diagramOf_1 16 rfl rfl)
theorem dX7_diagramOf_41 : decode cX7_diagramOf 41 = .ok (.lstore_n 2, 1) := dk_65 (dk_at dksX7_diagramOf_1 17 rfl rfl)
theorem dX7_diagramOf_42 : decode cX7_diagramOf 42 = .ok (.iinc 4 1, 3) := dk_132 4 1 (dk_at dksX7_diagramOf_1 18 rfl rfl)
theorem dX7_diagramOf_45 : decode cX7_diagramOf 45 = .ok (.goto (-40), 3) := dk_167 255 216 (dk_at dksX7_diagramOf_1 21 rfl rfl)
theorem dX7_diagramOf_48 : decode cX7_diagramOf 48 = .ok (.lload_n 2, 1) := dk_32 (dk_at dksX7_diagramOf_2 0 rfl rfl)
theorem dX7_diagramOf_49 : decode cX7_diagramOf 49 = .ok (.lreturn, 1) := dk_173 (dk_at dksX7_diagramOf_2 1 rfl rfl)
abbrev cX7_forces : ByteArray := prog_32_method_38_code
def yX7_forces : MethodName := ⟨RX7, "forces", "(II)I"⟩
def dkwX7_forces_1 : List UInt8 := [27, 47, 28, 184, 0, 108, 153, 0, 7, 4, 167, 0, 4, 3, 172]
abbrev dktX7_forces_1 : List UInt8 := dkwX7_forces_1 ++ []
def dkwX7_forces_0 : List UInt8 := [42, 27, 182, 0, 194, 153, 0, 11, 42, 28, 182, 0, 194, 154, 0, 7, 2, 167, 0, 21, 42, 180, 0, 38]
abbrev dktX7_forces_0 : List UInt8 := dkwX7_forces_0 ++ dktX7_forces_1
theorem dksX7_forces_0 : cX7_forces.data.toList.drop 0 = dktX7_forces_0 := by decide +kernel
theorem dksX7_forces_1 : cX7_forces.data.toList.drop 24 = dktX7_forces_1 := dk_seg dksX7_forces_0 24 rfl rfl
theorem dX7_forces_0 : decode cX7_forces 0 = .ok (.aload_n 0, 1) := dk_42 (dk_at dksX7_forces_0 0 rfl rfl)
theorem dX7_forces_1 : decode cX7_forces 1 = .ok (.iload_n 1, 1) := dk_27 (dk_at dksX7_forces_0 1 rfl rfl)
theorem dX7_forces_2 : decode cX7_forces 2 = .ok (.invokevirtual 194, 3) := dk_182 0 194 (dk_at dksX7_forces_0 2 rfl rfl)
theorem dX7_forces_5 : decode cX7_forces 5 = .ok (.ifCond .eq 11, 3) := dk_153 0 11 (dk_at dksX7_forces_0 5 rfl rfl)
theorem dX7_forces_8 : decode cX7_forces 8 = .ok (.aload_n 0, 1) := dk_42 (dk_at dksX7_forces_0 8 rfl rfl)
theorem dX7_forces_9 : decode cX7_forces 9 = .ok (.iload_n 2, 1) := dk_28 (dk_at dksX7_forces_0 9 rfl rfl)
theorem dX7_forces_10 : decode cX7_forces 10 = .ok (.invokevirtual 194, 3) := dk_182 0 194 (dk_at dksX7_forces_0 10 rfl rfl)
theorem dX7_forces_13 : decode cX7_forces 13 = .ok (.ifCond .ne 7, 3) := dk_154 0 7 (dk_at dksX7_forces_0 13 rfl rfl)
theorem dX7_forces_16 : decode cX7_forces 16 = .ok (.iconst (-1), 1) := dk_2 (dk_at dksX7_forces_0 16 rfl rfl)
theorem dX7_forces_17 : decode cX7_forces 17 = .ok (.goto 21, 3) := dk_167 0 21 (dk_at dksX7_forces_0 17 rfl rfl)
theorem dX7_forces_20 : decode cX7_forces 20 = .ok (.aload_n 0, 1) := dk_42 (dk_at dksX7_forces_0 20 rfl rfl)
theorem dX7_forces_21 : decode cX7_forces 21 = .ok (.getfield 38, 3) := dk_180 0 38 (dk_at dksX7_forces_0 21 rfl rfl)
theorem dX7_forces_24 : decode cX7_forces 24 = .ok (.iload_n 1, 1) := dk_27 (dk_at dksX7_forces_1 0 rfl rfl)
theorem dX7_forces_25 : decode cX7_forces 25 = .ok (.laload, 1) := dk_47 (dk_at dksX7_forces_1 1 rfl rfl)
theorem dX7_forces_26 : decode cX7_forces 26 = .ok (.iload_n 2, 1) := dk_28 (dk_at dksX7_forces_1 2 rfl rfl)
theorem dX7_forces_27 : decode cX7_forces 27 = .ok (.invokestatic 108, 3) := dk_184 0 108 (dk_at dksX7_forces_1 3 rfl rfl)
theorem dX7_forces_30 : decode cX7_forces 30 = .ok (.ifCond .eq 7, 3) := dk_153 0 7 (dk_at dksX7_forces_1 6 rfl rfl)
theorem dX7_forces_33 : decode cX7_forces 33 = .ok (.iconst 1, 1) := dk_4 (dk_at dksX7_forces_1 9 rfl rfl)
theorem dX7_forces_34 : decode cX7_forces 34 = .ok (.goto 4, 3) := dk_167 0 4 (dk_at dksX7_forces_1 10 rfl rfl)
theorem dX7_forces_37 : decode cX7_forces 37 = .ok (.iconst 0, 1) := dk_3 (dk_at dksX7_forces_1 13 rfl rfl)
theorem dX7_forces_38 : decode cX7_forces 38 = .ok (.ireturn, 1) := dk_172 (dk_at dksX7_forces_1 14 rfl rfl)
abbrev cX7_diagram : ByteArray := prog_32_method_39_code
def yX7_diagram : MethodName := ⟨RX7, "diagram", "(I)J"⟩
def dkwX7_diagram_0 : List UInt8 := [42, 27, 182, 0, 116, 153, 0, 11, 42, 27, 182, 0, 190, 167, 0, 6, 20, 0, 203, 173]
abbrev dktX7_diagram_0 : List UInt8 := dkwX7_diagram_0 ++ []
theorem dksX7_diagram_0 : cX7_diagram.data.toList.drop 0 = dktX7_diagram_0 := by decide +kernel
theorem dX7_diagram_0 : decode cX7_diagram 0 = .ok (.aload_n 0, 1) := dk_42 (dk_at dksX7_diagram_0 0 rfl rfl)
theorem dX7_diagram_1 : decode cX7_diagram 1 = .ok (.iload_n 1, 1) := dk_27 (dk_at dksX7_diagram_0 1 rfl rfl)
theorem dX7_diagram_2 : decode cX7_diagram 2 = .ok (.invokevirtual 116, 3) := dk_182 0 116 (dk_at dksX7_diagram_0 2 rfl rfl)
theorem dX7_diagram_5 : decode cX7_diagram 5 = .ok (.ifCond .eq 11, 3) := dk_153 0 11 (dk_at dksX7_diagram_0 5 rfl rfl)
theorem dX7_diagram_8 : decode cX7_diagram 8 = .ok (.aload_n 0, 1) := dk_42 (dk_at dksX7_diagram_0 8 rfl rfl)
theorem dX7_diagram_9 : decode cX7_diagram 9 = .ok (.iload_n 1, 1) := dk_27 (dk_at dksX7_diagram_0 9 rfl rfl)
theorem dX7_diagram_10 : decode cX7_diagram 10 = .ok (.invokevirtual 190, 3) := dk_182 0 190 (dk_at dksX7_diagram_0 10 rfl rfl)
theorem dX7_diagram_13 : decode cX7_diagram 13 = .ok (.goto 6, 3) := dk_167 0 6 (dk_at dksX7_diagram_0 13 rfl rfl)
theorem dX7_diagram_16 : decode cX7_diagram 16 = .ok (.ldc2_w 203, 3) := dk_20 0 203 (dk_at dksX7_diagram_0 16 rfl rfl)
theorem dX7_diagram_19 : decode cX7_diagram 19 = .ok (.lreturn, 1) := dk_173 (dk_at dksX7_diagram_0 19 rfl rfl)
abbrev cX7_rowOf : ByteArray := prog_32_method_40_code
def yX7_rowOf : MethodName := ⟨RX7, "rowOf", "(J)I"⟩
def dkwX7_rowOf_2 : List UInt8 := [132, 3, 1, 167, 255, 220, 16, 253, 172]
abbrev dktX7_rowOf_2 : List UInt8 := dkwX7_rowOf_2 ++ []
def dkwX7_rowOf_1 : List UInt8 := [46, 162, 0, 29, 42, 42, 29, 182, 0, 124, 182, 0, 190, 31, 148, 154, 0, 9, 42, 29, 182, 0, 124, 172]
abbrev dktX7_rowOf_1 : List UInt8 := dkwX7_rowOf_1 ++ dktX7_rowOf_2
def dkwX7_rowOf_0 : List UInt8 := [31, 42, 180, 0, 178, 125, 9, 148, 153, 0, 5, 2, 172, 3, 62, 29, 42, 180, 0, 47, 42, 180, 0, 7]
abbrev dktX7_rowOf_0 : List UInt8 := dkwX7_rowOf_0 ++ dktX7_rowOf_1
theorem dksX7_rowOf_0 : cX7_rowOf.data.toList.drop 0 = dktX7_rowOf_0 := by decide +kernel
theorem dksX7_rowOf_1 : cX7_rowOf.data.toList.drop 24 = dktX7_rowOf_1 := dk_seg dksX7_rowOf_0 24 rfl rfl
theorem dksX7_rowOf_2 : cX7_rowOf.data.toList.drop 48 = dktX7_rowOf_2 := dk_seg dksX7_rowOf_1 24 rfl rfl
theorem dX7_rowOf_0 : decode cX7_rowOf 0 = .ok (.lload_n 1, 1) := dk_31 (dk_at dksX7_rowOf_0 0 rfl rfl)
theorem dX7_rowOf_1 : decode cX7_rowOf 1 = .ok (.aload_n 0, 1) := dk_42 (dk_at dksX7_rowOf_0 1 rfl rfl)
theorem dX7_rowOf_2 : decode cX7_rowOf 2 = .ok (.getfield 178, 3) := dk_180 0 178 (dk_at dksX7_rowOf_0 2 rfl rfl)
theorem dX7_rowOf_5 : decode cX7_rowOf 5 = .ok (.lushr, 1) := dk_125 (dk_at dksX7_rowOf_0 5 rfl rfl)
theorem dX7_rowOf_6 : decode cX7_rowOf 6 = .ok (.lconst 0, 1) := dk_9 (dk_at dksX7_rowOf_0 6 rfl rfl)
theorem dX7_rowOf_7 : decode cX7_rowOf 7 = .ok (.lcmp, 1) := dk_148 (dk_at dksX7_rowOf_0 7 rfl rfl)
theorem dX7_rowOf_8 : decode cX7_rowOf 8 = .ok (.ifCond .eq 5, 3) := dk_153 0 5 (dk_at dksX7_rowOf_0 8 rfl rfl)
theorem dX7_rowOf_11 : decode cX7_rowOf 11 = .ok (.iconst (-1), 1) := dk_2 (dk_at dksX7_rowOf_0 11 rfl rfl)
theorem dX7_rowOf_12 : decode cX7_rowOf 12 = .ok (.ireturn, 1) := dk_172 (dk_at dksX7_rowOf_0 12 rfl rfl)
theorem dX7_rowOf_13 : decode cX7_rowOf 13 = .ok (.iconst 0, 1) := dk_3 (dk_at dksX7_rowOf_0 13 rfl rfl)
theorem dX7_rowOf_14 : decode cX7_rowOf 14 = .ok (.istore_n 3, 1) := dk_62 (dk_at dksX7_rowOf_0 14 rfl rfl)
theorem dX7_rowOf_15 : decode cX7_rowOf 15 = .ok (.iload_n 3, 1) := dk_29 (dk_at dksX7_rowOf_0 15 rfl rfl)
theorem dX7_rowOf_16 : decode cX7_rowOf 16 = .ok (.aload_n 0, 1) := dk_42 (dk_at dksX7_rowOf_0 16 rfl rfl)
theorem dX7_rowOf_17 : decode cX7_rowOf 17 = .ok (.getfield 47, 3) := dk_180 0 47 (dk_at dksX7_rowOf_0 17 rfl rfl)
theorem dX7_rowOf_20 : decode cX7_rowOf 20 = .ok (.aload_n 0, 1) := dk_42 (dk_at dksX7_rowOf_0 20 rfl rfl)
theorem dX7_rowOf_21 : decode cX7_rowOf 21 = .ok (.getfield 7, 3) := dk_180 0 7 (dk_at dksX7_rowOf_0 21 rfl rfl)
theorem dX7_rowOf_24 : decode cX7_rowOf 24 = .ok (.iaload, 1) := dk_46 (dk_at dksX7_rowOf_1 0 rfl rfl)
theorem dX7_rowOf_25 : decode cX7_rowOf 25 = .ok (.if_icmp .ge 29, 3) := dk_162 0 29 (dk_at dksX7_rowOf_1 1 rfl rfl)
theorem dX7_rowOf_28 : decode cX7_rowOf 28 = .ok (.aload_n 0, 1) := dk_42 (dk_at dksX7_rowOf_1 4 rfl rfl)
theorem dX7_rowOf_29 : decode cX7_rowOf 29 = .ok (.aload_n 0, 1) := dk_42 (dk_at dksX7_rowOf_1 5 rfl rfl)
theorem dX7_rowOf_30 : decode cX7_rowOf 30 = .ok (.iload_n 3, 1) := dk_29 (dk_at dksX7_rowOf_1 6 rfl rfl)
theorem dX7_rowOf_31 : decode cX7_rowOf 31 = .ok (.invokevirtual 124, 3) := dk_182 0 124 (dk_at dksX7_rowOf_1 7 rfl rfl)
theorem dX7_rowOf_34 : decode cX7_rowOf 34 = .ok (.invokevirtual 190, 3) := dk_182 0 190 (dk_at dksX7_rowOf_1 10 rfl rfl)
theorem dX7_rowOf_37 : decode cX7_rowOf 37 = .ok (.lload_n 1, 1) := dk_31 (dk_at dksX7_rowOf_1 13 rfl rfl)
theorem dX7_rowOf_38 : decode cX7_rowOf 38 = .ok (.lcmp, 1) := dk_148 (dk_at dksX7_rowOf_1 14 rfl rfl)
theorem dX7_rowOf_39 : decode cX7_rowOf 39 = .ok (.ifCond .ne 9, 3) := dk_154 0 9 (dk_at dksX7_rowOf_1 15 rfl rfl)
theorem dX7_rowOf_42 : decode cX7_rowOf 42 = .ok (.aload_n 0, 1) := dk_42 (dk_at dksX7_rowOf_1 18 rfl rfl)
theorem dX7_rowOf_43 : decode cX7_rowOf 43 = .ok (.iload_n 3, 1) := dk_29 (dk_at dksX7_rowOf_1 19 rfl rfl)
theorem dX7_rowOf_44 : decode cX7_rowOf 44 = .ok (.invokevirtual 124, 3) := dk_182 0 124 (dk_at dksX7_rowOf_1 20 rfl rfl)
theorem dX7_rowOf_47 : decode cX7_rowOf 47 = .ok (.ireturn, 1) := dk_172 (dk_at dksX7_rowOf_1 23 rfl rfl)
theorem dX7_rowOf_48 : decode cX7_rowOf 48 = .ok (.iinc 3 1, 3) := dk_132 3 1 (dk_at dksX7_rowOf_2 0 rfl rfl)
theorem dX7_rowOf_51 : decode cX7_rowOf 51 = .ok (.goto (-36), 3) := dk_167 255 220 (dk_at dksX7_rowOf_2 3 rfl rfl)
theorem dX7_rowOf_54 : decode cX7_rowOf 54 = .ok (.bipush (-3), 2) := dk_16 253 (dk_at dksX7_rowOf_2 6 rfl rfl)
theorem dX7_rowOf_56 : decode cX7_rowOf 56 = .ok (.ireturn, 1) := dk_172 (dk_at dksX7_rowOf_2 8 rfl rfl)
abbrev cX7_gone : ByteArray := prog_32_method_41_code
def yX7_gone : MethodName := ⟨RX7, "gone", "()J"⟩
theorem dX7_gone_0 : decode cX7_gone 0 = .ok (.aload_n 0, 1) := by decide +kernel
theorem dX7_gone_1 : decode cX7_gone 1 = .ok (.getfield 137, 3) := by decide +kernel
theorem dX7_gone_4 : decode cX7_gone 4 = .ok (.lreturn, 1) := by decide +kernel
abbrev cX7_contract : ByteArray := prog_32_method_42_code
def yX7_contract : MethodName := ⟨RX7, "contract", "(I)I"⟩
def dkwX7_contract_1 : List UInt8 := [181, 0, 137, 42, 180, 0, 137, 184, 0, 127, 172]
abbrev dktX7_contract_1 : List UInt8 := dkwX7_contract_1 ++ []
def dkwX7_contract_0 : List UInt8 := [42, 27, 182, 0, 194, 154, 0, 5, 2, 172, 42, 89, 180, 0, 137, 42, 180, 0, 38, 27, 47, 129]
abbrev dktX7_contract_0 : List UInt8 := dkwX7_contract_0 ++ dktX7_contract_1
theorem dksX7_contract_0 : cX7_contract.data.toList.drop 0 = dktX7_contract_0 := by decide +kernel
theorem dksX7_contract_1 : cX7_contract.data.toList.drop 22 = dktX7_contract_1 := dk_seg dksX7_contract_0 22 rfl rfl
theorem dX7_contract_0 : decode cX7_contract 0 = .ok (.aload_n 0, 1) := dk_42 (dk_at dksX7_contract_0 0 rfl rfl)
theorem dX7_contract_1 : decode cX7_contract 1 = .ok (.iload_n 1, 1) := dk_27 (dk_at dksX7_contract_0 1 rfl rfl)
theorem dX7_contract_2 : decode cX7_contract 2 = .ok (.invokevirtual 194, 3) := dk_182 0 194 (dk_at dksX7_contract_0 2 rfl rfl)
theorem dX7_contract_5 : decode cX7_contract 5 = .ok (.ifCond .ne 5, 3) := dk_154 0 5 (dk_at dksX7_contract_0 5 rfl rfl)
theorem dX7_contract_8 : decode cX7_contract 8 = .ok (.iconst (-1), 1) := dk_2 (dk_at dksX7_contract_0 8 rfl rfl)
theorem dX7_contract_9 : decode cX7_contract 9 = .ok (.ireturn, 1) := dk_172 (dk_at dksX7_contract_0 9 rfl rfl)
theorem dX7_contract_10 : decode cX7_contract 10 = .ok (.aload_n 0, 1) := dk_42 (dk_at dksX7_contract_0 10 rfl rfl)
theorem dX7_contract_11 : decode cX7_contract 11 = .ok (.dup, 1) := dk_89 (dk_at dksX7_contract_0 11 rfl rfl)
theorem dX7_contract_12 : decode cX7_contract 12 = .ok (.getfield 137, 3) := dk_180 0 137 (dk_at dksX7_contract_0 12 rfl rfl)
theorem dX7_contract_15 : decode cX7_contract 15 = .ok (.aload_n 0, 1) := dk_42 (dk_at dksX7_contract_0 15 rfl rfl)
theorem dX7_contract_16 : decode cX7_contract 16 = .ok (.getfield 38, 3) := dk_180 0 38 (dk_at dksX7_contract_0 16 rfl rfl)
theorem dX7_contract_19 : decode cX7_contract 19 = .ok (.iload_n 1, 1) := dk_27 (dk_at dksX7_contract_0 19 rfl rfl)
theorem dX7_contract_20 : decode cX7_contract 20 = .ok (.laload, 1) := dk_47 (dk_at dksX7_contract_0 20 rfl rfl)
theorem dX7_contract_21 : decode cX7_contract 21 = .ok (.lor, 1) := dk_129 (dk_at dksX7_contract_0 21 rfl rfl)
theorem dX7_contract_22 : decode cX7_contract 22 = .ok (.putfield 137, 3) := dk_181 0 137 (dk_at dksX7_contract_1 0 rfl rfl)
theorem dX7_contract_25 : decode cX7_contract 25 = .ok (.aload_n 0, 1) := dk_42 (dk_at dksX7_contract_1 3 rfl rfl)
theorem dX7_contract_26 : decode cX7_contract 26 = .ok (.getfield 137, 3) := dk_180 0 137 (dk_at dksX7_contract_1 4 rfl rfl)
theorem dX7_contract_29 : decode cX7_contract 29 = .ok (.invokestatic 127, 3) := dk_184 0 127 (dk_at dksX7_contract_1 7 rfl rfl)
theorem dX7_contract_32 : decode cX7_contract 32 = .ok (.ireturn, 1) := dk_172 (dk_at dksX7_contract_1 10 rfl rfl)
abbrev cX7_restore : ByteArray := prog_32_method_43_code
def yX7_restore : MethodName := ⟨RX7, "restore", "(I)I"⟩
def dkwX7_restore_1 : List UInt8 := [127, 181, 0, 137, 42, 180, 0, 137, 184, 0, 127, 172]
abbrev dktX7_restore_1 : List UInt8 := dkwX7_restore_1 ++ []
def dkwX7_restore_0 : List UInt8 := [42, 27, 182, 0, 194, 154, 0, 5, 2, 172, 42, 89, 180, 0, 137, 42, 27, 182, 0, 197, 20, 0, 203, 131]
abbrev dktX7_restore_0 : List UInt8 := dkwX7_restore_0 ++ dktX7_restore_1
theorem dksX7_restore_0 : cX7_restore.data.toList.drop 0 = dktX7_restore_0 := by decide +kernel
theorem dksX7_restore_1 : cX7_restore.data.toList.drop 24 = dktX7_restore_1 := dk_seg dksX7_restore_0 24 rfl rfl
theorem dX7_restore_0 : decode cX7_restore 0 = .ok (.aload_n 0, 1) := dk_42 (dk_at dksX7_restore_0 0 rfl rfl)
theorem dX7_restore_1 : decode cX7_restore 1 = .ok (.iload_n 1, 1) := dk_27 (dk_at dksX7_restore_0 1 rfl rfl)
theorem dX7_restore_2 : decode cX7_restore 2 = .ok (.invokevirtual 194, 3) := dk_182 0 194 (dk_at dksX7_restore_0 2 rfl rfl)
theorem dX7_restore_5 : decode cX7_restore 5 = .ok (.ifCond .ne 5, 3) := dk_154 0 5 (dk_at dksX7_restore_0 5 rfl rfl)
theorem dX7_restore_8 : decode cX7_restore 8 = .ok (.iconst (-1), 1) := dk_2 (dk_at dksX7_restore_0 8 rfl rfl)
theorem dX7_restore_9 : decode cX7_restore 9 = .ok (.ireturn, 1) := dk_172 (dk_at dksX7_restore_0 9 rfl rfl)
theorem dX7_restore_10 : decode cX7_restore 10 = .ok (.aload_n 0, 1) := dk_42 (dk_at dksX7_restore_0 10 rfl rfl)
theorem dX7_restore_11 : decode cX7_restore 11 = .ok (.dup, 1) := dk_89 (dk_at dksX7_restore_0 11 rfl rfl)
theorem dX7_restore_12 : decode cX7_restore 12 = .ok (.getfield 137, 3) := dk_180 0 137 (dk_at dksX7_restore_0 12 rfl rfl)
theorem dX7_restore_15 : decode cX7_restore 15 = .ok (.aload_n 0, 1) := dk_42 (dk_at dksX7_restore_0 15 rfl rfl)
theorem dX7_restore_16 : decode cX7_restore 16 = .ok (.iload_n 1, 1) := dk_27 (dk_at dksX7_restore_0 16 rfl rfl)
theorem dX7_restore_17 : decode cX7_restore 17 = .ok (.invokevirtual 197, 3) := dk_182 0 197 (dk_at dksX7_restore_0 17 rfl rfl)
theorem dX7_restore_20 : decode cX7_restore 20 = .ok (.ldc2_w 203, 3) := dk_20 0 203 (dk_at dksX7_restore_0 20 rfl rfl)
theorem dX7_restore_23 : decode cX7_restore 23 = .ok (.lxor, 1) := dk_131 (dk_at dksX7_restore_0 23 rfl rfl)
theorem dX7_restore_24 : decode cX7_restore 24 = .ok (.land, 1) := dk_127 (dk_at dksX7_restore_1 0 rfl rfl)
theorem dX7_restore_25 : decode cX7_restore 25 = .ok (.putfield 137, 3) := dk_181 0 137 (dk_at dksX7_restore_1 1 rfl rfl)
theorem dX7_restore_28 : decode cX7_restore 28 = .ok (.aload_n 0, 1) := dk_42 (dk_at dksX7_restore_1 4 rfl rfl)
theorem dX7_restore_29 : decode cX7_restore 29 = .ok (.getfield 137, 3) := dk_180 0 137 (dk_at dksX7_restore_1 5 rfl rfl)
theorem dX7_restore_32 : decode cX7_restore 32 = .ok (.invokestatic 127, 3) := dk_184 0 127 (dk_at dksX7_restore_1 8 rfl rfl)
theorem dX7_restore_35 : decode cX7_restore 35 = .ok (.ireturn, 1) := dk_172 (dk_at dksX7_restore_1 11 rfl rfl)
abbrev cX7_collapse : ByteArray := prog_32_method_44_code
def yX7_collapse : MethodName := ⟨RX7, "collapse", "(II)I"⟩
def dkwX7_collapse_4 : List UInt8 := [167, 255, 186, 42, 180, 0, 137, 184, 0, 127, 172]
abbrev dktX7_collapse_4 : List UInt8 := dkwX7_collapse_4 ++ []
def dkwX7_collapse_3 : List UInt8 := [42, 180, 0, 38, 42, 29, 21, 5, 182, 0, 187, 47, 129, 181, 0, 137, 42, 29, 21, 5, 182, 0, 171, 62]
abbrev dktX7_collapse_3 : List UInt8 := dkwX7_collapse_3 ++ dktX7_collapse_4
def dkwX7_collapse_2 : List UInt8 := [21, 5, 182, 0, 171, 21, 4, 182, 0, 145, 154, 0, 9, 132, 5, 1, 167, 255, 227, 42, 89, 180, 0, 137]
abbrev dktX7_collapse_2 : List UInt8 := dkwX7_collapse_2 ++ dktX7_collapse_3
def dkwX7_collapse_1 : List UInt8 := [54, 4, 29, 21, 4, 159, 0, 70, 3, 54, 5, 42, 29, 21, 5, 182, 0, 154, 154, 0, 19, 42, 42, 29]
abbrev dktX7_collapse_1 : List UInt8 := dkwX7_collapse_1 ++ dktX7_collapse_2
def dkwX7_collapse_0 : List UInt8 := [42, 27, 28, 182, 0, 141, 154, 0, 5, 2, 172, 42, 27, 28, 182, 0, 148, 62, 42, 27, 28, 182, 0, 151]
abbrev dktX7_collapse_0 : List UInt8 := dkwX7_collapse_0 ++ dktX7_collapse_1
theorem dksX7_collapse_0 : cX7_collapse.data.toList.drop 0 = dktX7_collapse_0 := by decide +kernel
theorem dksX7_collapse_1 : cX7_collapse.data.toList.drop 24 = dktX7_collapse_1 := dk_seg dksX7_collapse_0 24 rfl rfl
theorem dksX7_collapse_2 : cX7_collapse.data.toList.drop 48 = dktX7_collapse_2 := dk_seg dksX7_collapse_1 24 rfl rfl
theorem dksX7_collapse_3 : cX7_collapse.data.toList.drop 72 = dktX7_collapse_3 := dk_seg dksX7_collapse_2 24 rfl rfl
theorem dksX7_collapse_4 : cX7_collapse.data.toList.drop 96 = dktX7_collapse_4 := dk_seg dksX7_collapse_3 24 rfl rfl
theorem dX7_collapse_0 : decode cX7_collapse 0 = .ok (.aload_n 0, 1) := dk_42 (dk_at dksX7_collapse_0 0 rfl rfl)
theorem dX7_collapse_1 : decode cX7_collapse 1 = .ok (.iload_n 1, 1) := dk_27 (dk_at dksX7_collapse_0 1 rfl rfl)
theorem dX7_collapse_2 : decode cX7_collapse 2 = .ok (.iload_n 2, 1) := dk_28 (dk_at dksX7_collapse_0 2 rfl rfl)
theorem dX7_collapse_3 : decode cX7_collapse 3 = .ok (.invokevirtual 141, 3) := dk_182 0 141 (dk_at dksX7_collapse_0 3 rfl rfl)
theorem dX7_collapse_6 : decode cX7_collapse 6 = .ok (.ifCond .ne 5, 3) := dk_154 0 5 (dk_at dksX7_collapse_0 6 rfl rfl)
theorem dX7_collapse_9 : decode cX7_collapse 9 = .ok (.iconst (-1), 1) := dk_2 (dk_at dksX7_collapse_0 9 rfl rfl)
theorem dX7_collapse_10 : decode cX7_collapse 10 = .ok (.ireturn, 1) := dk_172 (dk_at dksX7_collapse_0 10 rfl rfl)
theorem dX7_collapse_11 : decode cX7_collapse 11 = .ok (.aload_n 0, 1) := dk_42 (dk_at dksX7_collapse_0 11 rfl rfl)
theorem dX7_collapse_12 : decode cX7_collapse 12 = .ok (.iload_n 1, 1) := dk_27 (dk_at dksX7_collapse_0 12 rfl rfl)
theorem dX7_collapse_13 : decode cX7_collapse 13 = .ok (.iload_n 2, 1) := dk_28 (dk_at dksX7_collapse_0 13 rfl rfl)
theorem dX7_collapse_14 : decode cX7_collapse 14 = .ok (.invokevirtual 148, 3) := dk_182 0 148 (dk_at dksX7_collapse_0 14 rfl rfl)
theorem dX7_collapse_17 : decode cX7_collapse 17 = .ok (.istore_n 3, 1) := dk_62 (dk_at dksX7_collapse_0 17 rfl rfl)
theorem dX7_collapse_18 : decode cX7_collapse 18 = .ok (.aload_n 0, 1) := dk_42 (dk_at dksX7_collapse_0 18 rfl rfl)
theorem dX7_collapse_19 : decode cX7_collapse 19 = .ok (.iload_n 1, 1) := dk_27 (dk_at dksX7_collapse_0 19 rfl rfl)
theorem dX7_collapse_20 : decode cX7_collapse 20 = .ok (.iload_n 2, 1) := dk_28 (dk_at dksX7_collapse_0 20 rfl rfl)
theorem dX7_collapse_21 : decode cX7_collapse 21 = .ok (.invokevirtual 151, 3) := dk_182 0 151 (dk_at dksX7_collapse_0 21 rfl rfl)
theorem dX7_collapse_24 : decode cX7_collapse 24 = .ok (.istore 4, 2) := dk_54 4 (dk_at dksX7_collapse_1 0 rfl rfl)
theorem dX7_collapse_26 : decode cX7_collapse 26 = .ok (.iload_n 3, 1) := dk_29 (dk_at dksX7_collapse_1 2 rfl rfl)
theorem dX7_collapse_27 : decode cX7_collapse 27 = .ok (.iload 4, 2) := dk_21 4 (dk_at dksX7_collapse_1 3 rfl rfl)
theorem dX7_collapse_29 : decode cX7_collapse 29 = .ok (.if_icmp .eq 70, 3) := dk_159 0 70 (dk_at dksX7_collapse_1 5 rfl rfl)
theorem dX7_collapse_32 : decode cX7_collapse 32 = .ok (.iconst 0, 1) := dk_3 (dk_at dksX7_collapse_1 8 rfl rfl)
theorem dX7_collapse_33 : decode cX7_collapse 33 = .ok (.istore 5, 2) := dk_54 5 (dk_at dksX7_collapse_1 9 rfl rfl)
theorem dX7_collapse_35 : decode cX7_collapse 35 = .ok (.aload_n 0, 1) := dk_42 (dk_at dksX7_collapse_1 11 rfl rfl)
theorem dX7_collapse_36 : decode cX7_collapse 36 = .ok (.iload_n 3, 1) := dk_29 (dk_at dksX7_collapse_1 12 rfl rfl)
theorem dX7_collapse_37 : decode cX7_collapse 37 = .ok (.iload 5, 2) := dk_21 5 (dk_at dksX7_collapse_1 13 rfl rfl)
theorem dX7_collapse_39 : decode cX7_collapse 39 = .ok (.invokevirtual 154, 3) := dk_182 0 154 (dk_at dksX7_collapse_1 15 rfl rfl)
theorem dX7_collapse_42 : decode cX7_collapse 42 = .ok (.ifCond .ne 19, 3) := dk_154 0 19 (dk_at dksX7_collapse_1 18 rfl rfl)
theorem dX7_collapse_45 : decode cX7_collapse 45 = .ok (.aload_n 0, 1) := dk_42 (dk_at dksX7_collapse_1 21 rfl rfl)
theorem dX7_collapse_46 : decode cX7_collapse 46 = .ok (.aload_n 0, 1) := dk_42 (dk_at dksX7_collapse_1 22 rfl rfl)
theorem dX7_collapse_47 : decode cX7_collapse 47 = .ok (.iload_n 3, 1) := dk_29 (dk_at dksX7_collapse_1 23 rfl rfl)
theorem dX7_collapse_48 : decode cX7_collapse 48 = .ok (.iload 5, 2) := dk_21 5 (dk_at dksX7_collapse_2 0 rfl rfl)
theorem dX7_collapse_50 : decode cX7_collapse 50 = .ok (.invokevirtual 171, 3) := dk_182 0 171 (dk_at dksX7_collapse_2 2 rfl rfl)
theorem dX7_collapse_53 : decode cX7_collapse 53 = .ok (.iload 4, 2) := dk_21 4 (dk_at dksX7_collapse_2 5 rfl rfl)
theorem dX7_collapse_55 : decode cX7_collapse 55 = .ok (.invokevirtual 145, 3) := dk_182 0 145 (dk_at dksX7_collapse_2 7 rfl rfl)
theorem dX7_collapse_58 : decode cX7_collapse 58 = .ok (.ifCond .ne 9, 3) := dk_154 0 9 (dk_at dksX7_collapse_2 10 rfl rfl)
theorem dX7_collapse_61 : decode cX7_collapse 61 = .ok (.iinc 5 1, 3) := dk_132 5 1 (dk_at dksX7_collapse_2 13 rfl rfl)
theorem dX7_collapse_64 : decode cX7_collapse 64 = .ok (.goto (-29), 3) := dk_167 255 227 (dk_at dksX7_collapse_2 16 rfl rfl)
theorem dX7_collapse_67 : decode cX7_collapse 67 = .ok (.aload_n 0, 1) := dk_42 (dk_at dksX7_collapse_2 19 rfl rfl)
theorem dX7_collapse_68 : decode cX7_collapse 68 = .ok (.dup, 1) := dk_89 (dk_at dksX7_collapse_2 20 rfl rfl)
theorem dX7_collapse_69 : decode cX7_collapse 69 = .ok (.getfield 137, 3) := dk_180 0 137 (dk_at dksX7_collapse_2 21 rfl rfl)
theorem dX7_collapse_72 : decode cX7_collapse 72 = .ok (.aload_n 0, 1) := dk_42 (dk_at dksX7_collapse_3 0 rfl rfl)
theorem dX7_collapse_73 : decode cX7_collapse 73 = .ok (.getfield 38, 3) := dk_180 0 38 (dk_at dksX7_collapse_3 1 rfl rfl)
theorem dX7_collapse_76 : decode cX7_collapse 76 = .ok (.aload_n 0, 1) := dk_42 (dk_at dksX7_collapse_3 4 rfl rfl)
theorem dX7_collapse_77 : decode cX7_collapse 77 = .ok (.iload_n 3, 1) := dk_29 (dk_at dksX7_collapse_3 5 rfl rfl)
theorem dX7_collapse_78 : decode cX7_collapse 78 = .ok (.iload 5, 2) := dk_21 5 (dk_at dksX7_collapse_3 6 rfl rfl)
theorem dX7_collapse_80 : decode cX7_collapse 80 = .ok (.invokevirtual 187, 3) := dk_182 0 187 (dk_at dksX7_collapse_3 8 rfl rfl)
theorem dX7_collapse_83 : decode cX7_collapse 83 = .ok (.laload, 1) := dk_47 (dk_at dksX7_collapse_3 11 rfl rfl)
theorem dX7_collapse_84 : decode cX7_collapse 84 = .ok (.lor, 1) := dk_129 (dk_at dksX7_collapse_3 12 rfl rfl)
theorem dX7_collapse_85 : decode cX7_collapse 85 = .ok (.putfield 137, 3) := dk_181 0 137 (dk_at dksX7_collapse_3 13 rfl rfl)
theorem dX7_collapse_88 : decode cX7_collapse 88 = .ok (.aload_n 0, 1) := dk_42 (dk_at dksX7_collapse_3 16 rfl rfl)
theorem dX7_collapse_89 : decode cX7_collapse 89 = .ok (.iload_n 3, 1) := dk_29 (dk_at dksX7_collapse_3 17 rfl rfl)
theorem dX7_collapse_90 : decode cX7_collapse 90 = .ok (.iload 5, 2) := dk_21 5 (dk_at dksX7_collapse_3 18 rfl rfl)
theorem dX7_collapse_92 : decode cX7_collapse 92 = .ok (.invokevirtual 171, 3) := dk_182 0 171 (dk_at dksX7_collapse_3 20 rfl rfl)
theorem dX7_collapse_95 : decode cX7_collapse 95 = .ok (.istore_n 3, 1) := dk_62 (dk_at dksX7_collapse_3 23 rfl rfl)
theorem dX7_collapse_96 : decode cX7_collapse 96 = .ok (.goto (-70), 3) := dk_167 255 186 (dk_at dksX7_collapse_4 0 rfl rfl)
theorem dX7_collapse_99 : decode cX7_collapse 99 = .ok (.aload_n 0, 1) := dk_42 (dk_at dksX7_collapse_4 3 rfl rfl)
theorem dX7_collapse_100 : decode cX7_collapse 100 = .ok (.getfield 137, 3) := dk_180 0 137 (dk_at dksX7_collapse_4 4 rfl rfl)
theorem dX7_collapse_103 : decode cX7_collapse 103 = .ok (.invokestatic 127, 3) := dk_184 0 127 (dk_at dksX7_collapse_4 7 rfl rfl)
theorem dX7_collapse_106 : decode cX7_collapse 106 = .ok (.ireturn, 1) := dk_172 (dk_at dksX7_collapse_4 10 rfl rfl)
abbrev cX7_maker : ByteArray := prog_32_method_51_code
def yX7_maker : MethodName := ⟨RX7, "maker", "(II)I"⟩
def dkwX7_maker_3 : List UInt8 := [4, 100, 172]
abbrev dktX7_maker_3 : List UInt8 := dkwX7_maker_3 ++ []
def dkwX7_maker_2 : List UInt8 := [42, 180, 0, 20, 42, 180, 0, 205, 28, 79, 42, 89, 180, 0, 205, 4, 96, 181, 0, 205, 42, 180, 0, 205]
abbrev dktX7_maker_2 : List UInt8 := dkwX7_maker_2 ++ dktX7_maker_3
def dkwX7_maker_1 : List UInt8 := [2, 172, 42, 180, 0, 205, 16, 6, 160, 0, 6, 16, 254, 172, 42, 180, 0, 16, 42, 180, 0, 205, 27, 79]
abbrev dktX7_maker_1 : List UInt8 := dkwX7_maker_1 ++ dktX7_maker_2
def dkwX7_maker_0 : List UInt8 := [27, 133, 9, 20, 0, 219, 184, 0, 133, 153, 0, 15, 28, 133, 9, 20, 0, 221, 184, 0, 133, 154, 0, 5]
abbrev dktX7_maker_0 : List UInt8 := dkwX7_maker_0 ++ dktX7_maker_1
theorem dksX7_maker_0 : cX7_maker.data.toList.drop 0 = dktX7_maker_0 := by decide +kernel
theorem dksX7_maker_1 : cX7_maker.data.toList.drop 24 = dktX7_maker_1 := dk_seg dksX7_maker_0 24 rfl rfl
theorem dksX7_maker_2 : cX7_maker.data.toList.drop 48 = dktX7_maker_2 := dk_seg dksX7_maker_1 24 rfl rfl
theorem dksX7_maker_3 : cX7_maker.data.toList.drop 72 = dktX7_maker_3 := dk_seg dksX7_maker_2 24 rfl rfl
theorem dX7_maker_0 : decode cX7_maker 0 = .ok (.iload_n 1, 1) := dk_27 (dk_at dksX7_maker_0 0 rfl rfl)
theorem dX7_maker_1 : decode cX7_maker 1 = .ok (.i2l, 1) := dk_133 (dk_at dksX7_maker_0 1 rfl rfl)
theorem dX7_maker_2 : decode cX7_maker 2 = .ok (.lconst 0, 1) := dk_9 (dk_at dksX7_maker_0 2 rfl rfl)
theorem dX7_maker_3 : decode cX7_maker 3 = .ok (.ldc2_w 219, 3) := dk_20 0 219 (dk_at dksX7_maker_0 3 rfl rfl)
theorem dX7_maker_6 : decode cX7_maker 6 = .ok (.invokestatic 133, 3) := dk_184 0 133 (dk_at dksX7_maker_0 6 rfl rfl)
theorem dX7_maker_9 : decode cX7_maker 9 = .ok (.ifCond .eq 15, 3) := dk_153 0 15 (dk_at dksX7_maker_0 9 rfl rfl)
theorem dX7_maker_12 : decode cX7_maker 12 = .ok (.iload_n 2, 1) := dk_28 (dk_at dksX7_maker_0 12 rfl rfl)
theorem dX7_maker_13 : decode cX7_maker 13 = .ok (.i2l, 1) := dk_133 (dk_at dksX7_maker_0 13 rfl rfl)
theorem dX7_maker_14 : decode cX7_maker 14 = .ok (.lconst 0, 1) := dk_9 (dk_at dksX7_maker_0 14 rfl rfl)
theorem dX7_maker_15 : decode cX7_maker 15 = .ok (.ldc2_w 221, 3) := dk_20 0 221 (dk_at dksX7_maker_0 15 rfl rfl)
theorem dX7_maker_18 : decode cX7_maker 18 = .ok (.invokestatic 133, 3) := dk_184 0 133 (dk_at dksX7_maker_0 18 rfl rfl)
theorem dX7_maker_21 : decode cX7_maker 21 = .ok (.ifCond .ne 5, 3) := dk_154 0 5 (dk_at dksX7_maker_0 21 rfl rfl)
theorem dX7_maker_24 : decode cX7_maker 24 = .ok (.iconst (-1), 1) := dk_2 (dk_at dksX7_maker_1 0 rfl rfl)
theorem dX7_maker_25 : decode cX7_maker 25 = .ok (.ireturn, 1) := dk_172 (dk_at dksX7_maker_1 1 rfl rfl)
theorem dX7_maker_26 : decode cX7_maker 26 = .ok (.aload_n 0, 1) := dk_42 (dk_at dksX7_maker_1 2 rfl rfl)
theorem dX7_maker_27 : decode cX7_maker 27 = .ok (.getfield 205, 3) := dk_180 0 205 (dk_at dksX7_maker_1 3 rfl rfl)
theorem dX7_maker_30 : decode cX7_maker 30 = .ok (.bipush 6, 2) := dk_16 6 (dk_at dksX7_maker_1 6 rfl rfl)
theorem dX7_maker_32 : decode cX7_maker 32 = .ok (.if_icmp .ne 6, 3) := dk_160 0 6 (dk_at dksX7_maker_1 8 rfl rfl)
theorem dX7_maker_35 : decode cX7_maker 35 = .ok (.bipush (-2), 2) := dk_16 254 (dk_at dksX7_maker_1 11 rfl rfl)
theorem dX7_maker_37 : decode cX7_maker 37 = .ok (.ireturn, 1) := dk_172 (dk_at dksX7_maker_1 13 rfl rfl)
theorem dX7_maker_38 : decode cX7_maker 38 = .ok (.aload_n 0, 1) := dk_42 (dk_at dksX7_maker_1 14 rfl rfl)
theorem dX7_maker_39 : decode cX7_maker 39 = .ok (.getfield 16, 3) := dk_180 0 16 (dk_at dksX7_maker_1 15 rfl rfl)
theorem dX7_maker_42 : decode cX7_maker 42 = .ok (.aload_n 0, 1) := dk_42 (dk_at dksX7_maker_1 18 rfl rfl)
theorem dX7_maker_43 : decode cX7_maker 43 = .ok (.getfield 205, 3) := dk_180 0 205 (dk_at dksX7_maker_1 19 rfl rfl)
theorem dX7_maker_46 : decode cX7_maker 46 = .ok (.iload_n 1, 1) := dk_27 (dk_at dksX7_maker_1 22 rfl rfl)
theorem dX7_maker_47 : decode cX7_maker 47 = .ok (.iastore, 1) := dk_79 (dk_at dksX7_maker_1 23 rfl rfl)
theorem dX7_maker_48 : decode cX7_maker 48 = .ok (.aload_n 0, 1) := dk_42 (dk_at dksX7_maker_2 0 rfl rfl)
theorem dX7_maker_49 : decode cX7_maker 49 = .ok (.getfield 20, 3) := dk_180 0 20 (dk_at dksX7_maker_2 1 rfl rfl)
theorem dX7_maker_52 : decode cX7_maker 52 = .ok (.aload_n 0, 1) := dk_42 (dk_at dksX7_maker_2 4 rfl rfl)
theorem dX7_maker_53 : decode cX7_maker 53 = .ok (.getfield 205, 3) := dk_180 0 205 (dk_at dksX7_maker_2 5 rfl rfl)
theorem dX7_maker_56 : decode cX7_maker 56 = .ok (.iload_n 2, 1) := dk_28 (dk_at dksX7_maker_2 8 rfl rfl)
theorem dX7_maker_57 : decode cX7_maker 57 = .ok (.iastore, 1) := dk_79 (dk_at dksX7_maker_2 9 rfl rfl)
theorem dX7_maker_58 : decode cX7_maker 58 = .ok (.aload_n 0, 1) := dk_42 (dk_at dksX7_maker_2 10 rfl rfl)
theorem dX7_maker_59 : decode cX7_maker 59 = .ok (.dup, 1) := dk_89 (dk_at dksX7_maker_2 11 rfl rfl)
theorem dX7_maker_60 : decode cX7_maker 60 = .ok (.getfield 205, 3) := dk_180 0 205 (dk_at dksX7_maker_2 12 rfl rfl)
theorem dX7_maker_63 : decode cX7_maker 63 = .ok (.iconst 1, 1) := dk_4 (dk_at dksX7_maker_2 15 rfl rfl)
theorem dX7_maker_64 : decode cX7_maker 64 = .ok (.iadd, 1) := dk_96 (dk_at dksX7_maker_2 16 rfl rfl)
theorem dX7_maker_65 : decode cX7_maker 65 = .ok (.putfield 205, 3) := dk_181 0 205 (dk_at dksX7_maker_2 17 rfl rfl)
theorem dX7_maker_68 : decode cX7_maker 68 = .ok (.aload_n 0, 1) := dk_42 (dk_at dksX7_maker_2 20 rfl rfl)
theorem dX7_maker_69 : decode cX7_maker 69 = .ok (.getfield 205, 3) := dk_180 0 205 (dk_at dksX7_maker_2 21 rfl rfl)
theorem dX7_maker_72 : decode cX7_maker 72 = .ok (.iconst 1, 1) := dk_4 (dk_at dksX7_maker_3 0 rfl rfl)
theorem dX7_maker_73 : decode cX7_maker 73 = .ok (.isub, 1) := dk_100 (dk_at dksX7_maker_3 1 rfl rfl)
theorem dX7_maker_74 : decode cX7_maker 74 = .ok (.ireturn, 1) := dk_172 (dk_at dksX7_maker_3 2 rfl rfl)
abbrev cX7_makerIs : ByteArray := prog_32_method_52_code
def yX7_makerIs : MethodName := ⟨RX7, "makerIs", "(II)I"⟩
def dkwX7_makerIs_2 : List UInt8 := [167, 0, 22, 42, 42, 180, 0, 16, 27, 46, 42, 180, 0, 20, 27, 46, 182, 0, 228, 184, 0, 127, 172]
abbrev dktX7_makerIs_2 : List UInt8 := dkwX7_makerIs_2 ++ []
def dkwX7_makerIs_1 : List UInt8 := [154, 0, 12, 42, 180, 0, 16, 27, 46, 167, 0, 36, 28, 4, 160, 0, 12, 42, 180, 0, 20, 27, 46]
abbrev dktX7_makerIs_1 : List UInt8 := dkwX7_makerIs_1 ++ dktX7_makerIs_2
def dkwX7_makerIs_0 : List UInt8 := [42, 27, 182, 0, 223, 153, 0, 15, 28, 133, 9, 20, 0, 226, 184, 0, 133, 154, 0, 5, 2, 172, 28]
abbrev dktX7_makerIs_0 : List UInt8 := dkwX7_makerIs_0 ++ dktX7_makerIs_1
theorem dksX7_makerIs_0 : cX7_makerIs.data.toList.drop 0 = dktX7_makerIs_0 := by decide +kernel
theorem dksX7_makerIs_1 : cX7_makerIs.data.toList.drop 23 = dktX7_makerIs_1 := dk_seg dksX7_makerIs_0 23 rfl rfl
theorem dksX7_makerIs_2 : cX7_makerIs.data.toList.drop 46 = dktX7_makerIs_2 := dk_seg dksX7_makerIs_1 23 rfl rfl
theorem dX7_makerIs_0 : decode cX7_makerIs 0 = .ok (.aload_n 0, 1) := dk_42 (dk_at dksX7_makerIs_0 0 rfl rfl)
theorem dX7_makerIs_1 : decode cX7_makerIs 1 = .ok (.iload_n 1, 1) := dk_27 (dk_at dksX7_makerIs_0 1 rfl rfl)
theorem dX7_makerIs_2 : decode cX7_makerIs 2 = .ok (.invokevirtual 223, 3) := dk_182 0 223 (dk_at dksX7_makerIs_0 2 rfl rfl)
theorem dX7_makerIs_5 : decode cX7_makerIs 5 = .ok (.ifCond .eq 15, 3) := dk_153 0 15 (dk_at dksX7_makerIs_0 5 rfl rfl)
theorem dX7_makerIs_8 : decode cX7_makerIs 8 = .ok (.iload_n 2, 1) := dk_28 (dk_at dksX7_makerIs_0 8 rfl rfl)
theorem dX7_makerIs_9 : decode cX7_makerIs 9 = .ok (.i2l, 1) := dk_133 (dk_at dksX7_makerIs_0 9 rfl rfl)
theorem dX7_makerIs_10 : decode cX7_makerIs 10 = .ok (.lconst 0, 1) := dk_9 (dk_at dksX7_makerIs_0 10 rfl rfl)
theorem dX7_makerIs_11 : decode cX7_makerIs 11 = .ok (.ldc2_w 226, 3) := dk_20 0 226 (dk_at dksX7_makerIs_0 11 rfl rfl)
theorem dX7_makerIs_14 : decode cX7_makerIs 14 = .ok (.invokestatic 133, 3) := dk_184 0 133 (dk_at dksX7_makerIs_0 14 rfl rfl)
theorem dX7_makerIs_17 : decode cX7_makerIs 17 = .ok (.ifCond .ne 5, 3) := dk_154 0 5 (dk_at dksX7_makerIs_0 17 rfl rfl)
theorem dX7_makerIs_20 : decode cX7_makerIs 20 = .ok (.iconst (-1), 1) := dk_2 (dk_at dksX7_makerIs_0 20 rfl rfl)
theorem dX7_makerIs_21 : decode cX7_makerIs 21 = .ok (.ireturn, 1) := dk_172 (dk_at dksX7_makerIs_0 21 rfl rfl)
theorem dX7_makerIs_22 : decode cX7_makerIs 22 = .ok (.iload_n 2, 1) := dk_28 (dk_at dksX7_makerIs_0 22 rfl rfl)
theorem dX7_makerIs_23 : decode cX7_makerIs 23 = .ok (.ifCond .ne 12, 3) := dk_154 0 12 (dk_at dksX7_makerIs_1 0 rfl rfl)
theorem dX7_makerIs_26 : decode cX7_makerIs 26 = .ok (.aload_n 0, 1) := dk_42 (dk_at dksX7_makerIs_1 3 rfl rfl)
theorem dX7_makerIs_27 : decode cX7_makerIs 27 = .ok (.getfield 16, 3) := dk_180 0 16 (dk_at dksX7_makerIs_1 4 rfl rfl)
theorem dX7_makerIs_30 : decode cX7_makerIs 30 = .ok (.iload_n 1, 1) := dk_27 (dk_at dksX7_makerIs_1 7 rfl rfl)
theorem dX7_makerIs_31 : decode cX7_makerIs 31 = .ok (.iaload, 1) := dk_46 (dk_at dksX7_makerIs_1 8 rfl rfl)
theorem dX7_makerIs_32 : decode cX7_makerIs 32 = .ok (.goto 36, 3) := dk_167 0 36 (dk_at dksX7_makerIs_1 9 rfl rfl)
theorem dX7_makerIs_35 : decode cX7_makerIs 35 = .ok (.iload_n 2, 1) := dk_28 (dk_at dksX7_makerIs_1 12 rfl rfl)
theorem dX7_makerIs_36 : decode cX7_makerIs 36 = .ok (.iconst 1, 1) := dk_4 (dk_at dksX7_makerIs_1 13 rfl rfl)
theorem dX7_makerIs_37 : decode cX7_makerIs 37 = .ok (.if_icmp .ne 12, 3) := dk_160 0 12 (dk_at dksX7_makerIs_1 14 rfl rfl)
theorem dX7_makerIs_40 : decode cX7_makerIs 40 = .ok (.aload_n 0, 1) := dk_42 (dk_at dksX7_makerIs_1 17 rfl rfl)
theorem dX7_makerIs_41 : decode cX7_makerIs 41 = .ok (.getfield 20, 3) := dk_180 0 20 (dk_at dksX7_makerIs_1 18 rfl rfl)
theorem dX7_makerIs_44 : decode cX7_makerIs 44 = .ok (.iload_n 1, 1) := dk_27 (dk_at dksX7_makerIs_1 21 rfl rfl)
theorem dX7_makerIs_45 : decode cX7_makerIs 45 = .ok (.iaload, 1) := dk_46 (dk_at dksX7_makerIs_1 22 rfl rfl)
theorem dX7_makerIs_46 : decode cX7_makerIs 46 = .ok (.goto 22, 3) := dk_167 0 22 (dk_at dksX7_makerIs_2 0 rfl rfl)
theorem dX7_makerIs_49 : decode cX7_makerIs 49 = .ok (.aload_n 0, 1) := dk_42 (dk_at dksX7_makerIs_2 3 rfl rfl)
theorem dX7_makerIs_50 : decode cX7_makerIs 50 = .ok (.aload_n 0, 1) := dk_42 (dk_at dksX7_makerIs_2 4 rfl rfl)
theorem dX7_makerIs_51 : decode cX7_makerIs 51 = .ok (.getfield 16, 3) := dk_180 0 16 (dk_at dksX7_makerIs_2 5 rfl rfl)
theorem dX7_makerIs_54 : decode cX7_makerIs 54 = .ok (.iload_n 1, 1) := dk_27 (dk_at dksX7_makerIs_2 8 rfl rfl)
theorem dX7_makerIs_55 : decode cX7_makerIs 55 = .ok (.iaload, 1) := dk_46 (dk_at dksX7_makerIs_2 9 rfl rfl)
theorem dX7_makerIs_56 : decode cX7_makerIs 56 = .ok (.aload_n 0, 1) := dk_42 (dk_at dksX7_makerIs_2 10 rfl rfl)
theorem dX7_makerIs_57 : decode cX7_makerIs 57 = .ok (.getfield 20, 3) := dk_180 0 20 (dk_at dksX7_makerIs_2 11 rfl rfl)
theorem dX7_makerIs_60 : decode cX7_makerIs 60 = .ok (.iload_n 1, 1) := dk_27 (dk_at dksX7_makerIs_2 14 rfl rfl)
theorem dX7_makerIs_61 : decode cX7_makerIs 61 = .ok (.iaload, 1) := dk_46 (dk_at dksX7_makerIs_2 15 rfl rfl)
theorem dX7_makerIs_62 : decode cX7_makerIs 62 = .ok (.invokevirtual 228, 3) := dk_182 0 228 (dk_at dksX7_makerIs_2 16 rfl rfl)
theorem dX7_makerIs_65 : decode cX7_makerIs 65 = .ok (.invokestatic 127, 3) := dk_184 0 127 (dk_at dksX7_makerIs_2 19 rfl rfl)
theorem dX7_makerIs_68 : decode cX7_makerIs 68 = .ok (.ireturn, 1) := dk_172 (dk_at dksX7_makerIs_2 22 rfl rfl)
abbrev cX7_isMaker : ByteArray := prog_32_method_46_code
def yX7_isMaker : MethodName := ⟨RX7, "isMaker", "(I)Z"⟩
def dkwX7_isMaker_0 : List UInt8 := [27, 133, 9, 42, 180, 0, 205, 4, 100, 133, 184, 0, 133, 172]
abbrev dktX7_isMaker_0 : List UInt8 := dkwX7_isMaker_0 ++ []
theorem dksX7_isMaker_0 : cX7_isMaker.data.toList.drop 0 = dktX7_isMaker_0 := by decide +kernel
theorem dX7_isMaker_0 : decode cX7_isMaker 0 = .ok (.iload_n 1, 1) := dk_27 (dk_at dksX7_isMaker_0 0 rfl rfl)
theorem dX7_isMaker_1 : decode cX7_isMaker 1 = .ok (.i2l, 1) := dk_133 (dk_at dksX7_isMaker_0 1 rfl rfl)
theorem dX7_isMaker_2 : decode cX7_isMaker 2 = .ok (.lconst 0, 1) := dk_9 (dk_at dksX7_isMaker_0 2 rfl rfl)
theorem dX7_isMaker_3 : decode cX7_isMaker 3 = .ok (.aload_n 0, 1) := dk_42 (dk_at dksX7_isMaker_0 3 rfl rfl)
theorem dX7_isMaker_4 : decode cX7_isMaker 4 = .ok (.getfield 205, 3) := dk_180 0 205 (dk_at dksX7_isMaker_0 4 rfl rfl)
theorem dX7_isMaker_7 : decode cX7_isMaker 7 = .ok (.iconst 1, 1) := dk_4 (dk_at dksX7_isMaker_0 7 rfl rfl)
theorem dX7_isMaker_8 : decode cX7_isMaker 8 = .ok (.isub, 1) := dk_100 (dk_at dksX7_isMaker_0 8 rfl rfl)
theorem dX7_isMaker_9 : decode cX7_isMaker 9 = .ok (.i2l, 1) := dk_133 (dk_at dksX7_isMaker_0 9 rfl rfl)
theorem dX7_isMaker_10 : decode cX7_isMaker 10 = .ok (.invokestatic 133, 3) := dk_184 0 133 (dk_at dksX7_isMaker_0 10 rfl rfl)
theorem dX7_isMaker_13 : decode cX7_isMaker 13 = .ok (.ireturn, 1) := dk_172 (dk_at dksX7_isMaker_0 13 rfl rfl)
abbrev cX7_takenBy : ByteArray := prog_32_method_49_code
def yX7_takenBy : MethodName := ⟨RX7, "takenBy", "(II)J"⟩
def dkwX7_takenBy_1 : List UInt8 := [153, 0, 10, 10, 21, 5, 121, 167, 0, 4, 9, 129, 66, 132, 5, 1, 167, 255, 222, 33, 173]
abbrev dktX7_takenBy_1 : List UInt8 := dkwX7_takenBy_1 ++ []
def dkwX7_takenBy_0 : List UInt8 := [9, 66, 3, 54, 5, 21, 5, 42, 180, 0, 178, 162, 0, 31, 33, 42, 27, 28, 21, 5, 182, 0, 211]
abbrev dktX7_takenBy_0 : List UInt8 := dkwX7_takenBy_0 ++ dktX7_takenBy_1
theorem dksX7_takenBy_0 : cX7_takenBy.data.toList.drop 0 = dktX7_takenBy_0 := by decide +kernel
theorem dksX7_takenBy_1 : cX7_takenBy.data.toList.drop 23 = dktX7_takenBy_1 := dk_seg dksX7_takenBy_0 23 rfl rfl
theorem dX7_takenBy_0 : decode cX7_takenBy 0 = .ok (.lconst 0, 1) := dk_9 (dk_at dksX7_takenBy_0 0 rfl rfl)
theorem dX7_takenBy_1 : decode cX7_takenBy 1 = .ok (.lstore_n 3, 1) := dk_66 (dk_at dksX7_takenBy_0 1 rfl rfl)
theorem dX7_takenBy_2 : decode cX7_takenBy 2 = .ok (.iconst 0, 1) := dk_3 (dk_at dksX7_takenBy_0 2 rfl rfl)
theorem dX7_takenBy_3 : decode cX7_takenBy 3 = .ok (.istore 5, 2) := dk_54 5 (dk_at dksX7_takenBy_0 3 rfl rfl)
theorem dX7_takenBy_5 : decode cX7_takenBy 5 = .ok (.iload 5, 2) := dk_21 5 (dk_at dksX7_takenBy_0 5 rfl rfl)
theorem dX7_takenBy_7 : decode cX7_takenBy 7 = .ok (.aload_n 0, 1) := dk_42 (dk_at dksX7_takenBy_0 7 rfl rfl)
theorem dX7_takenBy_8 : decode cX7_takenBy 8 = .ok (.getfield 178, 3) := dk_180 0 178 (dk_at dksX7_takenBy_0 8 rfl rfl)
theorem dX7_takenBy_11 : decode cX7_takenBy 11 = .ok (.if_icmp .ge 31, 3) := dk_162 0 31 (dk_at dksX7_takenBy_0 11 rfl rfl)
theorem dX7_takenBy_14 : decode cX7_takenBy 14 = .ok (.lload_n 3, 1) := dk_33 (dk_at dksX7_takenBy_0 14 rfl rfl)
theorem dX7_takenBy_15 : decode cX7_takenBy 15 = .ok (.aload_n 0, 1) := dk_42 (dk_at dksX7_takenBy_0 15 rfl rfl)
theorem dX7_takenBy_16 : decode cX7_takenBy 16 = .ok (.iload_n 1, 1) := dk_27 (dk_at dksX7_takenBy_0 16 rfl rfl)
theorem dX7_takenBy_17 : decode cX7_takenBy 17 = .ok (.iload_n 2, 1) := dk_28 (dk_at dksX7_takenBy_0 17 rfl rfl)
theorem dX7_takenBy_18 : decode cX7_takenBy 18 = .ok (.iload 5, 2) := dk_21 5 (dk_at dksX7_takenBy_0 18 rfl rfl)
theorem dX7_takenBy_20 : decode cX7_takenBy 20 = .ok (.invokevirtual 211, 3) := dk_182 0 211 (dk_at dksX7_takenBy_0 20 rfl rfl)
theorem dX7_takenBy_23 : decode cX7_takenBy 23 = .ok (.ifCond .eq 10, 3) := dk_153 0 10 (dk_at dksX7_takenBy_1 0 rfl rfl)
theorem dX7_takenBy_26 : decode cX7_takenBy 26 = .ok (.lconst 1, 1) := dk_10 (dk_at dksX7_takenBy_1 3 rfl rfl)
theorem dX7_takenBy_27 : decode cX7_takenBy 27 = .ok (.iload 5, 2) := dk_21 5 (dk_at dksX7_takenBy_1 4 rfl rfl)
theorem dX7_takenBy_29 : decode cX7_takenBy 29 = .ok (.lshl, 1) := dk_121 (dk_at dksX7_takenBy_1 6 rfl rfl)
theorem dX7_takenBy_30 : decode cX7_takenBy 30 = .ok (.goto 4, 3) := dk_167 0 4 (dk_at dksX7_takenBy_1 7 rfl rfl)
theorem dX7_takenBy_33 : decode cX7_takenBy 33 = .ok (.lconst 0, 1) := dk_9 (dk_at dksX7_takenBy_1 10 rfl rfl)
theorem dX7_takenBy_34 : decode cX7_takenBy 34 = .ok (.lor, 1) := dk_129 (dk_at dksX7_takenBy_1 11 rfl rfl)
theorem dX7_takenBy_35 : decode cX7_takenBy 35 = .ok (.lstore_n 3, 1) := dk_66 (dk_at dksX7_takenBy_1 12 rfl rfl)
theorem dX7_takenBy_36 : decode cX7_takenBy 36 = .ok (.iinc 5 1, 3) := dk_132 5 1 (dk_at dksX7_takenBy_1 13 rfl rfl)
theorem dX7_takenBy_39 : decode cX7_takenBy 39 = .ok (.goto (-34), 3) := dk_167 255 222 (dk_at dksX7_takenBy_1 16 rfl rfl)
theorem dX7_takenBy_42 : decode cX7_takenBy 42 = .ok (.lload_n 3, 1) := dk_33 (dk_at dksX7_takenBy_1 19 rfl rfl)
theorem dX7_takenBy_43 : decode cX7_takenBy 43 = .ok (.lreturn, 1) := dk_173 (dk_at dksX7_takenBy_1 20 rfl rfl)
abbrev cX7_takes : ByteArray := prog_32_method_47_code
def yX7_takes : MethodName := ⟨RX7, "takes", "(III)Z"⟩
def dkwX7_takes_5 : List UInt8 := [21, 4, 4, 96, 28, 163, 0, 10, 21, 5, 21, 6, 164, 0, 7, 4, 167, 0, 4, 3, 172, 3, 172]
abbrev dktX7_takes_5 : List UInt8 := dkwX7_takes_5 ++ []
def dkwX7_takes_4 : List UInt8 := [172, 21, 5, 158, 0, 12, 21, 6, 158, 0, 7, 4, 167, 0, 4, 3, 172, 42, 28, 29, 182, 0, 208, 172]
abbrev dktX7_takes_4 : List UInt8 := dkwX7_takes_4 ++ dktX7_takes_5
def dkwX7_takes_3 : List UInt8 := [21, 5, 158, 0, 7, 4, 167, 0, 4, 3, 172, 21, 4, 4, 96, 28, 164, 0, 7, 4, 167, 0, 4, 3]
abbrev dktX7_takes_3 : List UInt8 := dkwX7_takes_3 ++ dktX7_takes_4
def dkwX7_takes_2 : List UInt8 := [170, 0, 0, 0, 0, 0, 104, 0, 0, 0, 1, 0, 0, 0, 5, 0, 0, 0, 35, 0, 0, 0, 46, 0, 0, 0, 60, 0, 0, 0, 76, 0, 0, 0, 83]
abbrev dktX7_takes_2 : List UInt8 := dkwX7_takes_2 ++ dktX7_takes_3
def dkwX7_takes_1 : List UInt8 := [184, 0, 127, 54, 5, 21, 4, 21, 5, 100, 54, 6, 27]
abbrev dktX7_takes_1 : List UInt8 := dkwX7_takes_1 ++ dktX7_takes_2
def dkwX7_takes_0 : List UInt8 := [42, 180, 0, 32, 29, 46, 42, 180, 0, 29, 29, 46, 100, 4, 100, 54, 4, 42, 180, 0, 35, 29, 46, 133]
abbrev dktX7_takes_0 : List UInt8 := dkwX7_takes_0 ++ dktX7_takes_1
theorem dksX7_takes_0 : cX7_takes.data.toList.drop 0 = dktX7_takes_0 := by decide +kernel
theorem dksX7_takes_1 : cX7_takes.data.toList.drop 24 = dktX7_takes_1 := dk_seg dksX7_takes_0 24 rfl rfl
theorem dksX7_takes_2 : cX7_takes.data.toList.drop 37 = dktX7_takes_2 := dk_seg dksX7_takes_1 13 rfl rfl
theorem dksX7_takes_3 : cX7_takes.data.toList.drop 72 = dktX7_takes_3 := dk_seg dksX7_takes_2 35 rfl rfl
theorem dksX7_takes_4 : cX7_takes.data.toList.drop 96 = dktX7_takes_4 := dk_seg dksX7_takes_3 24 rfl rfl
theorem dksX7_takes_5 : cX7_takes.data.toList.drop 120 = dktX7_takes_5 := dk_seg dksX7_takes_4 24 rfl rfl
theorem dX7_takes_0 : decode cX7_takes 0 = .ok (.aload_n 0, 1) := dk_42 (dk_at dksX7_takes_0 0 rfl rfl)
theorem dX7_takes_1 : decode cX7_takes 1 = .ok (.getfield 32, 3) := dk_180 0 32 (dk_at dksX7_takes_0 1 rfl rfl)
theorem dX7_takes_4 : decode cX7_takes 4 = .ok (.iload_n 3, 1) := dk_29 (dk_at dksX7_takes_0 4 rfl rfl)
theorem dX7_takes_5 : decode cX7_takes 5 = .ok (.iaload, 1) := dk_46 (dk_at dksX7_takes_0 5 rfl rfl)
theorem dX7_takes_6 : decode cX7_takes 6 = .ok (.aload_n 0, 1) := dk_42 (dk_at dksX7_takes_0 6 rfl rfl)
theorem dX7_takes_7 : decode cX7_takes 7 = .ok (.getfield 29, 3) := dk_180 0 29 (dk_at dksX7_takes_0 7 rfl rfl)
theorem dX7_takes_10 : decode cX7_takes 10 = .ok (.iload_n 3, 1) := dk_29 (dk_at dksX7_takes_0 10 rfl rfl)
theorem dX7_takes_11 : decode cX7_takes 11 = .ok (.iaload, 1) := dk_46 (dk_at dksX7_takes_0 11 rfl rfl)
theorem dX7_takes_12 : decode cX7_takes 12 = .ok (.isub, 1) := dk_100 (dk_at dksX7_takes_0 12 rfl rfl)
theorem dX7_takes_13 : decode cX7_takes 13 = .ok (.iconst 1, 1) := dk_4 (dk_at dksX7_takes_0 13 rfl rfl)
theorem dX7_takes_14 : decode cX7_takes 14 = .ok (.isub, 1) := dk_100 (dk_at dksX7_takes_0 14 rfl rfl)
theorem dX7_takes_15 : decode cX7_takes 15 = .ok (.istore 4, 2) := dk_54 4 (dk_at dksX7_takes_0 15 rfl rfl)
theorem dX7_takes_17 : decode cX7_takes 17 = .ok (.aload_n 0, 1) := dk_42 (dk_at dksX7_takes_0 17 rfl rfl)
theorem dX7_takes_18 : decode cX7_takes 18 = .ok (.getfield 35, 3) := dk_180 0 35 (dk_at dksX7_takes_0 18 rfl rfl)
theorem dX7_takes_21 : decode cX7_takes 21 = .ok (.iload_n 3, 1) := dk_29 (dk_at dksX7_takes_0 21 rfl rfl)
theorem dX7_takes_22 : decode cX7_takes 22 = .ok (.iaload, 1) := dk_46 (dk_at dksX7_takes_0 22 rfl rfl)
theorem dX7_takes_23 : decode cX7_takes 23 = .ok (.i2l, 1) := dk_133 (dk_at dksX7_takes_0 23 rfl rfl)
theorem dX7_takes_24 : decode cX7_takes 24 = .ok (.invokestatic 127, 3) := dk_184 0 127 (dk_at dksX7_takes_1 0 rfl rfl)
theorem dX7_takes_27 : decode cX7_takes 27 = .ok (.istore 5, 2) := dk_54 5 (dk_at dksX7_takes_1 3 rfl rfl)
theorem dX7_takes_29 : decode cX7_takes 29 = .ok (.iload 4, 2) := dk_21 4 (dk_at dksX7_takes_1 5 rfl rfl)
theorem dX7_takes_31 : decode cX7_takes 31 = .ok (.iload 5, 2) := dk_21 5 (dk_at dksX7_takes_1 7 rfl rfl)
theorem dX7_takes_33 : decode cX7_takes 33 = .ok (.isub, 1) := dk_100 (dk_at dksX7_takes_1 9 rfl rfl)
theorem dX7_takes_34 : decode cX7_takes 34 = .ok (.istore 6, 2) := dk_54 6 (dk_at dksX7_takes_1 10 rfl rfl)
theorem dX7_takes_36 : decode cX7_takes 36 = .ok (.iload_n 1, 1) := dk_27 (dk_at dksX7_takes_1 12 rfl rfl)
theorem dX7_takes_37 : decode cX7_takes 37 = .ok (.tableswitch 104 1 5 #[35, 46, 60, 76, 83], 35) := by decide +kernel
theorem dX7_takes_72 : decode cX7_takes 72 = .ok (.iload 5, 2) := dk_21 5 (dk_at dksX7_takes_3 0 rfl rfl)
theorem dX7_takes_74 : decode cX7_takes 74 = .ok (.ifCond .le 7, 3) := dk_158 0 7 (dk_at dksX7_takes_3 2 rfl rfl)
theorem dX7_takes_77 : decode cX7_takes 77 = .ok (.iconst 1, 1) := dk_4 (dk_at dksX7_takes_3 5 rfl rfl)
theorem dX7_takes_78 : decode cX7_takes 78 = .ok (.goto 4, 3) := dk_167 0 4 (dk_at dksX7_takes_3 6 rfl rfl)
theorem dX7_takes_81 : decode cX7_takes 81 = .ok (.iconst 0, 1) := dk_3 (dk_at dksX7_takes_3 9 rfl rfl)
theorem dX7_takes_82 : decode cX7_takes 82 = .ok (.ireturn, 1) := dk_172 (dk_at dksX7_takes_3 10 rfl rfl)
theorem dX7_takes_83 : decode cX7_takes 83 = .ok (.iload 4, 2) := dk_21 4 (dk_at dksX7_takes_3 11 rfl rfl)
theorem dX7_takes_85 : decode cX7_takes 85 = .ok (.iconst 1, 1) := dk_4 (dk_at dksX7_takes_3 13 rfl rfl)
theorem dX7_takes_86 : decode cX7_takes 86 = .ok (.iadd, 1) := dk_96 (dk_at dksX7_takes_3 14 rfl rfl)
theorem dX7_takes_87 : decode cX7_takes 87 = .ok (.iload_n 2, 1) := dk_28 (dk_at dksX7_takes_3 15 rfl rfl)
theorem dX7_takes_88 : decode cX7_takes 88 = .ok (.if_icmp .le 7, 3) := dk_164 0 7 (dk_at dksX7_takes_3 16 rfl rfl)
theorem dX7_takes_91 : decode cX7_takes 91 = .ok (.iconst 1, 1) := dk_4 (dk_at dksX7_takes_3 19 rfl rfl)
theorem dX7_takes_92 : decode cX7_takes 92 = .ok (.goto 4, 3) := dk_167 0 4 (dk_at dksX7_takes_3 20 rfl rfl)
theorem dX7_takes_95 : decode cX7_takes 95 = .ok (.iconst 0, 1) := dk_3 (dk_at dksX7_takes_3 23 rfl rfl)
theorem dX7_takes_96 : decode cX7_takes 96 = .ok (.ireturn, 1) := dk_172 (dk_at dksX7_takes_4 0 rfl rfl)
theorem dX7_takes_97 : decode cX7_takes 97 = .ok (.iload 5, 2) := dk_21 5 (dk_at dksX7_takes_4 1 rfl rfl)
theorem dX7_takes_99 : decode cX7_takes 99 = .ok (.ifCond .le 12, 3) := dk_158 0 12 (dk_at dksX7_takes_4 3 rfl rfl)
theorem dX7_takes_102 : decode cX7_takes 102 = .ok (.iload 6, 2) := dk_21 6 (dk_at dksX7_takes_4 6 rfl rfl)
theorem dX7_takes_104 : decode cX7_takes 104 = .ok (.ifCond .le 7, 3) := dk_158 0 7 (dk_at dksX7_takes_4 8 rfl rfl)
theorem dX7_takes_107 : decode cX7_takes 107 = .ok (.iconst 1, 1) := dk_4 (dk_at dksX7_takes_4 11 rfl rfl)
theorem dX7_takes_108 : decode cX7_takes 108 = .ok (.goto 4, 3) := dk_167 0 4 (dk_at dksX7_takes_4 12 rfl rfl)
theorem dX7_takes_111 : decode cX7_takes 111 = .ok (.iconst 0, 1) := dk_3 (dk_at dksX7_takes_4 15 rfl rfl)
theorem dX7_takes_112 : decode cX7_takes 112 = .ok (.ireturn, 1) := dk_172 (dk_at dksX7_takes_4 16 rfl rfl)
theorem dX7_takes_113 : decode cX7_takes 113 = .ok (.aload_n 0, 1) := dk_42 (dk_at dksX7_takes_4 17 rfl rfl)
theorem dX7_takes_114 : decode cX7_takes 114 = .ok (.iload_n 2, 1) := dk_28 (dk_at dksX7_takes_4 18 rfl rfl)
theorem dX7_takes_115 : decode cX7_takes 115 = .ok (.iload_n 3, 1) := dk_29 (dk_at dksX7_takes_4 19 rfl rfl)
theorem dX7_takes_116 : decode cX7_takes 116 = .ok (.invokevirtual 208, 3) := dk_182 0 208 (dk_at dksX7_takes_4 20 rfl rfl)
theorem dX7_takes_119 : decode cX7_takes 119 = .ok (.ireturn, 1) := dk_172 (dk_at dksX7_takes_4 23 rfl rfl)
theorem dX7_takes_120 : decode cX7_takes 120 = .ok (.iload 4, 2) := dk_21 4 (dk_at dksX7_takes_5 0 rfl rfl)
theorem dX7_takes_122 : decode cX7_takes 122 = .ok (.iconst 1, 1) := dk_4 (dk_at dksX7_takes_5 2 rfl rfl)
theorem dX7_takes_123 : decode cX7_takes 123 = .ok (.iadd, 1) := dk_96 (dk_at dksX7_takes_5 3 rfl rfl)
theorem dX7_takes_124 : decode cX7_takes 124 = .ok (.iload_n 2, 1) := dk_28 (dk_at dksX7_takes_5 4 rfl rfl)
theorem dX7_takes_125 : decode cX7_takes 125 = .ok (.if_icmp .gt 10, 3) := dk_163 0 10 (dk_at dksX7_takes_5 5 rfl rfl)
theorem dX7_takes_128 : decode cX7_takes 128 = .ok (.iload 5, 2) := dk_21 5 (dk_at dksX7_takes_5 8 rfl rfl)
theorem dX7_takes_130 : decode cX7_takes 130 = .ok (.iload 6, 2) := dk_21 6 (dk_at dksX7_takes_5 10 rfl rfl)
theorem dX7_takes_132 : decode cX7_takes 132 = .ok (.if_icmp .le 7, 3) := dk_164 0 7 (dk_at dksX7_takes_5 12 rfl rfl)
theorem dX7_takes_135 : decode cX7_takes 135 = .ok (.iconst 1, 1) := dk_4 (dk_at dksX7_takes_5 15 rfl rfl)
theorem dX7_takes_136 : decode cX7_takes 136 = .ok (.goto 4, 3) := dk_167 0 4 (dk_at dksX7_takes_5 16 rfl rfl)
theorem dX7_takes_139 : decode cX7_takes 139 = .ok (.iconst 0, 1) := dk_3 (dk_at dksX7_takes_5 19 rfl rfl)
theorem dX7_takes_140 : decode cX7_takes 140 = .ok (.ireturn, 1) := dk_172 (dk_at dksX7_takes_5 20 rfl rfl)
theorem dX7_takes_141 : decode cX7_takes 141 = .ok (.iconst 0, 1) := dk_3 (dk_at dksX7_takes_5 21 rfl rfl)
theorem dX7_takes_142 : decode cX7_takes 142 = .ok (.ireturn, 1) := dk_172 (dk_at dksX7_takes_5 22 rfl rfl)
abbrev cX7_isSigned : ByteArray := prog_32_method_48_code
def yX7_isSigned : MethodName := ⟨RX7, "isSigned", "(II)Z"⟩
def dkwX7_isSigned_2 : List UInt8 := [128, 62, 132, 4, 1, 167, 255, 215, 29, 172]
abbrev dktX7_isSigned_2 : List UInt8 := dkwX7_isSigned_2 ++ []
def dkwX7_isSigned_1 : List UInt8 := [42, 28, 21, 4, 182, 0, 184, 27, 133, 21, 4, 5, 100, 184, 0, 108, 159, 0, 7, 4, 167, 0, 4, 3]
abbrev dktX7_isSigned_1 : List UInt8 := dkwX7_isSigned_1 ++ dktX7_isSigned_2
def dkwX7_isSigned_0 : List UInt8 := [3, 62, 42, 180, 0, 29, 28, 46, 4, 96, 54, 4, 21, 4, 42, 180, 0, 32, 28, 46, 162, 0, 36, 29]
abbrev dktX7_isSigned_0 : List UInt8 := dkwX7_isSigned_0 ++ dktX7_isSigned_1
theorem dksX7_isSigned_0 : cX7_isSigned.data.toList.drop 0 = dktX7_isSigned_0 := by decide +kernel
theorem dksX7_isSigned_1 : cX7_isSigned.data.toList.drop 24 = dktX7_isSigned_1 := dk_seg dksX7_isSigned_0 24 rfl rfl
theorem dksX7_isSigned_2 : cX7_isSigned.data.toList.drop 48 = dktX7_isSigned_2 := dk_seg dksX7_isSigned_1 24 rfl rfl
theorem dX7_isSigned_0 : decode cX7_isSigned 0 = .ok (.iconst 0, 1) := dk_3 (dk_at dksX7_isSigned_0 0 rfl rfl)
theorem dX7_isSigned_1 : decode cX7_isSigned 1 = .ok (.istore_n 3, 1) := dk_62 (dk_at dksX7_isSigned_0 1 rfl rfl)
theorem dX7_isSigned_2 : decode cX7_isSigned 2 = .ok (.aload_n 0, 1) := dk_42 (dk_at dksX7_isSigned_0 2 rfl rfl)
theorem dX7_isSigned_3 : decode cX7_isSigned 3 = .ok (.getfield 29, 3) := dk_180 0 29 (dk_at dksX7_isSigned_0 3 rfl rfl)
theorem dX7_isSigned_6 : decode cX7_isSigned 6 = .ok (.iload_n 2, 1) := dk_28 (dk_at dksX7_isSigned_0 6 rfl rfl)
theorem dX7_isSigned_7 : decode cX7_isSigned 7 = .ok (.iaload, 1) := dk_46 (dk_at dksX7_isSigned_0 7 rfl rfl)
theorem dX7_isSigned_8 : decode cX7_isSigned 8 = .ok (.iconst 1, 1) := dk_4 (dk_at dksX7_isSigned_0 8 rfl rfl)
theorem dX7_isSigned_9 : decode cX7_isSigned 9 = .ok (.iadd, 1) := dk_96 (dk_at dksX7_isSigned_0 9 rfl rfl)
theorem dX7_isSigned_10 : decode cX7_isSigned 10 = .ok (.istore 4, 2) := dk_54 4 (dk_at dksX7_isSigned_0 10 rfl rfl)
theorem dX7_isSigned_12 : decode cX7_isSigned 12 = .ok (.iload 4, 2) := dk_21 4 (dk_at dksX7_isSigned_0 12 rfl rfl)
theorem dX7_isSigned_14 : decode cX7_isSigned 14 = .ok (.aload_n 0, 1) := dk_42 (dk_at dksX7_isSigned_0 14 rfl rfl)
theorem dX7_isSigned_15 : decode cX7_isSigned 15 = .ok (.getfield 32, 3) := dk_180 0 32 (dk_at dksX7_isSigned_0 15 rfl rfl)
theorem dX7_isSigned_18 : decode cX7_isSigned 18 = .ok (.iload_n 2, 1) := dk_28 (dk_at dksX7_isSigned_0 18 rfl rfl)
theorem dX7_isSigned_19 : decode cX7_isSigned 19 = .ok (.iaload, 1) := dk_46 (dk_at dksX7_isSigned_0 19 rfl rfl)
theorem dX7_isSigned_20 : decode cX7_isSigned 20 = .ok (.if_icmp .ge 36, 3) := dk_162 0 36 (dk_at dksX7_isSigned_0 20 rfl rfl)
theorem dX7_isSigned_23 : decode cX7_isSigned 23 = .ok (.iload_n 3, 1) := dk_29 (dk_at dksX7_isSigned_0 23 rfl rfl)
theorem dX7_isSigned_24 : decode cX7_isSigned 24 = .ok (.aload_n 0, 1) := dk_42 (dk_at dksX7_isSigned_1 0 rfl rfl)
theorem dX7_isSigned_25 : decode cX7_isSigned 25 = .ok (.iload_n 2, 1) := dk_28 (dk_at dksX7_isSigned_1 1 rfl rfl)
theorem dX7_isSigned_26 : decode cX7_isSigned 26 = .ok (.iload 4, 2) := dk_21 4 (dk_at dksX7_isSigned_1 2 rfl rfl)
theorem dX7_isSigned_28 : decode cX7_isSigned 28 = .ok (.invokevirtual 184, 3) := dk_182 0 184 (dk_at dksX7_isSigned_1 4 rfl rfl)
theorem dX7_isSigned_31 : decode cX7_isSigned 31 = .ok (.iload_n 1, 1) := dk_27 (dk_at dksX7_isSigned_1 7 rfl rfl)
theorem dX7_isSigned_32 : decode cX7_isSigned 32 = .ok (.i2l, 1) := dk_133 (dk_at dksX7_isSigned_1 8 rfl rfl)
theorem dX7_isSigned_33 : decode cX7_isSigned 33 = .ok (.iload 4, 2) := dk_21 4 (dk_at dksX7_isSigned_1 9 rfl rfl)
theorem dX7_isSigned_35 : decode cX7_isSigned 35 = .ok (.iconst 2, 1) := dk_5 (dk_at dksX7_isSigned_1 11 rfl rfl)
theorem dX7_isSigned_36 : decode cX7_isSigned 36 = .ok (.isub, 1) := dk_100 (dk_at dksX7_isSigned_1 12 rfl rfl)
theorem dX7_isSigned_37 : decode cX7_isSigned 37 = .ok (.invokestatic 108, 3) := dk_184 0 108 (dk_at dksX7_isSigned_1 13 rfl rfl)
theorem dX7_isSigned_40 : decode cX7_isSigned 40 = .ok (.if_icmp .eq 7, 3) := dk_159 0 7 (dk_at dksX7_isSigned_1 16 rfl rfl)
theorem dX7_isSigned_43 : decode cX7_isSigned 43 = .ok (.iconst 1, 1) := dk_4 (dk_at dksX7_isSigned_1 19 rfl rfl)
theorem dX7_isSigned_44 : decode cX7_isSigned 44 = .ok (.goto 4, 3) := dk_167 0 4 (dk_at dksX7_isSigned_1 20 rfl rfl)
theorem dX7_isSigned_47 : decode cX7_isSigned 47 = .ok (.iconst 0, 1) := dk_3 (dk_at dksX7_isSigned_1 23 rfl rfl)
theorem dX7_isSigned_48 : decode cX7_isSigned 48 = .ok (.ior, 1) := dk_128 (dk_at dksX7_isSigned_2 0 rfl rfl)
theorem dX7_isSigned_49 : decode cX7_isSigned 49 = .ok (.istore_n 3, 1) := dk_62 (dk_at dksX7_isSigned_2 1 rfl rfl)
theorem dX7_isSigned_50 : decode cX7_isSigned 50 = .ok (.iinc 4 1, 3) := dk_132 4 1 (dk_at dksX7_isSigned_2 2 rfl rfl)
theorem dX7_isSigned_53 : decode cX7_isSigned 53 = .ok (.goto (-41), 3) := dk_167 255 215 (dk_at dksX7_isSigned_2 5 rfl rfl)
theorem dX7_isSigned_56 : decode cX7_isSigned 56 = .ok (.iload_n 3, 1) := dk_29 (dk_at dksX7_isSigned_2 8 rfl rfl)
theorem dX7_isSigned_57 : decode cX7_isSigned 57 = .ok (.ireturn, 1) := dk_172 (dk_at dksX7_isSigned_2 9 rfl rfl)
abbrev cX7_make : ByteArray := prog_32_method_53_code
def yX7_make : MethodName := ⟨RX7, "make", "(II)I"⟩
def dkwX7_make_1 : List UInt8 := [180, 0, 16, 27, 46, 42, 180, 0, 20, 27, 46, 182, 0, 228, 28, 182, 0, 232, 167, 0, 4, 2, 172]
abbrev dktX7_make_1 : List UInt8 := dkwX7_make_1 ++ []
def dkwX7_make_0 : List UInt8 := [42, 27, 182, 0, 223, 153, 0, 39, 28, 133, 9, 20, 0, 226, 184, 0, 133, 153, 0, 27, 42, 42, 42]
abbrev dktX7_make_0 : List UInt8 := dkwX7_make_0 ++ dktX7_make_1
theorem dksX7_make_0 : cX7_make.data.toList.drop 0 = dktX7_make_0 := by decide +kernel
theorem dksX7_make_1 : cX7_make.data.toList.drop 23 = dktX7_make_1 := dk_seg dksX7_make_0 23 rfl rfl
theorem dX7_make_0 : decode cX7_make 0 = .ok (.aload_n 0, 1) := dk_42 (dk_at dksX7_make_0 0 rfl rfl)
theorem dX7_make_1 : decode cX7_make 1 = .ok (.iload_n 1, 1) := dk_27 (dk_at dksX7_make_0 1 rfl rfl)
theorem dX7_make_2 : decode cX7_make 2 = .ok (.invokevirtual 223, 3) := dk_182 0 223 (dk_at dksX7_make_0 2 rfl rfl)
theorem dX7_make_5 : decode cX7_make 5 = .ok (.ifCond .eq 39, 3) := dk_153 0 39 (dk_at dksX7_make_0 5 rfl rfl)
theorem dX7_make_8 : decode cX7_make 8 = .ok (.iload_n 2, 1) := dk_28 (dk_at dksX7_make_0 8 rfl rfl)
theorem dX7_make_9 : decode cX7_make 9 = .ok (.i2l, 1) := dk_133 (dk_at dksX7_make_0 9 rfl rfl)
theorem dX7_make_10 : decode cX7_make 10 = .ok (.lconst 0, 1) := dk_9 (dk_at dksX7_make_0 10 rfl rfl)
theorem dX7_make_11 : decode cX7_make 11 = .ok (.ldc2_w 226, 3) := dk_20 0 226 (dk_at dksX7_make_0 11 rfl rfl)
theorem dX7_make_14 : decode cX7_make 14 = .ok (.invokestatic 133, 3) := dk_184 0 133 (dk_at dksX7_make_0 14 rfl rfl)
theorem dX7_make_17 : decode cX7_make 17 = .ok (.ifCond .eq 27, 3) := dk_153 0 27 (dk_at dksX7_make_0 17 rfl rfl)
theorem dX7_make_20 : decode cX7_make 20 = .ok (.aload_n 0, 1) := dk_42 (dk_at dksX7_make_0 20 rfl rfl)
theorem dX7_make_21 : decode cX7_make 21 = .ok (.aload_n 0, 1) := dk_42 (dk_at dksX7_make_0 21 rfl rfl)
theorem dX7_make_22 : decode cX7_make 22 = .ok (.aload_n 0, 1) := dk_42 (dk_at dksX7_make_0 22 rfl rfl)
theorem dX7_make_23 : decode cX7_make 23 = .ok (.getfield 16, 3) := dk_180 0 16 (dk_at dksX7_make_1 0 rfl rfl)
theorem dX7_make_26 : decode cX7_make 26 = .ok (.iload_n 1, 1) := dk_27 (dk_at dksX7_make_1 3 rfl rfl)
theorem dX7_make_27 : decode cX7_make 27 = .ok (.iaload, 1) := dk_46 (dk_at dksX7_make_1 4 rfl rfl)
theorem dX7_make_28 : decode cX7_make 28 = .ok (.aload_n 0, 1) := dk_42 (dk_at dksX7_make_1 5 rfl rfl)
theorem dX7_make_29 : decode cX7_make 29 = .ok (.getfield 20, 3) := dk_180 0 20 (dk_at dksX7_make_1 6 rfl rfl)
theorem dX7_make_32 : decode cX7_make 32 = .ok (.iload_n 1, 1) := dk_27 (dk_at dksX7_make_1 9 rfl rfl)
theorem dX7_make_33 : decode cX7_make 33 = .ok (.iaload, 1) := dk_46 (dk_at dksX7_make_1 10 rfl rfl)
theorem dX7_make_34 : decode cX7_make 34 = .ok (.invokevirtual 228, 3) := dk_182 0 228 (dk_at dksX7_make_1 11 rfl rfl)
theorem dX7_make_37 : decode cX7_make 37 = .ok (.iload_n 2, 1) := dk_28 (dk_at dksX7_make_1 14 rfl rfl)
theorem dX7_make_38 : decode cX7_make 38 = .ok (.invokevirtual 232, 3) := dk_182 0 232 (dk_at dksX7_make_1 15 rfl rfl)
theorem dX7_make_41 : decode cX7_make 41 = .ok (.goto 4, 3) := dk_167 0 4 (dk_at dksX7_make_1 18 rfl rfl)
theorem dX7_make_44 : decode cX7_make 44 = .ok (.iconst (-1), 1) := dk_2 (dk_at dksX7_make_1 21 rfl rfl)
theorem dX7_make_45 : decode cX7_make 45 = .ok (.ireturn, 1) := dk_172 (dk_at dksX7_make_1 22 rfl rfl)
abbrev cX7_comes : ByteArray := prog_32_method_50_code
def yX7_comes : MethodName := ⟨RX7, "comes", "(JI)I"⟩
def dkwX7_comes_2 : List UInt8 := [184, 0, 127, 172]
abbrev dktX7_comes_2 : List UInt8 := dkwX7_comes_2 ++ []
def dkwX7_comes_1 : List UInt8 := [180, 0, 137, 22, 4, 129, 167, 0, 10, 42, 180, 0, 137, 22, 4, 127, 181, 0, 137, 42, 180, 0, 137]
abbrev dktX7_comes_1 : List UInt8 := dkwX7_comes_1 ++ dktX7_comes_2
def dkwX7_comes_0 : List UInt8 := [42, 31, 182, 0, 215, 55, 4, 42, 29, 154, 0, 8, 22, 4, 167, 0, 25, 29, 4, 160, 0, 13, 42]
abbrev dktX7_comes_0 : List UInt8 := dkwX7_comes_0 ++ dktX7_comes_1
theorem dksX7_comes_0 : cX7_comes.data.toList.drop 0 = dktX7_comes_0 := by decide +kernel
theorem dksX7_comes_1 : cX7_comes.data.toList.drop 23 = dktX7_comes_1 := dk_seg dksX7_comes_0 23 rfl rfl
theorem dksX7_comes_2 : cX7_comes.data.toList.drop 46 = dktX7_comes_2 := dk_seg dksX7_comes_1 23 rfl rfl
theorem dX7_comes_0 : decode cX7_comes 0 = .ok (.aload_n 0, 1) := dk_42 (dk_at dksX7_comes_0 0 rfl rfl)
theorem dX7_comes_1 : decode cX7_comes 1 = .ok (.lload_n 1, 1) := dk_31 (dk_at dksX7_comes_0 1 rfl rfl)
theorem dX7_comes_2 : decode cX7_comes 2 = .ok (.invokevirtual 215, 3) := dk_182 0 215 (dk_at dksX7_comes_0 2 rfl rfl)
theorem dX7_comes_5 : decode cX7_comes 5 = .ok (.lstore 4, 2) := dk_55 4 (dk_at dksX7_comes_0 5 rfl rfl)
theorem dX7_comes_7 : decode cX7_comes 7 = .ok (.aload_n 0, 1) := dk_42 (dk_at dksX7_comes_0 7 rfl rfl)
theorem dX7_comes_8 : decode cX7_comes 8 = .ok (.iload_n 3, 1) := dk_29 (dk_at dksX7_comes_0 8 rfl rfl)
theorem dX7_comes_9 : decode cX7_comes 9 = .ok (.ifCond .ne 8, 3) := dk_154 0 8 (dk_at dksX7_comes_0 9 rfl rfl)
theorem dX7_comes_12 : decode cX7_comes 12 = .ok (.lload 4, 2) := dk_22 4 (dk_at dksX7_comes_0 12 rfl rfl)
theorem dX7_comes_14 : decode cX7_comes 14 = .ok (.goto 25, 3) := dk_167 0 25 (dk_at dksX7_comes_0 14 rfl rfl)
theorem dX7_comes_17 : decode cX7_comes 17 = .ok (.iload_n 3, 1) := dk_29 (dk_at dksX7_comes_0 17 rfl rfl)
theorem dX7_comes_18 : decode cX7_comes 18 = .ok (.iconst 1, 1) := dk_4 (dk_at dksX7_comes_0 18 rfl rfl)
theorem dX7_comes_19 : decode cX7_comes 19 = .ok (.if_icmp .ne 13, 3) := dk_160 0 13 (dk_at dksX7_comes_0 19 rfl rfl)
theorem dX7_comes_22 : decode cX7_comes 22 = .ok (.aload_n 0, 1) := dk_42 (dk_at dksX7_comes_0 22 rfl rfl)
theorem dX7_comes_23 : decode cX7_comes 23 = .ok (.getfield 137, 3) := dk_180 0 137 (dk_at dksX7_comes_1 0 rfl rfl)
theorem dX7_comes_26 : decode cX7_comes 26 = .ok (.lload 4, 2) := dk_22 4 (dk_at dksX7_comes_1 3 rfl rfl)
theorem dX7_comes_28 : decode cX7_comes 28 = .ok (.lor, 1) := dk_129 (dk_at dksX7_comes_1 5 rfl rfl)
theorem dX7_comes_29 : decode cX7_comes 29 = .ok (.goto 10, 3) := dk_167 0 10 (dk_at dksX7_comes_1 6 rfl rfl)
theorem dX7_comes_32 : decode cX7_comes 32 = .ok (.aload_n 0, 1) := dk_42 (dk_at dksX7_comes_1 9 rfl rfl)
theorem dX7_comes_33 : decode cX7_comes 33 = .ok (.getfield 137, 3) := dk_180 0 137 (dk_at dksX7_comes_1 10 rfl rfl)
theorem dX7_comes_36 : decode cX7_comes 36 = .ok (.lload 4, 2) := dk_22 4 (dk_at dksX7_comes_1 13 rfl rfl)
theorem dX7_comes_38 : decode cX7_comes 38 = .ok (.land, 1) := dk_127 (dk_at dksX7_comes_1 15 rfl rfl)
theorem dX7_comes_39 : decode cX7_comes 39 = .ok (.putfield 137, 3) := dk_181 0 137 (dk_at dksX7_comes_1 16 rfl rfl)
theorem dX7_comes_42 : decode cX7_comes 42 = .ok (.aload_n 0, 1) := dk_42 (dk_at dksX7_comes_1 19 rfl rfl)
theorem dX7_comes_43 : decode cX7_comes 43 = .ok (.getfield 137, 3) := dk_180 0 137 (dk_at dksX7_comes_1 20 rfl rfl)
theorem dX7_comes_46 : decode cX7_comes 46 = .ok (.invokestatic 127, 3) := dk_184 0 127 (dk_at dksX7_comes_2 0 rfl rfl)
theorem dX7_comes_49 : decode cX7_comes 49 = .ok (.ireturn, 1) := dk_172 (dk_at dksX7_comes_2 3 rfl rfl)
abbrev cX7_closedBy : ByteArray := prog_32_method_34_code
def yX7_closedBy : MethodName := ⟨RX7, "closedBy", "(J)J"⟩
def dkwX7_closedBy_1 : List UInt8 := [42, 180, 0, 38, 21, 5, 47, 167, 0, 4, 9, 129, 66, 132, 5, 1, 167, 255, 221, 33, 173]
abbrev dktX7_closedBy_1 : List UInt8 := dkwX7_closedBy_1 ++ []
def dkwX7_closedBy_0 : List UInt8 := [9, 66, 3, 54, 5, 21, 5, 42, 180, 0, 178, 162, 0, 32, 33, 31, 21, 5, 184, 0, 108, 153, 0, 13]
abbrev dktX7_closedBy_0 : List UInt8 := dkwX7_closedBy_0 ++ dktX7_closedBy_1
theorem dksX7_closedBy_0 : cX7_closedBy.data.toList.drop 0 = dktX7_closedBy_0 := by decide +kernel
theorem dksX7_closedBy_1 : cX7_closedBy.data.toList.drop 24 = dktX7_closedBy_1 := dk_seg dksX7_closedBy_0 24 rfl rfl
theorem dX7_closedBy_0 : decode cX7_closedBy 0 = .ok (.lconst 0, 1) := dk_9 (dk_at dksX7_closedBy_0 0 rfl rfl)
theorem dX7_closedBy_1 : decode cX7_closedBy 1 = .ok (.lstore_n 3, 1) := dk_66 (dk_at dksX7_closedBy_0 1 rfl rfl)
theorem dX7_closedBy_2 : decode cX7_closedBy 2 = .ok (.iconst 0, 1) := dk_3 (dk_at dksX7_closedBy_0 2 rfl rfl)
theorem dX7_closedBy_3 : decode cX7_closedBy 3 = .ok (.istore 5, 2) := dk_54 5 (dk_at dksX7_closedBy_0 3 rfl rfl)
theorem dX7_closedBy_5 : decode cX7_closedBy 5 = .ok (.iload 5, 2) := dk_21 5 (dk_at dksX7_closedBy_0 5 rfl rfl)
theorem dX7_closedBy_7 : decode cX7_closedBy 7 = .ok (.aload_n 0, 1) := dk_42 (dk_at dksX7_closedBy_0 7 rfl rfl)
theorem dX7_closedBy_8 : decode cX7_closedBy 8 = .ok (.getfield 178, 3) := dk_180 0 178 (dk_at dksX7_closedBy_0 8 rfl rfl)
theorem dX7_closedBy_11 : decode cX7_closedBy 11 = .ok (.if_icmp .ge 32, 3) := dk_162 0 32 (dk_at dksX7_closedBy_0 11 rfl rfl)
theorem dX7_closedBy_14 : decode cX7_closedBy 14 = .ok (.lload_n 3, 1) := dk_33 (dk_at dksX7_closedBy_0 14 rfl rfl)
theorem dX7_closedBy_15 : decode cX7_closedBy 15 = .ok (.lload_n 1, 1) := dk_31 (dk_at dksX7_closedBy_0 15 rfl rfl)
theorem dX7_closedBy_16 : decode cX7_closedBy 16 = .ok (.iload 5, 2) := dk_21 5 (dk_at dksX7_closedBy_0 16 rfl rfl)
theorem dX7_closedBy_18 : decode cX7_closedBy 18 = .ok (.invokestatic 108, 3) := dk_184 0 108 (dk_at dksX7_closedBy_0 18 rfl rfl)
theorem dX7_closedBy_21 : decode cX7_closedBy 21 = .ok (.ifCond .eq 13, 3) := dk_153 0 13 (dk_at dksX7_closedBy_0 21 rfl rfl)
theorem dX7_closedBy_24 : decode cX7_closedBy 24 = .ok (.aload_n 0, 1) := dk_42 (dk_at dksX7_closedBy_1 0 rfl rfl)
theorem dX7_closedBy_25 : decode cX7_closedBy 25 = .ok (.getfield 38, 3) := dk_180 0 38 (dk_at dksX7_closedBy_1 1 rfl rfl)
theorem dX7_closedBy_28 : decode cX7_closedBy 28 = .ok (.iload 5, 2) := dk_21 5 (dk_at dksX7_closedBy_1 4 rfl rfl)
theorem dX7_closedBy_30 : decode cX7_closedBy 30 = .ok (.laload, 1) := dk_47 (dk_at dksX7_closedBy_1 6 rfl rfl)
theorem dX7_closedBy_31 : decode cX7_closedBy 31 = .ok (.goto 4, 3) := dk_167 0 4 (dk_at dksX7_closedBy_1 7 rfl rfl)
theorem dX7_closedBy_34 : decode cX7_closedBy 34 = .ok (.lconst 0, 1) := dk_9 (dk_at dksX7_closedBy_1 10 rfl rfl)
theorem dX7_closedBy_35 : decode cX7_closedBy 35 = .ok (.lor, 1) := dk_129 (dk_at dksX7_closedBy_1 11 rfl rfl)
theorem dX7_closedBy_36 : decode cX7_closedBy 36 = .ok (.lstore_n 3, 1) := dk_66 (dk_at dksX7_closedBy_1 12 rfl rfl)
theorem dX7_closedBy_37 : decode cX7_closedBy 37 = .ok (.iinc 5 1, 3) := dk_132 5 1 (dk_at dksX7_closedBy_1 13 rfl rfl)
theorem dX7_closedBy_40 : decode cX7_closedBy 40 = .ok (.goto (-35), 3) := dk_167 255 221 (dk_at dksX7_closedBy_1 16 rfl rfl)
theorem dX7_closedBy_43 : decode cX7_closedBy 43 = .ok (.lload_n 3, 1) := dk_33 (dk_at dksX7_closedBy_1 19 rfl rfl)
theorem dX7_closedBy_44 : decode cX7_closedBy 44 = .ok (.lreturn, 1) := dk_173 (dk_at dksX7_closedBy_1 20 rfl rfl)
abbrev cX7_feed : ByteArray := prog_32_method_54_code
def yX7_feed : MethodName := ⟨RX7, "feed", "(JI)I"⟩
def dkwX7_feed_3 : List UInt8 := [132, 4, 1, 167, 255, 216, 42, 180, 0, 238, 172]
abbrev dktX7_feed_3 : List UInt8 := dkwX7_feed_3 ++ []
def dkwX7_feed_2 : List UInt8 := [16, 8, 21, 4, 104, 125, 20, 0, 241, 127, 136, 79, 42, 89, 180, 0, 238, 4, 96, 181, 0, 238]
abbrev dktX7_feed_2 : List UInt8 := dkwX7_feed_2 ++ dktX7_feed_3
def dkwX7_feed_1 : List UInt8 := [164, 0, 6, 16, 254, 172, 3, 54, 4, 21, 4, 29, 162, 0, 40, 42, 180, 0, 50, 42, 180, 0, 238, 31]
abbrev dktX7_feed_1 : List UInt8 := dkwX7_feed_1 ++ dktX7_feed_2
def dkwX7_feed_0 : List UInt8 := [29, 133, 10, 20, 0, 236, 184, 0, 133, 154, 0, 5, 2, 172, 42, 180, 0, 238, 29, 96, 17, 0, 200]
abbrev dktX7_feed_0 : List UInt8 := dkwX7_feed_0 ++ dktX7_feed_1
theorem dksX7_feed_0 : cX7_feed.data.toList.drop 0 = dktX7_feed_0 := by decide +kernel
theorem dksX7_feed_1 : cX7_feed.data.toList.drop 23 = dktX7_feed_1 := dk_seg dksX7_feed_0 23 rfl rfl
theorem dksX7_feed_2 : cX7_feed.data.toList.drop 47 = dktX7_feed_2 := dk_seg dksX7_feed_1 24 rfl rfl
theorem dksX7_feed_3 : cX7_feed.data.toList.drop 69 = dktX7_feed_3 := dk_seg dksX7_feed_2 22 rfl rfl
theorem dX7_feed_0 : decode cX7_feed 0 = .ok (.iload_n 3, 1) := dk_29 (dk_at dksX7_feed_0 0 rfl rfl)
theorem dX7_feed_1 : decode cX7_feed 1 = .ok (.i2l, 1) := dk_133 (dk_at dksX7_feed_0 1 rfl rfl)
theorem dX7_feed_2 : decode cX7_feed 2 = .ok (.lconst 1, 1) := dk_10 (dk_at dksX7_feed_0 2 rfl rfl)
theorem dX7_feed_3 : decode cX7_feed 3 = .ok (.ldc2_w 236, 3) := dk_20 0 236 (dk_at dksX7_feed_0 3 rfl rfl)
theorem dX7_feed_6 : decode cX7_feed 6 = .ok (.invokestatic 133, 3) := dk_184 0 133 (dk_at dksX7_feed_0 6 rfl rfl)
theorem dX7_feed_9 : decode cX7_feed 9 = .ok (.ifCond .ne 5, 3) := dk_154 0 5 (dk_at dksX7_feed_0 9 rfl rfl)
theorem dX7_feed_12 : decode cX7_feed 12 = .ok (.iconst (-1), 1) := dk_2 (dk_at dksX7_feed_0 12 rfl rfl)
theorem dX7_feed_13 : decode cX7_feed 13 = .ok (.ireturn, 1) := dk_172 (dk_at dksX7_feed_0 13 rfl rfl)
theorem dX7_feed_14 : decode cX7_feed 14 = .ok (.aload_n 0, 1) := dk_42 (dk_at dksX7_feed_0 14 rfl rfl)
theorem dX7_feed_15 : decode cX7_feed 15 = .ok (.getfield 238, 3) := dk_180 0 238 (dk_at dksX7_feed_0 15 rfl rfl)
theorem dX7_feed_18 : decode cX7_feed 18 = .ok (.iload_n 3, 1) := dk_29 (dk_at dksX7_feed_0 18 rfl rfl)
theorem dX7_feed_19 : decode cX7_feed 19 = .ok (.iadd, 1) := dk_96 (dk_at dksX7_feed_0 19 rfl rfl)
theorem dX7_feed_20 : decode cX7_feed 20 = .ok (.sipush 200, 3) := dk_17 0 200 (dk_at dksX7_feed_0 20 rfl rfl)
theorem dX7_feed_23 : decode cX7_feed 23 = .ok (.if_icmp .le 6, 3) := dk_164 0 6 (dk_at dksX7_feed_1 0 rfl rfl)
theorem dX7_feed_26 : decode cX7_feed 26 = .ok (.bipush (-2), 2) := dk_16 254 (dk_at dksX7_feed_1 3 rfl rfl)
theorem dX7_feed_28 : decode cX7_feed 28 = .ok (.ireturn, 1) := dk_172 (dk_at dksX7_feed_1 5 rfl rfl)
theorem dX7_feed_29 : decode cX7_feed 29 = .ok (.iconst 0, 1) := dk_3 (dk_at dksX7_feed_1 6 rfl rfl)
theorem dX7_feed_30 : decode cX7_feed 30 = .ok (.istore 4, 2) := dk_54 4 (dk_at dksX7_feed_1 7 rfl rfl)
theorem dX7_feed_32 : decode cX7_feed 32 = .ok (.iload 4, 2) := dk_21 4 (dk_at dksX7_feed_1 9 rfl rfl)
theorem dX7_feed_34 : decode cX7_feed 34 = .ok (.iload_n 3, 1) := dk_29 (dk_at dksX7_feed_1 11 rfl rfl)
theorem dX7_feed_35 : decode cX7_feed 35 = .ok (.if_icmp .ge 40, 3) := dk_162 0 40 (dk_at dksX7_feed_1 12 rfl rfl)
theorem dX7_feed_38 : decode cX7_feed 38 = .ok (.aload_n 0, 1) := dk_42 (dk_at dksX7_feed_1 15 rfl rfl)
theorem dX7_feed_39 : decode cX7_feed 39 = .ok (.getfield 50, 3) := dk_180 0 50 (dk_at dksX7_feed_1 16 rfl rfl)
theorem dX7_feed_42 : decode cX7_feed 42 = .ok (.aload_n 0, 1) := dk_42 (dk_at dksX7_feed_1 19 rfl rfl)
theorem dX7_feed_43 : decode cX7_feed 43 = .ok (.getfield 238, 3) := dk_180 0 238 (dk_at dksX7_feed_1 20 rfl rfl)
theorem dX7_feed_46 : decode cX7_feed 46 = .ok (.lload_n 1, 1) := dk_31 (dk_at dksX7_feed_1 23 rfl rfl)
theorem dX7_feed_47 : decode cX7_feed 47 = .ok (.bipush 8, 2) := dk_16 8 (dk_at dksX7_feed_2 0 rfl rfl)
theorem dX7_feed_49 : decode cX7_feed 49 = .ok (.iload 4, 2) := dk_21 4 (dk_at dksX7_feed_2 2 rfl rfl)
theorem dX7_feed_51 : decode cX7_feed 51 = .ok (.imul, 1) := dk_104 (dk_at dksX7_feed_2 4 rfl rfl)
theorem dX7_feed_52 : decode cX7_feed 52 = .ok (.lushr, 1) := dk_125 (dk_at dksX7_feed_2 5 rfl rfl)
theorem dX7_feed_53 : decode cX7_feed 53 = .ok (.ldc2_w 241, 3) := dk_20 0 241 (dk_at dksX7_feed_2 6 rfl rfl)
theorem dX7_feed_56 : decode cX7_feed 56 = .ok (.land, 1) := dk_127 (dk_at dksX7_feed_2 9 rfl rfl)
theorem dX7_feed_57 : decode cX7_feed 57 = .ok (.l2i, 1) := dk_136 (dk_at dksX7_feed_2 10 rfl rfl)
theorem dX7_feed_58 : decode cX7_feed 58 = .ok (.iastore, 1) := dk_79 (dk_at dksX7_feed_2 11 rfl rfl)
theorem dX7_feed_59 : decode cX7_feed 59 = .ok (.aload_n 0, 1) := dk_42 (dk_at dksX7_feed_2 12 rfl rfl)
theorem dX7_feed_60 : decode cX7_feed 60 = .ok (.dup, 1) := dk_89 (dk_at dksX7_feed_2 13 rfl rfl)
theorem dX7_feed_61 : decode cX7_feed 61 = .ok (.getfield 238, 3) := dk_180 0 238 (dk_at dksX7_feed_2 14 rfl rfl)
theorem dX7_feed_64 : decode cX7_feed 64 = .ok (.iconst 1, 1) := dk_4 (dk_at dksX7_feed_2 17 rfl rfl)
theorem dX7_feed_65 : decode cX7_feed 65 = .ok (.iadd, 1) := dk_96 (dk_at dksX7_feed_2 18 rfl rfl)
theorem dX7_feed_66 : decode cX7_feed 66 = .ok (.putfield 238, 3) := dk_181 0 238 (dk_at dksX7_feed_2 19 rfl rfl)
theorem dX7_feed_69 : decode cX7_feed 69 = .ok (.iinc 4 1, 3) := dk_132 4 1 (dk_at dksX7_feed_3 0 rfl rfl)
theorem dX7_feed_72 : decode cX7_feed 72 = .ok (.goto (-40), 3) := dk_167 255 216 (dk_at dksX7_feed_3 3 rfl rfl)
theorem dX7_feed_75 : decode cX7_feed 75 = .ok (.aload_n 0, 1) := dk_42 (dk_at dksX7_feed_3 6 rfl rfl)
theorem dX7_feed_76 : decode cX7_feed 76 = .ok (.getfield 238, 3) := dk_180 0 238 (dk_at dksX7_feed_3 7 rfl rfl)
theorem dX7_feed_79 : decode cX7_feed 79 = .ok (.ireturn, 1) := dk_172 (dk_at dksX7_feed_3 10 rfl rfl)
abbrev cX7_text : ByteArray := prog_32_method_69_code
def yX7_text : MethodName := ⟨RX7, "text", "(I)I"⟩
def dkwX7_text_5 : List UInt8 := [167, 0, 4, 9, 129, 65, 132, 4, 1, 167, 255, 224, 42, 32, 27, 182, 0, 232, 172]
abbrev dktX7_text_5 : List UInt8 := dkwX7_text_5 ++ []
def dkwX7_text_4 : List UInt8 := [21, 4, 42, 180, 0, 178, 162, 0, 29, 32, 42, 21, 4, 182, 1, 77, 153, 0, 10, 10, 21, 4, 121]
abbrev dktX7_text_4 : List UInt8 := dkwX7_text_4 ++ dktX7_text_5
def dkwX7_text_3 : List UInt8 := [181, 0, 238, 42, 180, 1, 33, 153, 0, 11, 16, 156, 42, 180, 0, 246, 100, 172, 9, 65, 3, 54, 4]
abbrev dktX7_text_3 : List UInt8 := dkwX7_text_3 ++ dktX7_text_4
def dkwX7_text_2 : List UInt8 := [154, 0, 14, 42, 180, 0, 246, 42, 180, 0, 238, 162, 0, 7, 4, 167, 0, 4, 3, 181, 1, 33, 42, 3]
abbrev dktX7_text_2 : List UInt8 := dkwX7_text_2 ++ dktX7_text_3
def dkwX7_text_1 : List UInt8 := [42, 3, 181, 1, 50, 42, 3, 181, 1, 33, 42, 182, 1, 11, 42, 182, 1, 53, 42, 42, 180, 1, 33]
abbrev dktX7_text_1 : List UInt8 := dkwX7_text_1 ++ dktX7_text_2
def dkwX7_text_0 : List UInt8 := [27, 133, 9, 20, 0, 226, 184, 0, 133, 154, 0, 5, 2, 172, 42, 3, 181, 0, 243, 42, 3, 181, 1, 8]
abbrev dktX7_text_0 : List UInt8 := dkwX7_text_0 ++ dktX7_text_1
theorem dksX7_text_0 : cX7_text.data.toList.drop 0 = dktX7_text_0 := by decide +kernel
theorem dksX7_text_1 : cX7_text.data.toList.drop 24 = dktX7_text_1 := dk_seg dksX7_text_0 24 rfl rfl
theorem dksX7_text_2 : cX7_text.data.toList.drop 47 = dktX7_text_2 := dk_seg dksX7_text_1 23 rfl rfl
theorem dksX7_text_3 : cX7_text.data.toList.drop 71 = dktX7_text_3 := dk_seg dksX7_text_2 24 rfl rfl
theorem dksX7_text_4 : cX7_text.data.toList.drop 94 = dktX7_text_4 := dk_seg dksX7_text_3 23 rfl rfl
theorem dksX7_text_5 : cX7_text.data.toList.drop 117 = dktX7_text_5 := dk_seg dksX7_text_4 23 rfl rfl
theorem dX7_text_0 : decode cX7_text 0 = .ok (.iload_n 1, 1) := dk_27 (dk_at dksX7_text_0 0 rfl rfl)
theorem dX7_text_1 : decode cX7_text 1 = .ok (.i2l, 1) := dk_133 (dk_at dksX7_text_0 1 rfl rfl)
theorem dX7_text_2 : decode cX7_text 2 = .ok (.lconst 0, 1) := dk_9 (dk_at dksX7_text_0 2 rfl rfl)
theorem dX7_text_3 : decode cX7_text 3 = .ok (.ldc2_w 226, 3) := dk_20 0 226 (dk_at dksX7_text_0 3 rfl rfl)
theorem dX7_text_6 : decode cX7_text 6 = .ok (.invokestatic 133, 3) := dk_184 0 133 (dk_at dksX7_text_0 6 rfl rfl)
theorem dX7_text_9 : decode cX7_text 9 = .ok (.ifCond .ne 5, 3) := dk_154 0 5 (dk_at dksX7_text_0 9 rfl rfl)
theorem dX7_text_12 : decode cX7_text 12 = .ok (.iconst (-1), 1) := dk_2 (dk_at dksX7_text_0 12 rfl rfl)
theorem dX7_text_13 : decode cX7_text 13 = .ok (.ireturn, 1) := dk_172 (dk_at dksX7_text_0 13 rfl rfl)
theorem dX7_text_14 : decode cX7_text 14 = .ok (.aload_n 0, 1) := dk_42 (dk_at dksX7_text_0 14 rfl rfl)
theorem dX7_text_15 : decode cX7_text 15 = .ok (.iconst 0, 1) := dk_3 (dk_at dksX7_text_0 15 rfl rfl)
theorem dX7_text_16 : decode cX7_text 16 = .ok (.putfield 243, 3) := dk_181 0 243 (dk_at dksX7_text_0 16 rfl rfl)
theorem dX7_text_19 : decode cX7_text 19 = .ok (.aload_n 0, 1) := dk_42 (dk_at dksX7_text_0 19 rfl rfl)
theorem dX7_text_20 : decode cX7_text 20 = .ok (.iconst 0, 1) := dk_3 (dk_at dksX7_text_0 20 rfl rfl)
theorem dX7_text_21 : decode cX7_text 21 = .ok (.putfield 264, 3) := dk_181 1 8 (dk_at dksX7_text_0 21 rfl rfl)
theorem dX7_text_24 : decode cX7_text 24 = .ok (.aload_n 0, 1) := dk_42 (dk_at dksX7_text_1 0 rfl rfl)
theorem dX7_text_25 : decode cX7_text 25 = .ok (.iconst 0, 1) := dk_3 (dk_at dksX7_text_1 1 rfl rfl)
theorem dX7_text_26 : decode cX7_text 26 = .ok (.putfield 306, 3) := dk_181 1 50 (dk_at dksX7_text_1 2 rfl rfl)
theorem dX7_text_29 : decode cX7_text 29 = .ok (.aload_n 0, 1) := dk_42 (dk_at dksX7_text_1 5 rfl rfl)
theorem dX7_text_30 : decode cX7_text 30 = .ok (.iconst 0, 1) := dk_3 (dk_at dksX7_text_1 6 rfl rfl)
theorem dX7_text_31 : decode cX7_text 31 = .ok (.putfield 289, 3) := dk_181 1 33 (dk_at dksX7_text_1 7 rfl rfl)
theorem dX7_text_34 : decode cX7_text 34 = .ok (.aload_n 0, 1) := dk_42 (dk_at dksX7_text_1 10 rfl rfl)
theorem dX7_text_35 : decode cX7_text 35 = .ok (.invokevirtual 267, 3) := dk_182 1 11 (dk_at dksX7_text_1 11 rfl rfl)
theorem dX7_text_38 : decode cX7_text 38 = .ok (.aload_n 0, 1) := dk_42 (dk_at dksX7_text_1 14 rfl rfl)
theorem dX7_text_39 : decode cX7_text 39 = .ok (.invokevirtual 309, 3) := dk_182 1 53 (dk_at dksX7_text_1 15 rfl rfl)
theorem dX7_text_42 : decode cX7_text 42 = .ok (.aload_n 0, 1) := dk_42 (dk_at dksX7_text_1 18 rfl rfl)
theorem dX7_text_43 : decode cX7_text 43 = .ok (.aload_n 0, 1) := dk_42 (dk_at dksX7_text_1 19 rfl rfl)
theorem dX7_text_44 : decode cX7_text 44 = .ok (.getfield 289, 3) := dk_180 1 33 (dk_at dksX7_text_1 20 rfl rfl)
theorem dX7_text_47 : decode cX7_text 47 = .ok (.ifCond .ne 14, 3) := dk_154 0 14 (dk_at dksX7_text_2 0 rfl rfl)
theorem dX7_text_50 : decode cX7_text 50 = .ok (.aload_n 0, 1) := dk_42 (dk_at dksX7_text_2 3 rfl rfl)
theorem dX7_text_51 : decode cX7_text 51 = .ok (.getfield 246, 3) := dk_180 0 246 (dk_at dksX7_text_2 4 rfl rfl)
theorem dX7_text_54 : decode cX7_text 54 = .ok (.aload_n 0, 1) := dk_42 (dk_at dksX7_text_2 7 rfl rfl)
theorem dX7_text_55 : decode cX7_text 55 = .ok (.getfield 238, 3) := dk_180 0 238 (dk_at dksX7_text_2 8 rfl rfl)
theorem dX7_text_58 : decode cX7_text 58 = .ok (.if_icmp .ge 7, 3) := dk_162 0 7 (dk_at dksX7_text_2 11 rfl rfl)
theorem dX7_text_61 : decode cX7_text 61 = .ok (.iconst 1, 1) := dk_4 (dk_at dksX7_text_2 14 rfl rfl)
theorem dX7_text_62 : decode cX7_text 62 = .ok (.goto 4, 3) := dk_167 0 4 (dk_at dksX7_text_2 15 rfl rfl)
theorem dX7_text_65 : decode cX7_text 65 = .ok (.iconst 0, 1) := dk_3 (dk_at dksX7_text_2 18 rfl rfl)
theorem dX7_text_66 : decode cX7_text 66 = .ok (.putfield 289, 3) := dk_181 1 33 (dk_at dksX7_text_2 19 rfl rfl)
theorem dX7_text_69 : decode cX7_text 69 = .ok (.aload_n 0, 1) := dk_42 (dk_at dksX7_text_2 22 rfl rfl)
theorem dX7_text_70 : decode cX7_text 70 = .ok (.iconst 0, 1) := dk_3 (dk_at dksX7_text_2 23 rfl rfl)
theorem dX7_text_71 : decode cX7_text 71 = .ok (.putfield 238, 3) := dk_181 0 238 (dk_at dksX7_text_3 0 rfl rfl)
theorem dX7_text_74 : decode cX7_text 74 = .ok (.aload_n 0, 1) := dk_42 (dk_at dksX7_text_3 3 rfl rfl)
theorem dX7_text_75 : decode cX7_text 75 = .ok (.getfield 289, 3) := dk_180 1 33 (dk_at dksX7_text_3 4 rfl rfl)
theorem dX7_text_78 : decode cX7_text 78 = .ok (.ifCond .eq 11, 3) := dk_153 0 11 (dk_at dksX7_text_3 7 rfl rfl)
theorem dX7_text_81 : decode cX7_text 81 = .ok (.bipush (-100), 2) := dk_16 156 (dk_at dksX7_text_3 10 rfl rfl)
theorem dX7_text_83 : decode cX7_text 83 = .ok (.aload_n 0, 1) := dk_42 (dk_at dksX7_text_3 12 rfl rfl)
theorem dX7_text_84 : decode cX7_text 84 = .ok (.getfield 246, 3) := dk_180 0 246 (dk_at dksX7_text_3 13 rfl rfl)
theorem dX7_text_87 : decode cX7_text 87 = .ok (.isub, 1) := dk_100 (dk_at dksX7_text_3 16 rfl rfl)
theorem dX7_text_88 : decode cX7_text 88 = .ok (.ireturn, 1) := dk_172 (dk_at dksX7_text_3 17 rfl rfl)
theorem dX7_text_89 : decode cX7_text 89 = .ok (.lconst 0, 1) := dk_9 (dk_at dksX7_text_3 18 rfl rfl)
theorem dX7_text_90 : decode cX7_text 90 = .ok (.lstore_n 2, 1) := dk_65 (dk_at dksX7_text_3 19 rfl rfl)
theorem dX7_text_91 : decode cX7_text 91 = .ok (.iconst 0, 1) := dk_3 (dk_at dksX7_text_3 20 rfl rfl)
theorem dX7_text_92 : decode cX7_text 92 = .ok (.istore 4, 2) := dk_54 4 (dk_at dksX7_text_3 21 rfl rfl)
theorem dX7_text_94 : decode cX7_text 94 = .ok (.iload 4, 2) := dk_21 4 (dk_at dksX7_text_4 0 rfl rfl)
theorem dX7_text_96 : decode cX7_text 96 = .ok (.aload_n 0, 1) := dk_42 (dk_at dksX7_text_4 2 rfl rfl)
theorem dX7_text_97 : decode cX7_text 97 = .ok (.getfield 178, 3) := dk_180 0 178 (dk_at dksX7_text_4 3 rfl rfl)
theorem dX7_text_100 : decode cX7_text 100 = .ok (.if_icmp .ge 29, 3) := dk_162 0 29 (dk_at dksX7_text_4 6 rfl rfl)
theorem dX7_text_103 : decode cX7_text 103 = .ok (.lload_n 2, 1) := dk_32 (dk_at dksX7_text_4 9 rfl rfl)
theorem dX7_text_104 : decode cX7_text 104 = .ok (.aload_n 0, 1) := dk_42 (dk_at dksX7_text_4 10 rfl rfl)
theorem dX7_text_105 : decode cX7_text 105 = .ok (.iload 4, 2) := dk_21 4 (dk_at dksX7_text_4 11 rfl rfl)
theorem dX7_text_107 : decode cX7_text 107 = .ok (.invokevirtual 333, 3) := dk_182 1 77 (dk_at dksX7_text_4 13 rfl rfl)
theorem dX7_text_110 : decode cX7_text 110 = .ok (.ifCond .eq 10, 3) := dk_153 0 10 (dk_at dksX7_text_4 16 rfl rfl)
theorem dX7_text_113 : decode cX7_text 113 = .ok (.lconst 1, 1) := dk_10 (dk_at dksX7_text_4 19 rfl rfl)
theorem dX7_text_114 : decode cX7_text 114 = .ok (.iload 4, 2) := dk_21 4 (dk_at dksX7_text_4 20 rfl rfl)
theorem dX7_text_116 : decode cX7_text 116 = .ok (.lshl, 1) := dk_121 (dk_at dksX7_text_4 22 rfl rfl)
theorem dX7_text_117 : decode cX7_text 117 = .ok (.goto 4, 3) := dk_167 0 4 (dk_at dksX7_text_5 0 rfl rfl)
theorem dX7_text_120 : decode cX7_text 120 = .ok (.lconst 0, 1) := dk_9 (dk_at dksX7_text_5 3 rfl rfl)
theorem dX7_text_121 : decode cX7_text 121 = .ok (.lor, 1) := dk_129 (dk_at dksX7_text_5 4 rfl rfl)
theorem dX7_text_122 : decode cX7_text 122 = .ok (.lstore_n 2, 1) := dk_65 (dk_at dksX7_text_5 5 rfl rfl)
theorem dX7_text_123 : decode cX7_text 123 = .ok (.iinc 4 1, 3) := dk_132 4 1 (dk_at dksX7_text_5 6 rfl rfl)
theorem dX7_text_126 : decode cX7_text 126 = .ok (.goto (-32), 3) := dk_167 255 224 (dk_at dksX7_text_5 9 rfl rfl)
theorem dX7_text_129 : decode cX7_text 129 = .ok (.aload_n 0, 1) := dk_42 (dk_at dksX7_text_5 12 rfl rfl)
theorem dX7_text_130 : decode cX7_text 130 = .ok (.lload_n 2, 1) := dk_32 (dk_at dksX7_text_5 13 rfl rfl)
theorem dX7_text_131 : decode cX7_text 131 = .ok (.iload_n 1, 1) := dk_27 (dk_at dksX7_text_5 14 rfl rfl)
theorem dX7_text_132 : decode cX7_text 132 = .ok (.invokevirtual 232, 3) := dk_182 0 232 (dk_at dksX7_text_5 15 rfl rfl)
theorem dX7_text_135 : decode cX7_text 135 = .ok (.ireturn, 1) := dk_172 (dk_at dksX7_text_5 18 rfl rfl)
abbrev cX7_next : ByteArray := prog_32_method_57_code
def yX7_next : MethodName := ⟨RX7, "next", "()V"⟩
def dkwX7_next_6 : List UInt8 := [180, 0, 243, 46, 184, 0, 252, 153, 0, 16, 42, 89, 180, 0, 243, 4, 96, 181, 0, 243, 167, 255, 197, 177]
abbrev dktX7_next_6 : List UInt8 := dkwX7_next_6 ++ []
def dkwX7_next_5 : List UInt8 := [180, 0, 50, 42, 180, 0, 243, 46, 184, 0, 249, 154, 0, 22, 28, 153, 0, 31, 42, 180, 0, 50, 42]
abbrev dktX7_next_5 : List UInt8 := dkwX7_next_5 ++ dktX7_next_6
def dkwX7_next_4 : List UInt8 := [180, 0, 246, 46, 184, 0, 252, 61, 42, 180, 0, 243, 42, 180, 0, 238, 162, 0, 54, 27, 153, 0, 18, 42]
abbrev dktX7_next_4 : List UInt8 := dkwX7_next_4 ++ dktX7_next_5
def dkwX7_next_3 : List UInt8 := [96, 181, 0, 243, 42, 180, 0, 50, 42, 180, 0, 246, 46, 184, 0, 249, 60, 42, 180, 0, 50, 42]
abbrev dktX7_next_3 : List UInt8 := dkwX7_next_3 ++ dktX7_next_4
def dkwX7_next_2 : List UInt8 := [180, 0, 246, 181, 0, 243, 42, 180, 0, 246, 42, 180, 0, 238, 160, 0, 4, 177, 42, 89, 180, 0, 243, 4]
abbrev dktX7_next_2 : List UInt8 := dkwX7_next_2 ++ dktX7_next_3
def dkwX7_next_1 : List UInt8 := [180, 0, 246, 46, 16, 32, 160, 0, 16, 42, 89, 180, 0, 246, 4, 96, 181, 0, 246, 167, 255, 221, 42, 42]
abbrev dktX7_next_1 : List UInt8 := dkwX7_next_1 ++ dktX7_next_2
def dkwX7_next_0 : List UInt8 := [42, 42, 180, 0, 243, 181, 0, 246, 42, 180, 0, 246, 42, 180, 0, 238, 162, 0, 30, 42, 180, 0, 50, 42]
abbrev dktX7_next_0 : List UInt8 := dkwX7_next_0 ++ dktX7_next_1
theorem dksX7_next_0 : cX7_next.data.toList.drop 0 = dktX7_next_0 := by decide +kernel
theorem dksX7_next_1 : cX7_next.data.toList.drop 24 = dktX7_next_1 := dk_seg dksX7_next_0 24 rfl rfl
theorem dksX7_next_2 : cX7_next.data.toList.drop 48 = dktX7_next_2 := dk_seg dksX7_next_1 24 rfl rfl
theorem dksX7_next_3 : cX7_next.data.toList.drop 72 = dktX7_next_3 := dk_seg dksX7_next_2 24 rfl rfl
theorem dksX7_next_4 : cX7_next.data.toList.drop 94 = dktX7_next_4 := dk_seg dksX7_next_3 22 rfl rfl
theorem dksX7_next_5 : cX7_next.data.toList.drop 118 = dktX7_next_5 := dk_seg dksX7_next_4 24 rfl rfl
theorem dksX7_next_6 : cX7_next.data.toList.drop 141 = dktX7_next_6 := dk_seg dksX7_next_5 23 rfl rfl
theorem dX7_next_0 : decode cX7_next 0 = .ok (.aload_n 0, 1) := dk_42 (dk_at dksX7_next_0 0 rfl rfl)
theorem dX7_next_1 : decode cX7_next 1 = .ok (.aload_n 0, 1) := dk_42 (dk_at dksX7_next_0 1 rfl rfl)
theorem dX7_next_2 : decode cX7_next 2 = .ok (.getfield 243, 3) := dk_180 0 243 (dk_at dksX7_next_0 2 rfl rfl)
theorem dX7_next_5 : decode cX7_next 5 = .ok (.putfield 246, 3) := dk_181 0 246 (dk_at dksX7_next_0 5 rfl rfl)
theorem dX7_next_8 : decode cX7_next 8 = .ok (.aload_n 0, 1) := dk_42 (dk_at dksX7_next_0 8 rfl rfl)
theorem dX7_next_9 : decode cX7_next 9 = .ok (.getfield 246, 3) := dk_180 0 246 (dk_at dksX7_next_0 9 rfl rfl)
theorem dX7_next_12 : decode cX7_next 12 = .ok (.aload_n 0, 1) := dk_42 (dk_at dksX7_next_0 12 rfl rfl)
theorem dX7_next_13 : decode cX7_next 13 = .ok (.getfield 238, 3) := dk_180 0 238 (dk_at dksX7_next_0 13 rfl rfl)
theorem dX7_next_16 : decode cX7_next 16 = .ok (.if_icmp .ge 30, 3) := dk_162 0 30 (dk_at dksX7_next_0 16 rfl rfl)
theorem dX7_next_19 : decode cX7_next 19 = .ok (.aload_n 0, 1) := dk_42 (dk_at dksX7_next_0 19 rfl rfl)
theorem dX7_next_20 : decode cX7_next 20 = .ok (.getfield 50, 3) := dk_180 0 50 (dk_at dksX7_next_0 20 rfl rfl)
theorem dX7_next_23 : decode cX7_next 23 = .ok (.aload_n 0, 1) := dk_42 (dk_at dksX7_next_0 23 rfl rfl)
theorem dX7_next_24 : decode cX7_next 24 = .ok (.getfield 246, 3) := dk_180 0 246 (dk_at dksX7_next_1 0 rfl rfl)
theorem dX7_next_27 : decode cX7_next 27 = .ok (.iaload, 1) := dk_46 (dk_at dksX7_next_1 3 rfl rfl)
theorem dX7_next_28 : decode cX7_next 28 = .ok (.bipush 32, 2) := dk_16 32 (dk_at dksX7_next_1 4 rfl rfl)
theorem dX7_next_30 : decode cX7_next 30 = .ok (.if_icmp .ne 16, 3) := dk_160 0 16 (dk_at dksX7_next_1 6 rfl rfl)
theorem dX7_next_33 : decode cX7_next 33 = .ok (.aload_n 0, 1) := dk_42 (dk_at dksX7_next_1 9 rfl rfl)
theorem dX7_next_34 : decode cX7_next 34 = .ok (.dup, 1) := dk_89 (dk_at dksX7_next_1 10 rfl rfl)
theorem dX7_next_35 : decode cX7_next 35 = .ok (.getfield 246, 3) := dk_180 0 246 (dk_at dksX7_next_1 11 rfl rfl)
theorem dX7_next_38 : decode cX7_next 38 = .ok (.iconst 1, 1) := dk_4 (dk_at dksX7_next_1 14 rfl rfl)
theorem dX7_next_39 : decode cX7_next 39 = .ok (.iadd, 1) := dk_96 (dk_at dksX7_next_1 15 rfl rfl)
theorem dX7_next_40 : decode cX7_next 40 = .ok (.putfield 246, 3) := dk_181 0 246 (dk_at dksX7_next_1 16 rfl rfl)
theorem dX7_next_43 : decode cX7_next 43 = .ok (.goto (-35), 3) := dk_167 255 221 (dk_at dksX7_next_1 19 rfl rfl)
theorem dX7_next_46 : decode cX7_next 46 = .ok (.aload_n 0, 1) := dk_42 (dk_at dksX7_next_1 22 rfl rfl)
theorem dX7_next_47 : decode cX7_next 47 = .ok (.aload_n 0, 1) := dk_42 (dk_at dksX7_next_1 23 rfl rfl)
theorem dX7_next_48 : decode cX7_next 48 = .ok (.getfield 246, 3) := dk_180 0 246 (dk_at dksX7_next_2 0 rfl rfl)
theorem dX7_next_51 : decode cX7_next 51 = .ok (.putfield 243, 3) := dk_181 0 243 (dk_at dksX7_next_2 3 rfl rfl)
theorem dX7_next_54 : decode cX7_next 54 = .ok (.aload_n 0, 1) := dk_42 (dk_at dksX7_next_2 6 rfl rfl)
theorem dX7_next_55 : decode cX7_next 55 = .ok (.getfield 246, 3) := dk_180 0 246 (dk_at dksX7_next_2 7 rfl rfl)
theorem dX7_next_58 : decode cX7_next 58 = .ok (.aload_n 0, 1) := dk_42 (dk_at dksX7_next_2 10 rfl rfl)
theorem dX7_next_59 : decode cX7_next 59 = .ok (.getfield 238, 3) := dk_180 0 238 (dk_at dksX7_next_2 11 rfl rfl)
theorem dX7_next_62 : decode cX7_next 62 = .ok (.if_icmp .ne 4, 3) := dk_160 0 4 (dk_at dksX7_next_2 14 rfl rfl)
theorem dX7_next_65 : decode cX7_next 65 = .ok (.return_, 1) := dk_177 (dk_at dksX7_next_2 17 rfl rfl)
theorem dX7_next_66 : decode cX7_next 66 = .ok (.aload_n 0, 1) := dk_42 (dk_at dksX7_next_2 18 rfl rfl)
theorem dX7_next_67 : decode cX7_next 67 = .ok (.dup, 1) := dk_89 (dk_at dksX7_next_2 19 rfl rfl)
theorem dX7_next_68 : decode cX7_next 68 = .ok (.getfield 243, 3) := dk_180 0 243 (dk_at dksX7_next_2 20 rfl rfl)
theorem dX7_next_71 : decode cX7_next 71 = .ok (.iconst 1, 1) := dk_4 (dk_at dksX7_next_2 23 rfl rfl)
theorem dX7_next_72 : decode cX7_next 72 = .ok (.iadd, 1) := dk_96 (dk_at dksX7_next_3 0 rfl rfl)
theorem dX7_next_73 : decode cX7_next 73 = .ok (.putfield 243, 3) := dk_181 0 243 (dk_at dksX7_next_3 1 rfl rfl)
theorem dX7_next_76 : decode cX7_next 76 = .ok (.aload_n 0, 1) := dk_42 (dk_at dksX7_next_3 4 rfl rfl)
theorem dX7_next_77 : decode cX7_next 77 = .ok (.getfield 50, 3) := dk_180 0 50 (dk_at dksX7_next_3 5 rfl rfl)
theorem dX7_next_80 : decode cX7_next 80 = .ok (.aload_n 0, 1) := dk_42 (dk_at dksX7_next_3 8 rfl rfl)
theorem dX7_next_81 : decode cX7_next 81 = .ok (.getfield 246, 3) := dk_180 0 246 (dk_at dksX7_next_3 9 rfl rfl)
theorem dX7_next_84 : decode cX7_next 84 = .ok (.iaload, 1) := dk_46 (dk_at dksX7_next_3 12 rfl rfl)
theorem dX7_next_85 : decode cX7_next 85 = .ok (.invokestatic 249, 3) := dk_184 0 249 (dk_at dksX7_next_3 13 rfl rfl)
theorem dX7_next_88 : decode cX7_next 88 = .ok (.istore_n 1, 1) := dk_60 (dk_at dksX7_next_3 16 rfl rfl)
theorem dX7_next_89 : decode cX7_next 89 = .ok (.aload_n 0, 1) := dk_42 (dk_at dksX7_next_3 17 rfl rfl)
theorem dX7_next_90 : decode cX7_next 90 = .ok (.getfield 50, 3) := dk_180 0 50 (dk_at dksX7_next_3 18 rfl rfl)
theorem dX7_next_93 : decode cX7_next 93 = .ok (.aload_n 0, 1) := dk_42 (dk_at dksX7_next_3 21 rfl rfl)
theorem dX7_next_94 : decode cX7_next 94 = .ok (.getfield 246, 3) := dk_180 0 246 (dk_at dksX7_next_4 0 rfl rfl)
theorem dX7_next_97 : decode cX7_next 97 = .ok (.iaload, 1) := dk_46 (dk_at dksX7_next_4 3 rfl rfl)
theorem dX7_next_98 : decode cX7_next 98 = .ok (.invokestatic 252, 3) := dk_184 0 252 (dk_at dksX7_next_4 4 rfl rfl)
theorem dX7_next_101 : decode cX7_next 101 = .ok (.istore_n 2, 1) := dk_61 (dk_at dksX7_next_4 7 rfl rfl)
theorem dX7_next_102 : decode cX7_next 102 = .ok (.aload_n 0, 1) := dk_42 (dk_at dksX7_next_4 8 rfl rfl)
theorem dX7_next_103 : decode cX7_next 103 = .ok (.getfield 243, 3) := dk_180 0 243 (dk_at dksX7_next_4 9 rfl rfl)
theorem dX7_next_106 : decode cX7_next 106 = .ok (.aload_n 0, 1) := dk_42 (dk_at dksX7_next_4 12 rfl rfl)
theorem dX7_next_107 : decode cX7_next 107 = .ok (.getfield 238, 3) := dk_180 0 238 (dk_at dksX7_next_4 13 rfl rfl)
theorem dX7_next_110 : decode cX7_next 110 = .ok (.if_icmp .ge 54, 3) := dk_162 0 54 (dk_at dksX7_next_4 16 rfl rfl)
theorem dX7_next_113 : decode cX7_next 113 = .ok (.iload_n 1, 1) := dk_27 (dk_at dksX7_next_4 19 rfl rfl)
theorem dX7_next_114 : decode cX7_next 114 = .ok (.ifCond .eq 18, 3) := dk_153 0 18 (dk_at dksX7_next_4 20 rfl rfl)
theorem dX7_next_117 : decode cX7_next 117 = .ok (.aload_n 0, 1) := dk_42 (dk_at dksX7_next_4 23 rfl rfl)
theorem dX7_next_118 : decode cX7_next 118 = .ok (.getfield 50, 3) := dk_180 0 50 (dk_at dksX7_next_5 0 rfl rfl)
theorem dX7_next_121 : decode cX7_next 121 = .ok (.aload_n 0, 1) := dk_42 (dk_at dksX7_next_5 3 rfl rfl)
theorem dX7_next_122 : decode cX7_next 122 = .ok (.getfield 243, 3) := dk_180 0 243 (dk_at dksX7_next_5 4 rfl rfl)
theorem dX7_next_125 : decode cX7_next 125 = .ok (.iaload, 1) := dk_46 (dk_at dksX7_next_5 7 rfl rfl)
theorem dX7_next_126 : decode cX7_next 126 = .ok (.invokestatic 249, 3) := dk_184 0 249 (dk_at dksX7_next_5 8 rfl rfl)
theorem dX7_next_129 : decode cX7_next 129 = .ok (.ifCond .ne 22, 3) := dk_154 0 22 (dk_at dksX7_next_5 11 rfl rfl)
theorem dX7_next_132 : decode cX7_next 132 = .ok (.iload_n 2, 1) := dk_28 (dk_at dksX7_next_5 14 rfl rfl)
theorem dX7_next_133 : decode cX7_next 133 = .ok (.ifCond .eq 31, 3) := dk_153 0 31 (dk_at dksX7_next_5 15 rfl rfl)
theorem dX7_next_136 : decode cX7_next 136 = .ok (.aload_n 0, 1) := dk_42 (dk_at dksX7_next_5 18 rfl rfl)
theorem dX7_next_137 : decode cX7_next 137 = .ok (.getfield 50, 3) := dk_180 0 50 (dk_at dksX7_next_5 19 rfl rfl)
theorem dX7_next_140 : decode cX7_next 140 = .ok (.aload_n 0, 1) := dk_42 (dk_at dksX7_next_5 22 rfl rfl)
theorem dX7_next_141 : decode cX7_next 141 = .ok (.getfield 243, 3) := dk_180 0 243 (dk_at dksX7_next_6 0 rfl rfl)
theorem dX7_next_144 : decode cX7_next 144 = .ok (.iaload, 1) := dk_46 (dk_at dksX7_next_6 3 rfl rfl)
theorem dX7_next_145 : decode cX7_next 145 = .ok (.invokestatic 252, 3) := dk_184 0 252 (dk_at dksX7_next_6 4 rfl rfl)
theorem dX7_next_148 : decode cX7_next 148 = .ok (.ifCond .eq 16, 3) := dk_153 0 16 (dk_at dksX7_next_6 7 rfl rfl)
theorem dX7_next_151 : decode cX7_next 151 = .ok (.aload_n 0, 1) := dk_42 (dk_at dksX7_next_6 10 rfl rfl)
theorem dX7_next_152 : decode cX7_next 152 = .ok (.dup, 1) := dk_89 (dk_at dksX7_next_6 11 rfl rfl)
theorem dX7_next_153 : decode cX7_next 153 = .ok (.getfield 243, 3) := dk_180 0 243 (dk_at dksX7_next_6 12 rfl rfl)
theorem dX7_next_156 : decode cX7_next 156 = .ok (.iconst 1, 1) := dk_4 (dk_at dksX7_next_6 15 rfl rfl)
theorem dX7_next_157 : decode cX7_next 157 = .ok (.iadd, 1) := dk_96 (dk_at dksX7_next_6 16 rfl rfl)
theorem dX7_next_158 : decode cX7_next 158 = .ok (.putfield 243, 3) := dk_181 0 243 (dk_at dksX7_next_6 17 rfl rfl)
theorem dX7_next_161 : decode cX7_next 161 = .ok (.goto (-59), 3) := dk_167 255 197 (dk_at dksX7_next_6 20 rfl rfl)
theorem dX7_next_164 : decode cX7_next 164 = .ok (.return_, 1) := dk_177 (dk_at dksX7_next_6 23 rfl rfl)
abbrev cX7_isLetter : ByteArray := prog_32_method_56_code
def yX7_isLetter : MethodName := ⟨RX7, "isLetter", "(I)Z"⟩
def dkwX7_isLetter_0 : List UInt8 := [26, 16, 97, 161, 0, 13, 26, 16, 122, 163, 0, 7, 4, 167, 0, 4, 3, 172]
abbrev dktX7_isLetter_0 : List UInt8 := dkwX7_isLetter_0 ++ []
theorem dksX7_isLetter_0 : cX7_isLetter.data.toList.drop 0 = dktX7_isLetter_0 := by decide +kernel
theorem dX7_isLetter_0 : decode cX7_isLetter 0 = .ok (.iload_n 0, 1) := dk_26 (dk_at dksX7_isLetter_0 0 rfl rfl)
theorem dX7_isLetter_1 : decode cX7_isLetter 1 = .ok (.bipush 97, 2) := dk_16 97 (dk_at dksX7_isLetter_0 1 rfl rfl)
theorem dX7_isLetter_3 : decode cX7_isLetter 3 = .ok (.if_icmp .lt 13, 3) := dk_161 0 13 (dk_at dksX7_isLetter_0 3 rfl rfl)
theorem dX7_isLetter_6 : decode cX7_isLetter 6 = .ok (.iload_n 0, 1) := dk_26 (dk_at dksX7_isLetter_0 6 rfl rfl)
theorem dX7_isLetter_7 : decode cX7_isLetter 7 = .ok (.bipush 122, 2) := dk_16 122 (dk_at dksX7_isLetter_0 7 rfl rfl)
theorem dX7_isLetter_9 : decode cX7_isLetter 9 = .ok (.if_icmp .gt 7, 3) := dk_163 0 7 (dk_at dksX7_isLetter_0 9 rfl rfl)
theorem dX7_isLetter_12 : decode cX7_isLetter 12 = .ok (.iconst 1, 1) := dk_4 (dk_at dksX7_isLetter_0 12 rfl rfl)
theorem dX7_isLetter_13 : decode cX7_isLetter 13 = .ok (.goto 4, 3) := dk_167 0 4 (dk_at dksX7_isLetter_0 13 rfl rfl)
theorem dX7_isLetter_16 : decode cX7_isLetter 16 = .ok (.iconst 0, 1) := dk_3 (dk_at dksX7_isLetter_0 16 rfl rfl)
theorem dX7_isLetter_17 : decode cX7_isLetter 17 = .ok (.ireturn, 1) := dk_172 (dk_at dksX7_isLetter_0 17 rfl rfl)
abbrev cX7_isDigit : ByteArray := prog_32_method_55_code
def yX7_isDigit : MethodName := ⟨RX7, "isDigit", "(I)Z"⟩
def dkwX7_isDigit_0 : List UInt8 := [26, 16, 48, 161, 0, 13, 26, 16, 57, 163, 0, 7, 4, 167, 0, 4, 3, 172]
abbrev dktX7_isDigit_0 : List UInt8 := dkwX7_isDigit_0 ++ []
theorem dksX7_isDigit_0 : cX7_isDigit.data.toList.drop 0 = dktX7_isDigit_0 := by decide +kernel
theorem dX7_isDigit_0 : decode cX7_isDigit 0 = .ok (.iload_n 0, 1) := dk_26 (dk_at dksX7_isDigit_0 0 rfl rfl)
theorem dX7_isDigit_1 : decode cX7_isDigit 1 = .ok (.bipush 48, 2) := dk_16 48 (dk_at dksX7_isDigit_0 1 rfl rfl)
theorem dX7_isDigit_3 : decode cX7_isDigit 3 = .ok (.if_icmp .lt 13, 3) := dk_161 0 13 (dk_at dksX7_isDigit_0 3 rfl rfl)
theorem dX7_isDigit_6 : decode cX7_isDigit 6 = .ok (.iload_n 0, 1) := dk_26 (dk_at dksX7_isDigit_0 6 rfl rfl)
theorem dX7_isDigit_7 : decode cX7_isDigit 7 = .ok (.bipush 57, 2) := dk_16 57 (dk_at dksX7_isDigit_0 7 rfl rfl)
theorem dX7_isDigit_9 : decode cX7_isDigit 9 = .ok (.if_icmp .gt 7, 3) := dk_163 0 7 (dk_at dksX7_isDigit_0 9 rfl rfl)
theorem dX7_isDigit_12 : decode cX7_isDigit 12 = .ok (.iconst 1, 1) := dk_4 (dk_at dksX7_isDigit_0 12 rfl rfl)
theorem dX7_isDigit_13 : decode cX7_isDigit 13 = .ok (.goto 4, 3) := dk_167 0 4 (dk_at dksX7_isDigit_0 13 rfl rfl)
theorem dX7_isDigit_16 : decode cX7_isDigit 16 = .ok (.iconst 0, 1) := dk_3 (dk_at dksX7_isDigit_0 16 rfl rfl)
theorem dX7_isDigit_17 : decode cX7_isDigit 17 = .ok (.ireturn, 1) := dk_172 (dk_at dksX7_isDigit_0 17 rfl rfl)
abbrev cX7_cond : ByteArray := prog_32_method_65_code
def yX7_cond : MethodName := ⟨RX7, "cond", "()V"⟩
def dkwX7_cond_2 : List UInt8 := [180, 1, 33, 153, 0, 7, 3, 167, 0, 4, 4, 96, 181, 1, 8, 167, 255, 199, 177]
abbrev dktX7_cond_2 : List UInt8 := dkwX7_cond_2 ++ []
def dkwX7_cond_1 : List UInt8 := [182, 1, 11, 42, 182, 1, 66, 42, 180, 0, 53, 42, 180, 1, 8, 16, 245, 79, 42, 89, 180, 1, 8, 42]
abbrev dktX7_cond_1 : List UInt8 := dkwX7_cond_1 ++ dktX7_cond_2
def dkwX7_cond_0 : List UInt8 := [42, 182, 1, 66, 42, 180, 1, 33, 154, 0, 56, 42, 19, 1, 69, 182, 1, 15, 153, 0, 46, 42]
abbrev dktX7_cond_0 : List UInt8 := dkwX7_cond_0 ++ dktX7_cond_1
theorem dksX7_cond_0 : cX7_cond.data.toList.drop 0 = dktX7_cond_0 := by decide +kernel
theorem dksX7_cond_1 : cX7_cond.data.toList.drop 22 = dktX7_cond_1 := dk_seg dksX7_cond_0 22 rfl rfl
theorem dksX7_cond_2 : cX7_cond.data.toList.drop 46 = dktX7_cond_2 := dk_seg dksX7_cond_1 24 rfl rfl
theorem dX7_cond_0 : decode cX7_cond 0 = .ok (.aload_n 0, 1) := dk_42 (dk_at dksX7_cond_0 0 rfl rfl)
theorem dX7_cond_1 : decode cX7_cond 1 = .ok (.invokevirtual 322, 3) := dk_182 1 66 (dk_at dksX7_cond_0 1 rfl rfl)
theorem dX7_cond_4 : decode cX7_cond 4 = .ok (.aload_n 0, 1) := dk_42 (dk_at dksX7_cond_0 4 rfl rfl)
theorem dX7_cond_5 : decode cX7_cond 5 = .ok (.getfield 289, 3) := dk_180 1 33 (dk_at dksX7_cond_0 5 rfl rfl)
theorem dX7_cond_8 : decode cX7_cond 8 = .ok (.ifCond .ne 56, 3) := dk_154 0 56 (dk_at dksX7_cond_0 8 rfl rfl)
theorem dX7_cond_11 : decode cX7_cond 11 = .ok (.aload_n 0, 1) := dk_42 (dk_at dksX7_cond_0 11 rfl rfl)
theorem dX7_cond_12 : decode cX7_cond 12 = .ok (.ldc_w 325, 3) := dk_19 1 69 (dk_at dksX7_cond_0 12 rfl rfl)
theorem dX7_cond_15 : decode cX7_cond 15 = .ok (.invokevirtual 271, 3) := dk_182 1 15 (dk_at dksX7_cond_0 15 rfl rfl)
theorem dX7_cond_18 : decode cX7_cond 18 = .ok (.ifCond .eq 46, 3) := dk_153 0 46 (dk_at dksX7_cond_0 18 rfl rfl)
theorem dX7_cond_21 : decode cX7_cond 21 = .ok (.aload_n 0, 1) := dk_42 (dk_at dksX7_cond_0 21 rfl rfl)
theorem dX7_cond_22 : decode cX7_cond 22 = .ok (.invokevirtual 267, 3) := dk_182 1 11 (dk_at dksX7_cond_1 0 rfl rfl)
theorem dX7_cond_25 : decode cX7_cond 25 = .ok (.aload_n 0, 1) := dk_42 (dk_at dksX7_cond_1 3 rfl rfl)
theorem dX7_cond_26 : decode cX7_cond 26 = .ok (.invokevirtual 322, 3) := dk_182 1 66 (dk_at dksX7_cond_1 4 rfl rfl)
theorem dX7_cond_29 : decode cX7_cond 29 = .ok (.aload_n 0, 1) := dk_42 (dk_at dksX7_cond_1 7 rfl rfl)
theorem dX7_cond_30 : decode cX7_cond 30 = .ok (.getfield 53, 3) := dk_180 0 53 (dk_at dksX7_cond_1 8 rfl rfl)
theorem dX7_cond_33 : decode cX7_cond 33 = .ok (.aload_n 0, 1) := dk_42 (dk_at dksX7_cond_1 11 rfl rfl)
theorem dX7_cond_34 : decode cX7_cond 34 = .ok (.getfield 264, 3) := dk_180 1 8 (dk_at dksX7_cond_1 12 rfl rfl)
theorem dX7_cond_37 : decode cX7_cond 37 = .ok (.bipush (-11), 2) := dk_16 245 (dk_at dksX7_cond_1 15 rfl rfl)
theorem dX7_cond_39 : decode cX7_cond 39 = .ok (.iastore, 1) := dk_79 (dk_at dksX7_cond_1 17 rfl rfl)
theorem dX7_cond_40 : decode cX7_cond 40 = .ok (.aload_n 0, 1) := dk_42 (dk_at dksX7_cond_1 18 rfl rfl)
theorem dX7_cond_41 : decode cX7_cond 41 = .ok (.dup, 1) := dk_89 (dk_at dksX7_cond_1 19 rfl rfl)
theorem dX7_cond_42 : decode cX7_cond 42 = .ok (.getfield 264, 3) := dk_180 1 8 (dk_at dksX7_cond_1 20 rfl rfl)
theorem dX7_cond_45 : decode cX7_cond 45 = .ok (.aload_n 0, 1) := dk_42 (dk_at dksX7_cond_1 23 rfl rfl)
theorem dX7_cond_46 : decode cX7_cond 46 = .ok (.getfield 289, 3) := dk_180 1 33 (dk_at dksX7_cond_2 0 rfl rfl)
theorem dX7_cond_49 : decode cX7_cond 49 = .ok (.ifCond .eq 7, 3) := dk_153 0 7 (dk_at dksX7_cond_2 3 rfl rfl)
theorem dX7_cond_52 : decode cX7_cond 52 = .ok (.iconst 0, 1) := dk_3 (dk_at dksX7_cond_2 6 rfl rfl)
theorem dX7_cond_53 : decode cX7_cond 53 = .ok (.goto 4, 3) := dk_167 0 4 (dk_at dksX7_cond_2 7 rfl rfl)
theorem dX7_cond_56 : decode cX7_cond 56 = .ok (.iconst 1, 1) := dk_4 (dk_at dksX7_cond_2 10 rfl rfl)
theorem dX7_cond_57 : decode cX7_cond 57 = .ok (.iadd, 1) := dk_96 (dk_at dksX7_cond_2 11 rfl rfl)
theorem dX7_cond_58 : decode cX7_cond 58 = .ok (.putfield 264, 3) := dk_181 1 8 (dk_at dksX7_cond_2 12 rfl rfl)
theorem dX7_cond_61 : decode cX7_cond 61 = .ok (.goto (-57), 3) := dk_167 255 199 (dk_at dksX7_cond_2 15 rfl rfl)
theorem dX7_cond_64 : decode cX7_cond 64 = .ok (.return_, 1) := dk_177 (dk_at dksX7_cond_2 18 rfl rfl)
abbrev cX7_all : ByteArray := prog_32_method_64_code
def yX7_all : MethodName := ⟨RX7, "all", "()V"⟩
def dkwX7_all_2 : List UInt8 := [180, 1, 33, 153, 0, 7, 3, 167, 0, 4, 4, 96, 181, 1, 8, 167, 255, 199, 177]
abbrev dktX7_all_2 : List UInt8 := dkwX7_all_2 ++ []
def dkwX7_all_1 : List UInt8 := [182, 1, 11, 42, 182, 1, 61, 42, 180, 0, 53, 42, 180, 1, 8, 16, 246, 79, 42, 89, 180, 1, 8, 42]
abbrev dktX7_all_1 : List UInt8 := dkwX7_all_1 ++ dktX7_all_2
def dkwX7_all_0 : List UInt8 := [42, 182, 1, 61, 42, 180, 1, 33, 154, 0, 56, 42, 19, 1, 64, 182, 1, 15, 153, 0, 46, 42]
abbrev dktX7_all_0 : List UInt8 := dkwX7_all_0 ++ dktX7_all_1
theorem dksX7_all_0 : cX7_all.data.toList.drop 0 = dktX7_all_0 := by decide +kernel
theorem dksX7_all_1 : cX7_all.data.toList.drop 22 = dktX7_all_1 := dk_seg dksX7_all_0 22 rfl rfl
theorem dksX7_all_2 : cX7_all.data.toList.drop 46 = dktX7_all_2 := dk_seg dksX7_all_1 24 rfl rfl
theorem dX7_all_0 : decode cX7_all 0 = .ok (.aload_n 0, 1) := dk_42 (dk_at dksX7_all_0 0 rfl rfl)
theorem dX7_all_1 : decode cX7_all 1 = .ok (.invokevirtual 317, 3) := dk_182 1 61 (dk_at dksX7_all_0 1 rfl rfl)
theorem dX7_all_4 : decode cX7_all 4 = .ok (.aload_n 0, 1) := dk_42 (dk_at dksX7_all_0 4 rfl rfl)
theorem dX7_all_5 : decode cX7_all 5 = .ok (.getfield 289, 3) := dk_180 1 33 (dk_at dksX7_all_0 5 rfl rfl)
theorem dX7_all_8 : decode cX7_all 8 = .ok (.ifCond .ne 56, 3) := dk_154 0 56 (dk_at dksX7_all_0 8 rfl rfl)
theorem dX7_all_11 : decode cX7_all 11 = .ok (.aload_n 0, 1) := dk_42 (dk_at dksX7_all_0 11 rfl rfl)
theorem dX7_all_12 : decode cX7_all 12 = .ok (.ldc_w 320, 3) := dk_19 1 64 (dk_at dksX7_all_0 12 rfl rfl)
theorem dX7_all_15 : decode cX7_all 15 = .ok (.invokevirtual 271, 3) := dk_182 1 15 (dk_at dksX7_all_0 15 rfl rfl)
theorem dX7_all_18 : decode cX7_all 18 = .ok (.ifCond .eq 46, 3) := dk_153 0 46 (dk_at dksX7_all_0 18 rfl rfl)
theorem dX7_all_21 : decode cX7_all 21 = .ok (.aload_n 0, 1) := dk_42 (dk_at dksX7_all_0 21 rfl rfl)
theorem dX7_all_22 : decode cX7_all 22 = .ok (.invokevirtual 267, 3) := dk_182 1 11 (dk_at dksX7_all_1 0 rfl rfl)
theorem dX7_all_25 : decode cX7_all 25 = .ok (.aload_n 0, 1) := dk_42 (dk_at dksX7_all_1 3 rfl rfl)
theorem dX7_all_26 : decode cX7_all 26 = .ok (.invokevirtual 317, 3) := dk_182 1 61 (dk_at dksX7_all_1 4 rfl rfl)
theorem dX7_all_29 : decode cX7_all 29 = .ok (.aload_n 0, 1) := dk_42 (dk_at dksX7_all_1 7 rfl rfl)
theorem dX7_all_30 : decode cX7_all 30 = .ok (.getfield 53, 3) := dk_180 0 53 (dk_at dksX7_all_1 8 rfl rfl)
theorem dX7_all_33 : decode cX7_all 33 = .ok (.aload_n 0, 1) := dk_42 (dk_at dksX7_all_1 11 rfl rfl)
theorem dX7_all_34 : decode cX7_all 34 = .ok (.getfield 264, 3) := dk_180 1 8 (dk_at dksX7_all_1 12 rfl rfl)
theorem dX7_all_37 : decode cX7_all 37 = .ok (.bipush (-10), 2) := dk_16 246 (dk_at dksX7_all_1 15 rfl rfl)
theorem dX7_all_39 : decode cX7_all 39 = .ok (.iastore, 1) := dk_79 (dk_at dksX7_all_1 17 rfl rfl)
theorem dX7_all_40 : decode cX7_all 40 = .ok (.aload_n 0, 1) := dk_42 (dk_at dksX7_all_1 18 rfl rfl)
theorem dX7_all_41 : decode cX7_all 41 = .ok (.dup, 1) := dk_89 (dk_at dksX7_all_1 19 rfl rfl)
theorem dX7_all_42 : decode cX7_all 42 = .ok (.getfield 264, 3) := dk_180 1 8 (dk_at dksX7_all_1 20 rfl rfl)
theorem dX7_all_45 : decode cX7_all 45 = .ok (.aload_n 0, 1) := dk_42 (dk_at dksX7_all_1 23 rfl rfl)
theorem dX7_all_46 : decode cX7_all 46 = .ok (.getfield 289, 3) := dk_180 1 33 (dk_at dksX7_all_2 0 rfl rfl)
theorem dX7_all_49 : decode cX7_all 49 = .ok (.ifCond .eq 7, 3) := dk_153 0 7 (dk_at dksX7_all_2 3 rfl rfl)
theorem dX7_all_52 : decode cX7_all 52 = .ok (.iconst 0, 1) := dk_3 (dk_at dksX7_all_2 6 rfl rfl)
theorem dX7_all_53 : decode cX7_all 53 = .ok (.goto 4, 3) := dk_167 0 4 (dk_at dksX7_all_2 7 rfl rfl)
theorem dX7_all_56 : decode cX7_all 56 = .ok (.iconst 1, 1) := dk_4 (dk_at dksX7_all_2 10 rfl rfl)
theorem dX7_all_57 : decode cX7_all 57 = .ok (.iadd, 1) := dk_96 (dk_at dksX7_all_2 11 rfl rfl)
theorem dX7_all_58 : decode cX7_all 58 = .ok (.putfield 264, 3) := dk_181 1 8 (dk_at dksX7_all_2 12 rfl rfl)
theorem dX7_all_61 : decode cX7_all 61 = .ok (.goto (-57), 3) := dk_167 255 199 (dk_at dksX7_all_2 15 rfl rfl)
theorem dX7_all_64 : decode cX7_all 64 = .ok (.return_, 1) := dk_177 (dk_at dksX7_all_2 18 rfl rfl)
abbrev cX7_one : ByteArray := prog_32_method_63_code
def yX7_one : MethodName := ⟨RX7, "one", "()V"⟩
def dkwX7_one_7 : List UInt8 := [181, 1, 8, 132, 2, 1, 167, 255, 220, 177]
abbrev dktX7_one_7 : List UInt8 := dkwX7_one_7 ++ []
def dkwX7_one_6 : List UInt8 := [180, 1, 33, 154, 0, 30, 42, 180, 0, 53, 42, 180, 1, 8, 16, 247, 79, 42, 89, 180, 1, 8, 4, 96]
abbrev dktX7_one_6 : List UInt8 := dkwX7_one_6 ++ dktX7_one_7
def dkwX7_one_5 : List UInt8 := [4, 100, 181, 1, 50, 42, 182, 1, 11, 167, 0, 7, 42, 182, 1, 58, 3, 61, 28, 27, 162, 0, 37, 42]
abbrev dktX7_one_5 : List UInt8 := dkwX7_one_5 ++ dktX7_one_6
def dkwX7_one_4 : List UInt8 := [154, 0, 7, 4, 167, 0, 4, 3, 181, 1, 33, 42, 180, 1, 33, 153, 0, 4, 177, 42, 89, 180, 1, 50]
abbrev dktX7_one_4 : List UInt8 := dkwX7_one_4 ++ dktX7_one_5
def dkwX7_one_3 : List UInt8 := [182, 1, 11, 42, 182, 1, 53, 42, 42, 180, 1, 33, 154, 0, 13, 42, 19, 1, 56, 182, 1, 15]
abbrev dktX7_one_3 : List UInt8 := dkwX7_one_3 ++ dktX7_one_4
def dkwX7_one_2 : List UInt8 := [181, 1, 33, 42, 180, 1, 33, 153, 0, 4, 177, 42, 89, 180, 1, 50, 4, 96, 181, 1, 50, 42]
abbrev dktX7_one_2 : List UInt8 := dkwX7_one_2 ++ dktX7_one_3
def dkwX7_one_1 : List UInt8 := [19, 1, 48, 182, 1, 15, 153, 0, 97, 42, 42, 180, 1, 50, 6, 160, 0, 7, 4, 167, 0, 4, 3]
abbrev dktX7_one_1 : List UInt8 := dkwX7_one_1 ++ dktX7_one_2
def dkwX7_one_0 : List UInt8 := [3, 60, 42, 19, 1, 46, 182, 1, 15, 153, 0, 13, 132, 1, 1, 42, 182, 1, 11, 167, 255, 239, 42]
abbrev dktX7_one_0 : List UInt8 := dkwX7_one_0 ++ dktX7_one_1
theorem dksX7_one_0 : cX7_one.data.toList.drop 0 = dktX7_one_0 := by decide +kernel
theorem dksX7_one_1 : cX7_one.data.toList.drop 23 = dktX7_one_1 := dk_seg dksX7_one_0 23 rfl rfl
theorem dksX7_one_2 : cX7_one.data.toList.drop 46 = dktX7_one_2 := dk_seg dksX7_one_1 23 rfl rfl
theorem dksX7_one_3 : cX7_one.data.toList.drop 68 = dktX7_one_3 := dk_seg dksX7_one_2 22 rfl rfl
theorem dksX7_one_4 : cX7_one.data.toList.drop 90 = dktX7_one_4 := dk_seg dksX7_one_3 22 rfl rfl
theorem dksX7_one_5 : cX7_one.data.toList.drop 114 = dktX7_one_5 := dk_seg dksX7_one_4 24 rfl rfl
theorem dksX7_one_6 : cX7_one.data.toList.drop 138 = dktX7_one_6 := dk_seg dksX7_one_5 24 rfl rfl
theorem dksX7_one_7 : cX7_one.data.toList.drop 162 = dktX7_one_7 := dk_seg dksX7_one_6 24 rfl rfl
theorem dX7_one_0 : decode cX7_one 0 = .ok (.iconst 0, 1) := dk_3 (dk_at dksX7_one_0 0 rfl rfl)
theorem dX7_one_1 : decode cX7_one 1 = .ok (.istore_n 1, 1) := dk_60 (dk_at dksX7_one_0 1 rfl rfl)
theorem dX7_one_2 : decode cX7_one 2 = .ok (.aload_n 0, 1) := dk_42 (dk_at dksX7_one_0 2 rfl rfl)
theorem dX7_one_3 : decode cX7_one 3 = .ok (.ldc_w 302, 3) := dk_19 1 46 (dk_at dksX7_one_0 3 rfl rfl)
theorem dX7_one_6 : decode cX7_one 6 = .ok (.invokevirtual 271, 3) := dk_182 1 15 (dk_at dksX7_one_0 6 rfl rfl)
theorem dX7_one_9 : decode cX7_one 9 = .ok (.ifCond .eq 13, 3) := dk_153 0 13 (dk_at dksX7_one_0 9 rfl rfl)
theorem dX7_one_12 : decode cX7_one 12 = .ok (.iinc 1 1, 3) := dk_132 1 1 (dk_at dksX7_one_0 12 rfl rfl)
theorem dX7_one_15 : decode cX7_one 15 = .ok (.aload_n 0, 1) := dk_42 (dk_at dksX7_one_0 15 rfl rfl)
theorem dX7_one_16 : decode cX7_one 16 = .ok (.invokevirtual 267, 3) := dk_182 1 11 (dk_at dksX7_one_0 16 rfl rfl)
theorem dX7_one_19 : decode cX7_one 19 = .ok (.goto (-17), 3) := dk_167 255 239 (dk_at dksX7_one_0 19 rfl rfl)
theorem dX7_one_22 : decode cX7_one 22 = .ok (.aload_n 0, 1) := dk_42 (dk_at dksX7_one_0 22 rfl rfl)
theorem dX7_one_23 : decode cX7_one 23 = .ok (.ldc_w 304, 3) := dk_19 1 48 (dk_at dksX7_one_1 0 rfl rfl)
theorem dX7_one_26 : decode cX7_one 26 = .ok (.invokevirtual 271, 3) := dk_182 1 15 (dk_at dksX7_one_1 3 rfl rfl)
theorem dX7_one_29 : decode cX7_one 29 = .ok (.ifCond .eq 97, 3) := dk_153 0 97 (dk_at dksX7_one_1 6 rfl rfl)
theorem dX7_one_32 : decode cX7_one 32 = .ok (.aload_n 0, 1) := dk_42 (dk_at dksX7_one_1 9 rfl rfl)
theorem dX7_one_33 : decode cX7_one 33 = .ok (.aload_n 0, 1) := dk_42 (dk_at dksX7_one_1 10 rfl rfl)
theorem dX7_one_34 : decode cX7_one 34 = .ok (.getfield 306, 3) := dk_180 1 50 (dk_at dksX7_one_1 11 rfl rfl)
theorem dX7_one_37 : decode cX7_one 37 = .ok (.iconst 3, 1) := dk_6 (dk_at dksX7_one_1 14 rfl rfl)
theorem dX7_one_38 : decode cX7_one 38 = .ok (.if_icmp .ne 7, 3) := dk_160 0 7 (dk_at dksX7_one_1 15 rfl rfl)
theorem dX7_one_41 : decode cX7_one 41 = .ok (.iconst 1, 1) := dk_4 (dk_at dksX7_one_1 18 rfl rfl)
theorem dX7_one_42 : decode cX7_one 42 = .ok (.goto 4, 3) := dk_167 0 4 (dk_at dksX7_one_1 19 rfl rfl)
theorem dX7_one_45 : decode cX7_one 45 = .ok (.iconst 0, 1) := dk_3 (dk_at dksX7_one_1 22 rfl rfl)
theorem dX7_one_46 : decode cX7_one 46 = .ok (.putfield 289, 3) := dk_181 1 33 (dk_at dksX7_one_2 0 rfl rfl)
theorem dX7_one_49 : decode cX7_one 49 = .ok (.aload_n 0, 1) := dk_42 (dk_at dksX7_one_2 3 rfl rfl)
theorem dX7_one_50 : decode cX7_one 50 = .ok (.getfield 289, 3) := dk_180 1 33 (dk_at dksX7_one_2 4 rfl rfl)
theorem dX7_one_53 : decode cX7_one 53 = .ok (.ifCond .eq 4, 3) := dk_153 0 4 (dk_at dksX7_one_2 7 rfl rfl)
theorem dX7_one_56 : decode cX7_one 56 = .ok (.return_, 1) := dk_177 (dk_at dksX7_one_2 10 rfl rfl)
theorem dX7_one_57 : decode cX7_one 57 = .ok (.aload_n 0, 1) := dk_42 (dk_at dksX7_one_2 11 rfl rfl)
theorem dX7_one_58 : decode cX7_one 58 = .ok (.dup, 1) := dk_89 (dk_at dksX7_one_2 12 rfl rfl)
theorem dX7_one_59 : decode cX7_one 59 = .ok (.getfield 306, 3) := dk_180 1 50 (dk_at dksX7_one_2 13 rfl rfl)
theorem dX7_one_62 : decode cX7_one 62 = .ok (.iconst 1, 1) := dk_4 (dk_at dksX7_one_2 16 rfl rfl)
theorem dX7_one_63 : decode cX7_one 63 = .ok (.iadd, 1) := dk_96 (dk_at dksX7_one_2 17 rfl rfl)
theorem dX7_one_64 : decode cX7_one 64 = .ok (.putfield 306, 3) := dk_181 1 50 (dk_at dksX7_one_2 18 rfl rfl)
theorem dX7_one_67 : decode cX7_one 67 = .ok (.aload_n 0, 1) := dk_42 (dk_at dksX7_one_2 21 rfl rfl)
theorem dX7_one_68 : decode cX7_one 68 = .ok (.invokevirtual 267, 3) := dk_182 1 11 (dk_at dksX7_one_3 0 rfl rfl)
theorem dX7_one_71 : decode cX7_one 71 = .ok (.aload_n 0, 1) := dk_42 (dk_at dksX7_one_3 3 rfl rfl)
theorem dX7_one_72 : decode cX7_one 72 = .ok (.invokevirtual 309, 3) := dk_182 1 53 (dk_at dksX7_one_3 4 rfl rfl)
theorem dX7_one_75 : decode cX7_one 75 = .ok (.aload_n 0, 1) := dk_42 (dk_at dksX7_one_3 7 rfl rfl)
theorem dX7_one_76 : decode cX7_one 76 = .ok (.aload_n 0, 1) := dk_42 (dk_at dksX7_one_3 8 rfl rfl)
theorem dX7_one_77 : decode cX7_one 77 = .ok (.getfield 289, 3) := dk_180 1 33 (dk_at dksX7_one_3 9 rfl rfl)
theorem dX7_one_80 : decode cX7_one 80 = .ok (.ifCond .ne 13, 3) := dk_154 0 13 (dk_at dksX7_one_3 12 rfl rfl)
theorem dX7_one_83 : decode cX7_one 83 = .ok (.aload_n 0, 1) := dk_42 (dk_at dksX7_one_3 15 rfl rfl)
theorem dX7_one_84 : decode cX7_one 84 = .ok (.ldc_w 312, 3) := dk_19 1 56 (dk_at dksX7_one_3 16 rfl rfl)
theorem dX7_one_87 : decode cX7_one 87 = .ok (.invokevirtual 271, 3) := dk_182 1 15 (dk_at dksX7_one_3 19 rfl rfl)
theorem dX7_one_90 : decode cX7_one 90 = .ok (.ifCond .ne 7, 3) := dk_154 0 7 (dk_at dksX7_one_4 0 rfl rfl)
theorem dX7_one_93 : decode cX7_one 93 = .ok (.iconst 1, 1) := dk_4 (dk_at dksX7_one_4 3 rfl rfl)
theorem dX7_one_94 : decode cX7_one 94 = .ok (.goto 4, 3) := dk_167 0 4 (dk_at dksX7_one_4 4 rfl rfl)
theorem dX7_one_97 : decode cX7_one 97 = .ok (.iconst 0, 1) := dk_3 (dk_at dksX7_one_4 7 rfl rfl)
theorem dX7_one_98 : decode cX7_one 98 = .ok (.putfield 289, 3) := dk_181 1 33 (dk_at dksX7_one_4 8 rfl rfl)
theorem dX7_one_101 : decode cX7_one 101 = .ok (.aload_n 0, 1) := dk_42 (dk_at dksX7_one_4 11 rfl rfl)
theorem dX7_one_102 : decode cX7_one 102 = .ok (.getfield 289, 3) := dk_180 1 33 (dk_at dksX7_one_4 12 rfl rfl)
theorem dX7_one_105 : decode cX7_one 105 = .ok (.ifCond .eq 4, 3) := dk_153 0 4 (dk_at dksX7_one_4 15 rfl rfl)
theorem dX7_one_108 : decode cX7_one 108 = .ok (.return_, 1) := dk_177 (dk_at dksX7_one_4 18 rfl rfl)
theorem dX7_one_109 : decode cX7_one 109 = .ok (.aload_n 0, 1) := dk_42 (dk_at dksX7_one_4 19 rfl rfl)
theorem dX7_one_110 : decode cX7_one 110 = .ok (.dup, 1) := dk_89 (dk_at dksX7_one_4 20 rfl rfl)
theorem dX7_one_111 : decode cX7_one 111 = .ok (.getfield 306, 3) := dk_180 1 50 (dk_at dksX7_one_4 21 rfl rfl)
theorem dX7_one_114 : decode cX7_one 114 = .ok (.iconst 1, 1) := dk_4 (dk_at dksX7_one_5 0 rfl rfl)
theorem dX7_one_115 : decode cX7_one 115 = .ok (.isub, 1) := dk_100 (dk_at dksX7_one_5 1 rfl rfl)
theorem dX7_one_116 : decode cX7_one 116 = .ok (.putfield 306, 3) := dk_181 1 50 (dk_at dksX7_one_5 2 rfl rfl)
theorem dX7_one_119 : decode cX7_one 119 = .ok (.aload_n 0, 1) := dk_42 (dk_at dksX7_one_5 5 rfl rfl)
theorem dX7_one_120 : decode cX7_one 120 = .ok (.invokevirtual 267, 3) := dk_182 1 11 (dk_at dksX7_one_5 6 rfl rfl)
theorem dX7_one_123 : decode cX7_one 123 = .ok (.goto 7, 3) := dk_167 0 7 (dk_at dksX7_one_5 9 rfl rfl)
theorem dX7_one_126 : decode cX7_one 126 = .ok (.aload_n 0, 1) := dk_42 (dk_at dksX7_one_5 12 rfl rfl)
theorem dX7_one_127 : decode cX7_one 127 = .ok (.invokevirtual 314, 3) := dk_182 1 58 (dk_at dksX7_one_5 13 rfl rfl)
theorem dX7_one_130 : decode cX7_one 130 = .ok (.iconst 0, 1) := dk_3 (dk_at dksX7_one_5 16 rfl rfl)
theorem dX7_one_131 : decode cX7_one 131 = .ok (.istore_n 2, 1) := dk_61 (dk_at dksX7_one_5 17 rfl rfl)
theorem dX7_one_132 : decode cX7_one 132 = .ok (.iload_n 2, 1) := dk_28 (dk_at dksX7_one_5 18 rfl rfl)
theorem dX7_one_133 : decode cX7_one 133 = .ok (.iload_n 1, 1) := dk_27 (dk_at dksX7_one_5 19 rfl rfl)
theorem dX7_one_134 : decode cX7_one 134 = .ok (.if_icmp .ge 37, 3) := dk_162 0 37 (dk_at dksX7_one_5 20 rfl rfl)
theorem dX7_one_137 : decode cX7_one 137 = .ok (.aload_n 0, 1) := dk_42 (dk_at dksX7_one_5 23 rfl rfl)
theorem dX7_one_138 : decode cX7_one 138 = .ok (.getfield 289, 3) := dk_180 1 33 (dk_at dksX7_one_6 0 rfl rfl)
theorem dX7_one_141 : decode cX7_one 141 = .ok (.ifCond .ne 30, 3) := dk_154 0 30 (dk_at dksX7_one_6 3 rfl rfl)
theorem dX7_one_144 : decode cX7_one 144 = .ok (.aload_n 0, 1) := dk_42 (dk_at dksX7_one_6 6 rfl rfl)
theorem dX7_one_145 : decode cX7_one 145 = .ok (.getfield 53, 3) := dk_180 0 53 (dk_at dksX7_one_6 7 rfl rfl)
theorem dX7_one_148 : decode cX7_one 148 = .ok (.aload_n 0, 1) := dk_42 (dk_at dksX7_one_6 10 rfl rfl)
theorem dX7_one_149 : decode cX7_one 149 = .ok (.getfield 264, 3) := dk_180 1 8 (dk_at dksX7_one_6 11 rfl rfl)
theorem dX7_one_152 : decode cX7_one 152 = .ok (.bipush (-9), 2) := dk_16 247 (dk_at dksX7_one_6 14 rfl rfl)
theorem dX7_one_154 : decode cX7_one 154 = .ok (.iastore, 1) := dk_79 (dk_at dksX7_one_6 16 rfl rfl)
theorem dX7_one_155 : decode cX7_one 155 = .ok (.aload_n 0, 1) := dk_42 (dk_at dksX7_one_6 17 rfl rfl)
theorem dX7_one_156 : decode cX7_one 156 = .ok (.dup, 1) := dk_89 (dk_at dksX7_one_6 18 rfl rfl)
theorem dX7_one_157 : decode cX7_one 157 = .ok (.getfield 264, 3) := dk_180 1 8 (dk_at dksX7_one_6 19 rfl rfl)
theorem dX7_one_160 : decode cX7_one 160 = .ok (.iconst 1, 1) := dk_4 (dk_at dksX7_one_6 22 rfl rfl)
theorem dX7_one_161 : decode cX7_one 161 = .ok (.iadd, 1) := dk_96 (dk_at dksX7_one_6 23 rfl rfl)
theorem dX7_one_162 : decode cX7_one 162 = .ok (.putfield 264, 3) := dk_181 1 8 (dk_at dksX7_one_7 0 rfl rfl)
theorem dX7_one_165 : decode cX7_one 165 = .ok (.iinc 2 1, 3) := dk_132 2 1 (dk_at dksX7_one_7 3 rfl rfl)
theorem dX7_one_168 : decode cX7_one 168 = .ok (.goto (-36), 3) := dk_167 255 220 (dk_at dksX7_one_7 6 rfl rfl)
theorem dX7_one_171 : decode cX7_one 171 = .ok (.return_, 1) := dk_177 (dk_at dksX7_one_7 9 rfl rfl)
abbrev cX7_is : ByteArray := prog_32_method_58_code
def yX7_is : MethodName := ⟨RX7, "is", "(Ljava/lang/String;)Z"⟩
def dkwX7_is_2 : List UInt8 := [29, 182, 1, 4, 160, 0, 7, 4, 167, 0, 4, 3, 61, 132, 3, 1, 167, 255, 216, 28, 172]
abbrev dktX7_is_2 : List UInt8 := dkwX7_is_2 ++ []
def dkwX7_is_1 : List UInt8 := [29, 43, 182, 0, 255, 162, 0, 38, 28, 153, 0, 34, 42, 180, 0, 50, 42, 180, 0, 246, 29, 96, 46, 43]
abbrev dktX7_is_1 : List UInt8 := dkwX7_is_1 ++ dktX7_is_2
def dkwX7_is_0 : List UInt8 := [42, 180, 0, 243, 42, 180, 0, 246, 100, 43, 182, 0, 255, 160, 0, 7, 4, 167, 0, 4, 3, 61, 3, 62]
abbrev dktX7_is_0 : List UInt8 := dkwX7_is_0 ++ dktX7_is_1
theorem dksX7_is_0 : cX7_is.data.toList.drop 0 = dktX7_is_0 := by decide +kernel
theorem dksX7_is_1 : cX7_is.data.toList.drop 24 = dktX7_is_1 := dk_seg dksX7_is_0 24 rfl rfl
theorem dksX7_is_2 : cX7_is.data.toList.drop 48 = dktX7_is_2 := dk_seg dksX7_is_1 24 rfl rfl
theorem dX7_is_0 : decode cX7_is 0 = .ok (.aload_n 0, 1) := dk_42 (dk_at dksX7_is_0 0 rfl rfl)
theorem dX7_is_1 : decode cX7_is 1 = .ok (.getfield 243, 3) := dk_180 0 243 (dk_at dksX7_is_0 1 rfl rfl)
theorem dX7_is_4 : decode cX7_is 4 = .ok (.aload_n 0, 1) := dk_42 (dk_at dksX7_is_0 4 rfl rfl)
theorem dX7_is_5 : decode cX7_is 5 = .ok (.getfield 246, 3) := dk_180 0 246 (dk_at dksX7_is_0 5 rfl rfl)
theorem dX7_is_8 : decode cX7_is 8 = .ok (.isub, 1) := dk_100 (dk_at dksX7_is_0 8 rfl rfl)
theorem dX7_is_9 : decode cX7_is 9 = .ok (.aload_n 1, 1) := dk_43 (dk_at dksX7_is_0 9 rfl rfl)
theorem dX7_is_10 : decode cX7_is 10 = .ok (.invokevirtual 255, 3) := dk_182 0 255 (dk_at dksX7_is_0 10 rfl rfl)
theorem dX7_is_13 : decode cX7_is 13 = .ok (.if_icmp .ne 7, 3) := dk_160 0 7 (dk_at dksX7_is_0 13 rfl rfl)
theorem dX7_is_16 : decode cX7_is 16 = .ok (.iconst 1, 1) := dk_4 (dk_at dksX7_is_0 16 rfl rfl)
theorem dX7_is_17 : decode cX7_is 17 = .ok (.goto 4, 3) := dk_167 0 4 (dk_at dksX7_is_0 17 rfl rfl)
theorem dX7_is_20 : decode cX7_is 20 = .ok (.iconst 0, 1) := dk_3 (dk_at dksX7_is_0 20 rfl rfl)
theorem dX7_is_21 : decode cX7_is 21 = .ok (.istore_n 2, 1) := dk_61 (dk_at dksX7_is_0 21 rfl rfl)
theorem dX7_is_22 : decode cX7_is 22 = .ok (.iconst 0, 1) := dk_3 (dk_at dksX7_is_0 22 rfl rfl)
theorem dX7_is_23 : decode cX7_is 23 = .ok (.istore_n 3, 1) := dk_62 (dk_at dksX7_is_0 23 rfl rfl)
theorem dX7_is_24 : decode cX7_is 24 = .ok (.iload_n 3, 1) := dk_29 (dk_at dksX7_is_1 0 rfl rfl)
theorem dX7_is_25 : decode cX7_is 25 = .ok (.aload_n 1, 1) := dk_43 (dk_at dksX7_is_1 1 rfl rfl)
theorem dX7_is_26 : decode cX7_is 26 = .ok (.invokevirtual 255, 3) := dk_182 0 255 (dk_at dksX7_is_1 2 rfl rfl)
theorem dX7_is_29 : decode cX7_is 29 = .ok (.if_icmp .ge 38, 3) := dk_162 0 38 (dk_at dksX7_is_1 5 rfl rfl)
theorem dX7_is_32 : decode cX7_is 32 = .ok (.iload_n 2, 1) := dk_28 (dk_at dksX7_is_1 8 rfl rfl)
theorem dX7_is_33 : decode cX7_is 33 = .ok (.ifCond .eq 34, 3) := dk_153 0 34 (dk_at dksX7_is_1 9 rfl rfl)
theorem dX7_is_36 : decode cX7_is 36 = .ok (.aload_n 0, 1) := dk_42 (dk_at dksX7_is_1 12 rfl rfl)
theorem dX7_is_37 : decode cX7_is 37 = .ok (.getfield 50, 3) := dk_180 0 50 (dk_at dksX7_is_1 13 rfl rfl)
theorem dX7_is_40 : decode cX7_is 40 = .ok (.aload_n 0, 1) := dk_42 (dk_at dksX7_is_1 16 rfl rfl)
theorem dX7_is_41 : decode cX7_is 41 = .ok (.getfield 246, 3) := dk_180 0 246 (dk_at dksX7_is_1 17 rfl rfl)
theorem dX7_is_44 : decode cX7_is 44 = .ok (.iload_n 3, 1) := dk_29 (dk_at dksX7_is_1 20 rfl rfl)
theorem dX7_is_45 : decode cX7_is 45 = .ok (.iadd, 1) := dk_96 (dk_at dksX7_is_1 21 rfl rfl)
theorem dX7_is_46 : decode cX7_is 46 = .ok (.iaload, 1) := dk_46 (dk_at dksX7_is_1 22 rfl rfl)
theorem dX7_is_47 : decode cX7_is 47 = .ok (.aload_n 1, 1) := dk_43 (dk_at dksX7_is_1 23 rfl rfl)
theorem dX7_is_48 : decode cX7_is 48 = .ok (.iload_n 3, 1) := dk_29 (dk_at dksX7_is_2 0 rfl rfl)
theorem dX7_is_49 : decode cX7_is 49 = .ok (.invokevirtual 260, 3) := dk_182 1 4 (dk_at dksX7_is_2 1 rfl rfl)
theorem dX7_is_52 : decode cX7_is 52 = .ok (.if_icmp .ne 7, 3) := dk_160 0 7 (dk_at dksX7_is_2 4 rfl rfl)
theorem dX7_is_55 : decode cX7_is 55 = .ok (.iconst 1, 1) := dk_4 (dk_at dksX7_is_2 7 rfl rfl)
theorem dX7_is_56 : decode cX7_is 56 = .ok (.goto 4, 3) := dk_167 0 4 (dk_at dksX7_is_2 8 rfl rfl)
theorem dX7_is_59 : decode cX7_is 59 = .ok (.iconst 0, 1) := dk_3 (dk_at dksX7_is_2 11 rfl rfl)
theorem dX7_is_60 : decode cX7_is 60 = .ok (.istore_n 2, 1) := dk_61 (dk_at dksX7_is_2 12 rfl rfl)
theorem dX7_is_61 : decode cX7_is 61 = .ok (.iinc 3 1, 3) := dk_132 3 1 (dk_at dksX7_is_2 13 rfl rfl)
theorem dX7_is_64 : decode cX7_is 64 = .ok (.goto (-40), 3) := dk_167 255 216 (dk_at dksX7_is_2 16 rfl rfl)
theorem dX7_is_67 : decode cX7_is 67 = .ok (.iload_n 2, 1) := dk_28 (dk_at dksX7_is_2 19 rfl rfl)
theorem dX7_is_68 : decode cX7_is 68 = .ok (.ireturn, 1) := dk_172 (dk_at dksX7_is_2 20 rfl rfl)
abbrev cX7_compared : ByteArray := prog_32_method_62_code
def yX7_compared : MethodName := ⟨RX7, "compared", "()V"⟩
def dkwX7_compared_4 : List UInt8 := [154, 0, 23, 42, 180, 0, 53, 42, 180, 1, 8, 27, 79, 42, 89, 180, 1, 8, 4, 96, 181, 1, 8, 177]
abbrev dktX7_compared_4 : List UInt8 := dkwX7_compared_4 ++ []
def dkwX7_compared_3 : List UInt8 := [181, 1, 33, 42, 180, 1, 33, 153, 0, 4, 177, 42, 182, 1, 11, 42, 182, 1, 37, 42, 180, 1, 33]
abbrev dktX7_compared_3 : List UInt8 := dkwX7_compared_3 ++ dktX7_compared_4
def dkwX7_compared_2 : List UInt8 := [182, 1, 15, 153, 0, 8, 16, 248, 167, 0, 4, 3, 60, 42, 27, 154, 0, 7, 4, 167, 0, 4, 3]
abbrev dktX7_compared_2 : List UInt8 := dkwX7_compared_2 ++ dktX7_compared_3
def dkwX7_compared_1 : List UInt8 := [167, 0, 34, 42, 19, 1, 42, 182, 1, 15, 153, 0, 8, 16, 249, 167, 0, 19, 42, 19, 1, 44]
abbrev dktX7_compared_1 : List UInt8 := dkwX7_compared_1 ++ dktX7_compared_2
def dkwX7_compared_0 : List UInt8 := [42, 182, 1, 37, 42, 180, 1, 33, 153, 0, 4, 177, 42, 19, 1, 40, 182, 1, 15, 153, 0, 8, 16, 250]
abbrev dktX7_compared_0 : List UInt8 := dkwX7_compared_0 ++ dktX7_compared_1
theorem dksX7_compared_0 : cX7_compared.data.toList.drop 0 = dktX7_compared_0 := by decide +kernel
theorem dksX7_compared_1 : cX7_compared.data.toList.drop 24 = dktX7_compared_1 := dk_seg dksX7_compared_0 24 rfl rfl
theorem dksX7_compared_2 : cX7_compared.data.toList.drop 46 = dktX7_compared_2 := dk_seg dksX7_compared_1 22 rfl rfl
theorem dksX7_compared_3 : cX7_compared.data.toList.drop 69 = dktX7_compared_3 := dk_seg dksX7_compared_2 23 rfl rfl
theorem dksX7_compared_4 : cX7_compared.data.toList.drop 92 = dktX7_compared_4 := dk_seg dksX7_compared_3 23 rfl rfl
theorem dX7_compared_0 : decode cX7_compared 0 = .ok (.aload_n 0, 1) := dk_42 (dk_at dksX7_compared_0 0 rfl rfl)
theorem dX7_compared_1 : decode cX7_compared 1 = .ok (.invokevirtual 293, 3) := dk_182 1 37 (dk_at dksX7_compared_0 1 rfl rfl)
theorem dX7_compared_4 : decode cX7_compared 4 = .ok (.aload_n 0, 1) := dk_42 (dk_at dksX7_compared_0 4 rfl rfl)
theorem dX7_compared_5 : decode cX7_compared 5 = .ok (.getfield 289, 3) := dk_180 1 33 (dk_at dksX7_compared_0 5 rfl rfl)
theorem dX7_compared_8 : decode cX7_compared 8 = .ok (.ifCond .eq 4, 3) := dk_153 0 4 (dk_at dksX7_compared_0 8 rfl rfl)
theorem dX7_compared_11 : decode cX7_compared 11 = .ok (.return_, 1) := dk_177 (dk_at dksX7_compared_0 11 rfl rfl)
theorem dX7_compared_12 : decode cX7_compared 12 = .ok (.aload_n 0, 1) := dk_42 (dk_at dksX7_compared_0 12 rfl rfl)
theorem dX7_compared_13 : decode cX7_compared 13 = .ok (.ldc_w 296, 3) := dk_19 1 40 (dk_at dksX7_compared_0 13 rfl rfl)
theorem dX7_compared_16 : decode cX7_compared 16 = .ok (.invokevirtual 271, 3) := dk_182 1 15 (dk_at dksX7_compared_0 16 rfl rfl)
theorem dX7_compared_19 : decode cX7_compared 19 = .ok (.ifCond .eq 8, 3) := dk_153 0 8 (dk_at dksX7_compared_0 19 rfl rfl)
theorem dX7_compared_22 : decode cX7_compared 22 = .ok (.bipush (-6), 2) := dk_16 250 (dk_at dksX7_compared_0 22 rfl rfl)
theorem dX7_compared_24 : decode cX7_compared 24 = .ok (.goto 34, 3) := dk_167 0 34 (dk_at dksX7_compared_1 0 rfl rfl)
theorem dX7_compared_27 : decode cX7_compared 27 = .ok (.aload_n 0, 1) := dk_42 (dk_at dksX7_compared_1 3 rfl rfl)
theorem dX7_compared_28 : decode cX7_compared 28 = .ok (.ldc_w 298, 3) := dk_19 1 42 (dk_at dksX7_compared_1 4 rfl rfl)
theorem dX7_compared_31 : decode cX7_compared 31 = .ok (.invokevirtual 271, 3) := dk_182 1 15 (dk_at dksX7_compared_1 7 rfl rfl)
theorem dX7_compared_34 : decode cX7_compared 34 = .ok (.ifCond .eq 8, 3) := dk_153 0 8 (dk_at dksX7_compared_1 10 rfl rfl)
theorem dX7_compared_37 : decode cX7_compared 37 = .ok (.bipush (-7), 2) := dk_16 249 (dk_at dksX7_compared_1 13 rfl rfl)
theorem dX7_compared_39 : decode cX7_compared 39 = .ok (.goto 19, 3) := dk_167 0 19 (dk_at dksX7_compared_1 15 rfl rfl)
theorem dX7_compared_42 : decode cX7_compared 42 = .ok (.aload_n 0, 1) := dk_42 (dk_at dksX7_compared_1 18 rfl rfl)
theorem dX7_compared_43 : decode cX7_compared 43 = .ok (.ldc_w 300, 3) := dk_19 1 44 (dk_at dksX7_compared_1 19 rfl rfl)
theorem dX7_compared_46 : decode cX7_compared 46 = .ok (.invokevirtual 271, 3) := dk_182 1 15 (dk_at dksX7_compared_2 0 rfl rfl)
theorem dX7_compared_49 : decode cX7_compared 49 = .ok (.ifCond .eq 8, 3) := dk_153 0 8 (dk_at dksX7_compared_2 3 rfl rfl)
theorem dX7_compared_52 : decode cX7_compared 52 = .ok (.bipush (-8), 2) := dk_16 248 (dk_at dksX7_compared_2 6 rfl rfl)
theorem dX7_compared_54 : decode cX7_compared 54 = .ok (.goto 4, 3) := dk_167 0 4 (dk_at dksX7_compared_2 8 rfl rfl)
theorem dX7_compared_57 : decode cX7_compared 57 = .ok (.iconst 0, 1) := dk_3 (dk_at dksX7_compared_2 11 rfl rfl)
theorem dX7_compared_58 : decode cX7_compared 58 = .ok (.istore_n 1, 1) := dk_60 (dk_at dksX7_compared_2 12 rfl rfl)
theorem dX7_compared_59 : decode cX7_compared 59 = .ok (.aload_n 0, 1) := dk_42 (dk_at dksX7_compared_2 13 rfl rfl)
theorem dX7_compared_60 : decode cX7_compared 60 = .ok (.iload_n 1, 1) := dk_27 (dk_at dksX7_compared_2 14 rfl rfl)
theorem dX7_compared_61 : decode cX7_compared 61 = .ok (.ifCond .ne 7, 3) := dk_154 0 7 (dk_at dksX7_compared_2 15 rfl rfl)
theorem dX7_compared_64 : decode cX7_compared 64 = .ok (.iconst 1, 1) := dk_4 (dk_at dksX7_compared_2 18 rfl rfl)
theorem dX7_compared_65 : decode cX7_compared 65 = .ok (.goto 4, 3) := dk_167 0 4 (dk_at dksX7_compared_2 19 rfl rfl)
theorem dX7_compared_68 : decode cX7_compared 68 = .ok (.iconst 0, 1) := dk_3 (dk_at dksX7_compared_2 22 rfl rfl)
theorem dX7_compared_69 : decode cX7_compared 69 = .ok (.putfield 289, 3) := dk_181 1 33 (dk_at dksX7_compared_3 0 rfl rfl)
theorem dX7_compared_72 : decode cX7_compared 72 = .ok (.aload_n 0, 1) := dk_42 (dk_at dksX7_compared_3 3 rfl rfl)
theorem dX7_compared_73 : decode cX7_compared 73 = .ok (.getfield 289, 3) := dk_180 1 33 (dk_at dksX7_compared_3 4 rfl rfl)
theorem dX7_compared_76 : decode cX7_compared 76 = .ok (.ifCond .eq 4, 3) := dk_153 0 4 (dk_at dksX7_compared_3 7 rfl rfl)
theorem dX7_compared_79 : decode cX7_compared 79 = .ok (.return_, 1) := dk_177 (dk_at dksX7_compared_3 10 rfl rfl)
theorem dX7_compared_80 : decode cX7_compared 80 = .ok (.aload_n 0, 1) := dk_42 (dk_at dksX7_compared_3 11 rfl rfl)
theorem dX7_compared_81 : decode cX7_compared 81 = .ok (.invokevirtual 267, 3) := dk_182 1 11 (dk_at dksX7_compared_3 12 rfl rfl)
theorem dX7_compared_84 : decode cX7_compared 84 = .ok (.aload_n 0, 1) := dk_42 (dk_at dksX7_compared_3 15 rfl rfl)
theorem dX7_compared_85 : decode cX7_compared 85 = .ok (.invokevirtual 293, 3) := dk_182 1 37 (dk_at dksX7_compared_3 16 rfl rfl)
theorem dX7_compared_88 : decode cX7_compared 88 = .ok (.aload_n 0, 1) := dk_42 (dk_at dksX7_compared_3 19 rfl rfl)
theorem dX7_compared_89 : decode cX7_compared 89 = .ok (.getfield 289, 3) := dk_180 1 33 (dk_at dksX7_compared_3 20 rfl rfl)
theorem dX7_compared_92 : decode cX7_compared 92 = .ok (.ifCond .ne 23, 3) := dk_154 0 23 (dk_at dksX7_compared_4 0 rfl rfl)
theorem dX7_compared_95 : decode cX7_compared 95 = .ok (.aload_n 0, 1) := dk_42 (dk_at dksX7_compared_4 3 rfl rfl)
theorem dX7_compared_96 : decode cX7_compared 96 = .ok (.getfield 53, 3) := dk_180 0 53 (dk_at dksX7_compared_4 4 rfl rfl)
theorem dX7_compared_99 : decode cX7_compared 99 = .ok (.aload_n 0, 1) := dk_42 (dk_at dksX7_compared_4 7 rfl rfl)
theorem dX7_compared_100 : decode cX7_compared 100 = .ok (.getfield 264, 3) := dk_180 1 8 (dk_at dksX7_compared_4 8 rfl rfl)
theorem dX7_compared_103 : decode cX7_compared 103 = .ok (.iload_n 1, 1) := dk_27 (dk_at dksX7_compared_4 11 rfl rfl)
theorem dX7_compared_104 : decode cX7_compared 104 = .ok (.iastore, 1) := dk_79 (dk_at dksX7_compared_4 12 rfl rfl)
theorem dX7_compared_105 : decode cX7_compared 105 = .ok (.aload_n 0, 1) := dk_42 (dk_at dksX7_compared_4 13 rfl rfl)
theorem dX7_compared_106 : decode cX7_compared 106 = .ok (.dup, 1) := dk_89 (dk_at dksX7_compared_4 14 rfl rfl)
theorem dX7_compared_107 : decode cX7_compared 107 = .ok (.getfield 264, 3) := dk_180 1 8 (dk_at dksX7_compared_4 15 rfl rfl)
theorem dX7_compared_110 : decode cX7_compared 110 = .ok (.iconst 1, 1) := dk_4 (dk_at dksX7_compared_4 18 rfl rfl)
theorem dX7_compared_111 : decode cX7_compared 111 = .ok (.iadd, 1) := dk_96 (dk_at dksX7_compared_4 19 rfl rfl)
theorem dX7_compared_112 : decode cX7_compared 112 = .ok (.putfield 264, 3) := dk_181 1 8 (dk_at dksX7_compared_4 20 rfl rfl)
theorem dX7_compared_115 : decode cX7_compared 115 = .ok (.return_, 1) := dk_177 (dk_at dksX7_compared_4 23 rfl rfl)
abbrev cX7_value : ByteArray := prog_32_method_61_code
def yX7_value : MethodName := ⟨RX7, "value", "()V"⟩
def dkwX7_value_4 : List UInt8 := [167, 255, 230, 42, 27, 182, 1, 29, 177]
abbrev dktX7_value_4 : List UInt8 := dkwX7_value_4 ++ []
def dkwX7_value_3 : List UInt8 := [180, 0, 243, 162, 0, 24, 16, 10, 27, 104, 42, 180, 0, 50, 28, 46, 96, 16, 48, 100, 60, 132, 2, 1]
abbrev dktX7_value_3 : List UInt8 := dkwX7_value_3 ++ dktX7_value_4
def dkwX7_value_2 : List UInt8 := [180, 0, 246, 100, 7, 164, 0, 9, 42, 4, 181, 1, 33, 177, 3, 60, 42, 180, 0, 246, 61, 28, 42]
abbrev dktX7_value_2 : List UInt8 := dkwX7_value_2 ++ dktX7_value_3
def dkwX7_value_1 : List UInt8 := [159, 0, 31, 42, 180, 0, 50, 42, 180, 0, 246, 46, 184, 0, 252, 153, 0, 16, 42, 180, 0, 243, 42]
abbrev dktX7_value_1 : List UInt8 := dkwX7_value_1 ++ dktX7_value_2
def dkwX7_value_0 : List UInt8 := [42, 182, 1, 26, 156, 0, 12, 42, 42, 182, 1, 26, 182, 1, 29, 177, 42, 180, 0, 246, 42, 180, 0, 238]
abbrev dktX7_value_0 : List UInt8 := dkwX7_value_0 ++ dktX7_value_1
theorem dksX7_value_0 : cX7_value.data.toList.drop 0 = dktX7_value_0 := by decide +kernel
theorem dksX7_value_1 : cX7_value.data.toList.drop 24 = dktX7_value_1 := dk_seg dksX7_value_0 24 rfl rfl
theorem dksX7_value_2 : cX7_value.data.toList.drop 47 = dktX7_value_2 := dk_seg dksX7_value_1 23 rfl rfl
theorem dksX7_value_3 : cX7_value.data.toList.drop 70 = dktX7_value_3 := dk_seg dksX7_value_2 23 rfl rfl
theorem dksX7_value_4 : cX7_value.data.toList.drop 94 = dktX7_value_4 := dk_seg dksX7_value_3 24 rfl rfl
theorem dX7_value_0 : decode cX7_value 0 = .ok (.aload_n 0, 1) := dk_42 (dk_at dksX7_value_0 0 rfl rfl)
theorem dX7_value_1 : decode cX7_value 1 = .ok (.invokevirtual 282, 3) := dk_182 1 26 (dk_at dksX7_value_0 1 rfl rfl)
theorem dX7_value_4 : decode cX7_value 4 = .ok (.ifCond .ge 12, 3) := dk_156 0 12 (dk_at dksX7_value_0 4 rfl rfl)
theorem dX7_value_7 : decode cX7_value 7 = .ok (.aload_n 0, 1) := dk_42 (dk_at dksX7_value_0 7 rfl rfl)
theorem dX7_value_8 : decode cX7_value 8 = .ok (.aload_n 0, 1) := dk_42 (dk_at dksX7_value_0 8 rfl rfl)
theorem dX7_value_9 : decode cX7_value 9 = .ok (.invokevirtual 282, 3) := dk_182 1 26 (dk_at dksX7_value_0 9 rfl rfl)
theorem dX7_value_12 : decode cX7_value 12 = .ok (.invokevirtual 285, 3) := dk_182 1 29 (dk_at dksX7_value_0 12 rfl rfl)
theorem dX7_value_15 : decode cX7_value 15 = .ok (.return_, 1) := dk_177 (dk_at dksX7_value_0 15 rfl rfl)
theorem dX7_value_16 : decode cX7_value 16 = .ok (.aload_n 0, 1) := dk_42 (dk_at dksX7_value_0 16 rfl rfl)
theorem dX7_value_17 : decode cX7_value 17 = .ok (.getfield 246, 3) := dk_180 0 246 (dk_at dksX7_value_0 17 rfl rfl)
theorem dX7_value_20 : decode cX7_value 20 = .ok (.aload_n 0, 1) := dk_42 (dk_at dksX7_value_0 20 rfl rfl)
theorem dX7_value_21 : decode cX7_value 21 = .ok (.getfield 238, 3) := dk_180 0 238 (dk_at dksX7_value_0 21 rfl rfl)
theorem dX7_value_24 : decode cX7_value 24 = .ok (.if_icmp .eq 31, 3) := dk_159 0 31 (dk_at dksX7_value_1 0 rfl rfl)
theorem dX7_value_27 : decode cX7_value 27 = .ok (.aload_n 0, 1) := dk_42 (dk_at dksX7_value_1 3 rfl rfl)
theorem dX7_value_28 : decode cX7_value 28 = .ok (.getfield 50, 3) := dk_180 0 50 (dk_at dksX7_value_1 4 rfl rfl)
theorem dX7_value_31 : decode cX7_value 31 = .ok (.aload_n 0, 1) := dk_42 (dk_at dksX7_value_1 7 rfl rfl)
theorem dX7_value_32 : decode cX7_value 32 = .ok (.getfield 246, 3) := dk_180 0 246 (dk_at dksX7_value_1 8 rfl rfl)
theorem dX7_value_35 : decode cX7_value 35 = .ok (.iaload, 1) := dk_46 (dk_at dksX7_value_1 11 rfl rfl)
theorem dX7_value_36 : decode cX7_value 36 = .ok (.invokestatic 252, 3) := dk_184 0 252 (dk_at dksX7_value_1 12 rfl rfl)
theorem dX7_value_39 : decode cX7_value 39 = .ok (.ifCond .eq 16, 3) := dk_153 0 16 (dk_at dksX7_value_1 15 rfl rfl)
theorem dX7_value_42 : decode cX7_value 42 = .ok (.aload_n 0, 1) := dk_42 (dk_at dksX7_value_1 18 rfl rfl)
theorem dX7_value_43 : decode cX7_value 43 = .ok (.getfield 243, 3) := dk_180 0 243 (dk_at dksX7_value_1 19 rfl rfl)
theorem dX7_value_46 : decode cX7_value 46 = .ok (.aload_n 0, 1) := dk_42 (dk_at dksX7_value_1 22 rfl rfl)
theorem dX7_value_47 : decode cX7_value 47 = .ok (.getfield 246, 3) := dk_180 0 246 (dk_at dksX7_value_2 0 rfl rfl)
theorem dX7_value_50 : decode cX7_value 50 = .ok (.isub, 1) := dk_100 (dk_at dksX7_value_2 3 rfl rfl)
theorem dX7_value_51 : decode cX7_value 51 = .ok (.iconst 4, 1) := dk_7 (dk_at dksX7_value_2 4 rfl rfl)
theorem dX7_value_52 : decode cX7_value 52 = .ok (.if_icmp .le 9, 3) := dk_164 0 9 (dk_at dksX7_value_2 5 rfl rfl)
theorem dX7_value_55 : decode cX7_value 55 = .ok (.aload_n 0, 1) := dk_42 (dk_at dksX7_value_2 8 rfl rfl)
theorem dX7_value_56 : decode cX7_value 56 = .ok (.iconst 1, 1) := dk_4 (dk_at dksX7_value_2 9 rfl rfl)
theorem dX7_value_57 : decode cX7_value 57 = .ok (.putfield 289, 3) := dk_181 1 33 (dk_at dksX7_value_2 10 rfl rfl)
theorem dX7_value_60 : decode cX7_value 60 = .ok (.return_, 1) := dk_177 (dk_at dksX7_value_2 13 rfl rfl)
theorem dX7_value_61 : decode cX7_value 61 = .ok (.iconst 0, 1) := dk_3 (dk_at dksX7_value_2 14 rfl rfl)
theorem dX7_value_62 : decode cX7_value 62 = .ok (.istore_n 1, 1) := dk_60 (dk_at dksX7_value_2 15 rfl rfl)
theorem dX7_value_63 : decode cX7_value 63 = .ok (.aload_n 0, 1) := dk_42 (dk_at dksX7_value_2 16 rfl rfl)
theorem dX7_value_64 : decode cX7_value 64 = .ok (.getfield 246, 3) := dk_180 0 246 (dk_at dksX7_value_2 17 rfl rfl)
theorem dX7_value_67 : decode cX7_value 67 = .ok (.istore_n 2, 1) := dk_61 (dk_at dksX7_value_2 20 rfl rfl)
theorem dX7_value_68 : decode cX7_value 68 = .ok (.iload_n 2, 1) := dk_28 (dk_at dksX7_value_2 21 rfl rfl)
theorem dX7_value_69 : decode cX7_value 69 = .ok (.aload_n 0, 1) := dk_42 (dk_at dksX7_value_2 22 rfl rfl)
theorem dX7_value_70 : decode cX7_value 70 = .ok (.getfield 243, 3) := dk_180 0 243 (dk_at dksX7_value_3 0 rfl rfl)
theorem dX7_value_73 : decode cX7_value 73 = .ok (.if_icmp .ge 24, 3) := dk_162 0 24 (dk_at dksX7_value_3 3 rfl rfl)
theorem dX7_value_76 : decode cX7_value 76 = .ok (.bipush 10, 2) := dk_16 10 (dk_at dksX7_value_3 6 rfl rfl)
theorem dX7_value_78 : decode cX7_value 78 = .ok (.iload_n 1, 1) := dk_27 (dk_at dksX7_value_3 8 rfl rfl)
theorem dX7_value_79 : decode cX7_value 79 = .ok (.imul, 1) := dk_104 (dk_at dksX7_value_3 9 rfl rfl)
theorem dX7_value_80 : decode cX7_value 80 = .ok (.aload_n 0, 1) := dk_42 (dk_at dksX7_value_3 10 rfl rfl)
theorem dX7_value_81 : decode cX7_value 81 = .ok (.getfield 50, 3) := dk_180 0 50 (dk_at dksX7_value_3 11 rfl rfl)
theorem dX7_value_84 : decode cX7_value 84 = .ok (.iload_n 2, 1) := dk_28 (dk_at dksX7_value_3 14 rfl rfl)
theorem dX7_value_85 : decode cX7_value 85 = .ok (.iaload, 1) := dk_46 (dk_at dksX7_value_3 15 rfl rfl)
theorem dX7_value_86 : decode cX7_value 86 = .ok (.iadd, 1) := dk_96 (dk_at dksX7_value_3 16 rfl rfl)
theorem dX7_value_87 : decode cX7_value 87 = .ok (.bipush 48, 2) := dk_16 48 (dk_at dksX7_value_3 17 rfl rfl)
theorem dX7_value_89 : decode cX7_value 89 = .ok (.isub, 1) := dk_100 (dk_at dksX7_value_3 19 rfl rfl)
theorem dX7_value_90 : decode cX7_value 90 = .ok (.istore_n 1, 1) := dk_60 (dk_at dksX7_value_3 20 rfl rfl)
theorem dX7_value_91 : decode cX7_value 91 = .ok (.iinc 2 1, 3) := dk_132 2 1 (dk_at dksX7_value_3 21 rfl rfl)
theorem dX7_value_94 : decode cX7_value 94 = .ok (.goto (-26), 3) := dk_167 255 230 (dk_at dksX7_value_4 0 rfl rfl)
theorem dX7_value_97 : decode cX7_value 97 = .ok (.aload_n 0, 1) := dk_42 (dk_at dksX7_value_4 3 rfl rfl)
theorem dX7_value_98 : decode cX7_value 98 = .ok (.iload_n 1, 1) := dk_27 (dk_at dksX7_value_4 4 rfl rfl)
theorem dX7_value_99 : decode cX7_value 99 = .ok (.invokevirtual 285, 3) := dk_182 1 29 (dk_at dksX7_value_4 5 rfl rfl)
theorem dX7_value_102 : decode cX7_value 102 = .ok (.return_, 1) := dk_177 (dk_at dksX7_value_4 8 rfl rfl)
abbrev cX7_factHere : ByteArray := prog_32_method_60_code
def yX7_factHere : MethodName := ⟨RX7, "factHere", "()I"⟩
def dkwX7_factHere_3 : List UInt8 := [167, 0, 4, 3, 172]
abbrev dktX7_factHere_3 : List UInt8 := dkwX7_factHere_3 ++ []
def dkwX7_factHere_2 : List UInt8 := [182, 1, 15, 153, 0, 8, 16, 252, 167, 0, 19, 42, 19, 1, 24, 182, 1, 15, 153, 0, 8, 16, 251]
abbrev dktX7_factHere_2 : List UInt8 := dkwX7_factHere_2 ++ dktX7_factHere_3
def dkwX7_factHere_1 : List UInt8 := [16, 254, 167, 0, 49, 42, 19, 1, 20, 182, 1, 15, 153, 0, 8, 16, 253, 167, 0, 34, 42, 19, 1, 22]
abbrev dktX7_factHere_1 : List UInt8 := dkwX7_factHere_1 ++ dktX7_factHere_2
def dkwX7_factHere_0 : List UInt8 := [42, 19, 1, 14, 182, 1, 15, 153, 0, 7, 2, 167, 0, 64, 42, 19, 1, 19, 182, 1, 15, 153, 0, 8]
abbrev dktX7_factHere_0 : List UInt8 := dkwX7_factHere_0 ++ dktX7_factHere_1
theorem dksX7_factHere_0 : cX7_factHere.data.toList.drop 0 = dktX7_factHere_0 := by decide +kernel
theorem dksX7_factHere_1 : cX7_factHere.data.toList.drop 24 = dktX7_factHere_1 := dk_seg dksX7_factHere_0 24 rfl rfl
theorem dksX7_factHere_2 : cX7_factHere.data.toList.drop 48 = dktX7_factHere_2 := dk_seg dksX7_factHere_1 24 rfl rfl
theorem dksX7_factHere_3 : cX7_factHere.data.toList.drop 71 = dktX7_factHere_3 := dk_seg dksX7_factHere_2 23 rfl rfl
theorem dX7_factHere_0 : decode cX7_factHere 0 = .ok (.aload_n 0, 1) := dk_42 (dk_at dksX7_factHere_0 0 rfl rfl)
theorem dX7_factHere_1 : decode cX7_factHere 1 = .ok (.ldc_w 270, 3) := dk_19 1 14 (dk_at dksX7_factHere_0 1 rfl rfl)
theorem dX7_factHere_4 : decode cX7_factHere 4 = .ok (.invokevirtual 271, 3) := dk_182 1 15 (dk_at dksX7_factHere_0 4 rfl rfl)
theorem dX7_factHere_7 : decode cX7_factHere 7 = .ok (.ifCond .eq 7, 3) := dk_153 0 7 (dk_at dksX7_factHere_0 7 rfl rfl)
theorem dX7_factHere_10 : decode cX7_factHere 10 = .ok (.iconst (-1), 1) := dk_2 (dk_at dksX7_factHere_0 10 rfl rfl)
theorem dX7_factHere_11 : decode cX7_factHere 11 = .ok (.goto 64, 3) := dk_167 0 64 (dk_at dksX7_factHere_0 11 rfl rfl)
theorem dX7_factHere_14 : decode cX7_factHere 14 = .ok (.aload_n 0, 1) := dk_42 (dk_at dksX7_factHere_0 14 rfl rfl)
theorem dX7_factHere_15 : decode cX7_factHere 15 = .ok (.ldc_w 275, 3) := dk_19 1 19 (dk_at dksX7_factHere_0 15 rfl rfl)
theorem dX7_factHere_18 : decode cX7_factHere 18 = .ok (.invokevirtual 271, 3) := dk_182 1 15 (dk_at dksX7_factHere_0 18 rfl rfl)
theorem dX7_factHere_21 : decode cX7_factHere 21 = .ok (.ifCond .eq 8, 3) := dk_153 0 8 (dk_at dksX7_factHere_0 21 rfl rfl)
theorem dX7_factHere_24 : decode cX7_factHere 24 = .ok (.bipush (-2), 2) := dk_16 254 (dk_at dksX7_factHere_1 0 rfl rfl)
theorem dX7_factHere_26 : decode cX7_factHere 26 = .ok (.goto 49, 3) := dk_167 0 49 (dk_at dksX7_factHere_1 2 rfl rfl)
theorem dX7_factHere_29 : decode cX7_factHere 29 = .ok (.aload_n 0, 1) := dk_42 (dk_at dksX7_factHere_1 5 rfl rfl)
theorem dX7_factHere_30 : decode cX7_factHere 30 = .ok (.ldc_w 276, 3) := dk_19 1 20 (dk_at dksX7_factHere_1 6 rfl rfl)
theorem dX7_factHere_33 : decode cX7_factHere 33 = .ok (.invokevirtual 271, 3) := dk_182 1 15 (dk_at dksX7_factHere_1 9 rfl rfl)
theorem dX7_factHere_36 : decode cX7_factHere 36 = .ok (.ifCond .eq 8, 3) := dk_153 0 8 (dk_at dksX7_factHere_1 12 rfl rfl)
theorem dX7_factHere_39 : decode cX7_factHere 39 = .ok (.bipush (-3), 2) := dk_16 253 (dk_at dksX7_factHere_1 15 rfl rfl)
theorem dX7_factHere_41 : decode cX7_factHere 41 = .ok (.goto 34, 3) := dk_167 0 34 (dk_at dksX7_factHere_1 17 rfl rfl)
theorem dX7_factHere_44 : decode cX7_factHere 44 = .ok (.aload_n 0, 1) := dk_42 (dk_at dksX7_factHere_1 20 rfl rfl)
theorem dX7_factHere_45 : decode cX7_factHere 45 = .ok (.ldc_w 278, 3) := dk_19 1 22 (dk_at dksX7_factHere_1 21 rfl rfl)
theorem dX7_factHere_48 : decode cX7_factHere 48 = .ok (.invokevirtual 271, 3) := dk_182 1 15 (dk_at dksX7_factHere_2 0 rfl rfl)
theorem dX7_factHere_51 : decode cX7_factHere 51 = .ok (.ifCond .eq 8, 3) := dk_153 0 8 (dk_at dksX7_factHere_2 3 rfl rfl)
theorem dX7_factHere_54 : decode cX7_factHere 54 = .ok (.bipush (-4), 2) := dk_16 252 (dk_at dksX7_factHere_2 6 rfl rfl)
theorem dX7_factHere_56 : decode cX7_factHere 56 = .ok (.goto 19, 3) := dk_167 0 19 (dk_at dksX7_factHere_2 8 rfl rfl)
theorem dX7_factHere_59 : decode cX7_factHere 59 = .ok (.aload_n 0, 1) := dk_42 (dk_at dksX7_factHere_2 11 rfl rfl)
theorem dX7_factHere_60 : decode cX7_factHere 60 = .ok (.ldc_w 280, 3) := dk_19 1 24 (dk_at dksX7_factHere_2 12 rfl rfl)
theorem dX7_factHere_63 : decode cX7_factHere 63 = .ok (.invokevirtual 271, 3) := dk_182 1 15 (dk_at dksX7_factHere_2 15 rfl rfl)
theorem dX7_factHere_66 : decode cX7_factHere 66 = .ok (.ifCond .eq 8, 3) := dk_153 0 8 (dk_at dksX7_factHere_2 18 rfl rfl)
theorem dX7_factHere_69 : decode cX7_factHere 69 = .ok (.bipush (-5), 2) := dk_16 251 (dk_at dksX7_factHere_2 21 rfl rfl)
theorem dX7_factHere_71 : decode cX7_factHere 71 = .ok (.goto 4, 3) := dk_167 0 4 (dk_at dksX7_factHere_3 0 rfl rfl)
theorem dX7_factHere_74 : decode cX7_factHere 74 = .ok (.iconst 0, 1) := dk_3 (dk_at dksX7_factHere_3 3 rfl rfl)
theorem dX7_factHere_75 : decode cX7_factHere 75 = .ok (.ireturn, 1) := dk_172 (dk_at dksX7_factHere_3 4 rfl rfl)
abbrev cX7_emits : ByteArray := prog_32_method_59_code
def yX7_emits : MethodName := ⟨RX7, "emits", "(I)V"⟩
def dkwX7_emits_1 : List UInt8 := [177]
abbrev dktX7_emits_1 : List UInt8 := dkwX7_emits_1 ++ []
def dkwX7_emits_0 : List UInt8 := [42, 180, 0, 53, 42, 180, 1, 8, 27, 79, 42, 89, 180, 1, 8, 4, 96, 181, 1, 8, 42, 182, 1, 11]
abbrev dktX7_emits_0 : List UInt8 := dkwX7_emits_0 ++ dktX7_emits_1
theorem dksX7_emits_0 : cX7_emits.data.toList.drop 0 = dktX7_emits_0 := by decide +kernel
theorem dksX7_emits_1 : cX7_emits.data.toList.drop 24 = dktX7_emits_1 := dk_seg dksX7_emits_0 24 rfl rfl
theorem dX7_emits_0 : decode cX7_emits 0 = .ok (.aload_n 0, 1) := dk_42 (dk_at dksX7_emits_0 0 rfl rfl)
theorem dX7_emits_1 : decode cX7_emits 1 = .ok (.getfield 53, 3) := dk_180 0 53 (dk_at dksX7_emits_0 1 rfl rfl)
theorem dX7_emits_4 : decode cX7_emits 4 = .ok (.aload_n 0, 1) := dk_42 (dk_at dksX7_emits_0 4 rfl rfl)
theorem dX7_emits_5 : decode cX7_emits 5 = .ok (.getfield 264, 3) := dk_180 1 8 (dk_at dksX7_emits_0 5 rfl rfl)
theorem dX7_emits_8 : decode cX7_emits 8 = .ok (.iload_n 1, 1) := dk_27 (dk_at dksX7_emits_0 8 rfl rfl)
theorem dX7_emits_9 : decode cX7_emits 9 = .ok (.iastore, 1) := dk_79 (dk_at dksX7_emits_0 9 rfl rfl)
theorem dX7_emits_10 : decode cX7_emits 10 = .ok (.aload_n 0, 1) := dk_42 (dk_at dksX7_emits_0 10 rfl rfl)
theorem dX7_emits_11 : decode cX7_emits 11 = .ok (.dup, 1) := dk_89 (dk_at dksX7_emits_0 11 rfl rfl)
theorem dX7_emits_12 : decode cX7_emits 12 = .ok (.getfield 264, 3) := dk_180 1 8 (dk_at dksX7_emits_0 12 rfl rfl)
theorem dX7_emits_15 : decode cX7_emits 15 = .ok (.iconst 1, 1) := dk_4 (dk_at dksX7_emits_0 15 rfl rfl)
theorem dX7_emits_16 : decode cX7_emits 16 = .ok (.iadd, 1) := dk_96 (dk_at dksX7_emits_0 16 rfl rfl)
theorem dX7_emits_17 : decode cX7_emits 17 = .ok (.putfield 264, 3) := dk_181 1 8 (dk_at dksX7_emits_0 17 rfl rfl)
theorem dX7_emits_20 : decode cX7_emits 20 = .ok (.aload_n 0, 1) := dk_42 (dk_at dksX7_emits_0 20 rfl rfl)
theorem dX7_emits_21 : decode cX7_emits 21 = .ok (.invokevirtual 267, 3) := dk_182 1 11 (dk_at dksX7_emits_0 21 rfl rfl)
theorem dX7_emits_24 : decode cX7_emits 24 = .ok (.return_, 1) := dk_177 (dk_at dksX7_emits_1 0 rfl rfl)
abbrev cX7_holds : ByteArray := prog_32_method_68_code
def yX7_holds : MethodName := ⟨RX7, "holds", "(I)Z"⟩
def dkwX7_holds_5 : List UInt8 := [79, 132, 3, 1, 167, 255, 137, 42, 180, 0, 56, 3, 46, 4, 160, 0, 7, 4, 167, 0, 4, 3, 172]
abbrev dktX7_holds_5 : List UInt8 := dkwX7_holds_5 ++ []
def dkwX7_holds_4 : List UInt8 := [180, 0, 56, 28, 4, 100, 46, 42, 180, 0, 56, 28, 46, 184, 1, 74, 153, 0, 7, 4, 167, 0, 4, 3]
abbrev dktX7_holds_4 : List UInt8 := dkwX7_holds_4 ++ dktX7_holds_5
def dkwX7_holds_3 : List UInt8 := [100, 46, 100, 79, 167, 0, 45, 132, 2, 255, 42, 180, 0, 56, 28, 4, 100, 42, 180, 0, 53, 29, 46, 42]
abbrev dktX7_holds_3 : List UInt8 := dkwX7_holds_3 ++ dktX7_holds_4
def dkwX7_holds_2 : List UInt8 := [180, 0, 53, 29, 46, 16, 247, 160, 0, 24, 42, 180, 0, 56, 28, 4, 100, 4, 42, 180, 0, 56, 28, 4]
abbrev dktX7_holds_2 : List UInt8 := dkwX7_holds_2 ++ dktX7_holds_3
def dkwX7_holds_1 : List UInt8 := [180, 0, 56, 28, 42, 42, 180, 0, 53, 29, 46, 27, 182, 1, 71, 79, 132, 2, 1, 167, 0, 77, 42]
abbrev dktX7_holds_1 : List UInt8 := dkwX7_holds_1 ++ dktX7_holds_2
def dkwX7_holds_0 : List UInt8 := [3, 61, 3, 62, 29, 42, 180, 1, 8, 162, 0, 117, 42, 180, 0, 53, 29, 46, 16, 250, 164, 0, 26, 42]
abbrev dktX7_holds_0 : List UInt8 := dkwX7_holds_0 ++ dktX7_holds_1
theorem dksX7_holds_0 : cX7_holds.data.toList.drop 0 = dktX7_holds_0 := by decide +kernel
theorem dksX7_holds_1 : cX7_holds.data.toList.drop 24 = dktX7_holds_1 := dk_seg dksX7_holds_0 24 rfl rfl
theorem dksX7_holds_2 : cX7_holds.data.toList.drop 47 = dktX7_holds_2 := dk_seg dksX7_holds_1 23 rfl rfl
theorem dksX7_holds_3 : cX7_holds.data.toList.drop 71 = dktX7_holds_3 := dk_seg dksX7_holds_2 24 rfl rfl
theorem dksX7_holds_4 : cX7_holds.data.toList.drop 95 = dktX7_holds_4 := dk_seg dksX7_holds_3 24 rfl rfl
theorem dksX7_holds_5 : cX7_holds.data.toList.drop 119 = dktX7_holds_5 := dk_seg dksX7_holds_4 24 rfl rfl
theorem dX7_holds_0 : decode cX7_holds 0 = .ok (.iconst 0, 1) := dk_3 (dk_at dksX7_holds_0 0 rfl rfl)
theorem dX7_holds_1 : decode cX7_holds 1 = .ok (.istore_n 2, 1) := dk_61 (dk_at dksX7_holds_0 1 rfl rfl)
theorem dX7_holds_2 : decode cX7_holds 2 = .ok (.iconst 0, 1) := dk_3 (dk_at dksX7_holds_0 2 rfl rfl)
theorem dX7_holds_3 : decode cX7_holds 3 = .ok (.istore_n 3, 1) := dk_62 (dk_at dksX7_holds_0 3 rfl rfl)
theorem dX7_holds_4 : decode cX7_holds 4 = .ok (.iload_n 3, 1) := dk_29 (dk_at dksX7_holds_0 4 rfl rfl)
theorem dX7_holds_5 : decode cX7_holds 5 = .ok (.aload_n 0, 1) := dk_42 (dk_at dksX7_holds_0 5 rfl rfl)
theorem dX7_holds_6 : decode cX7_holds 6 = .ok (.getfield 264, 3) := dk_180 1 8 (dk_at dksX7_holds_0 6 rfl rfl)
theorem dX7_holds_9 : decode cX7_holds 9 = .ok (.if_icmp .ge 117, 3) := dk_162 0 117 (dk_at dksX7_holds_0 9 rfl rfl)
theorem dX7_holds_12 : decode cX7_holds 12 = .ok (.aload_n 0, 1) := dk_42 (dk_at dksX7_holds_0 12 rfl rfl)
theorem dX7_holds_13 : decode cX7_holds 13 = .ok (.getfield 53, 3) := dk_180 0 53 (dk_at dksX7_holds_0 13 rfl rfl)
theorem dX7_holds_16 : decode cX7_holds 16 = .ok (.iload_n 3, 1) := dk_29 (dk_at dksX7_holds_0 16 rfl rfl)
theorem dX7_holds_17 : decode cX7_holds 17 = .ok (.iaload, 1) := dk_46 (dk_at dksX7_holds_0 17 rfl rfl)
theorem dX7_holds_18 : decode cX7_holds 18 = .ok (.bipush (-6), 2) := dk_16 250 (dk_at dksX7_holds_0 18 rfl rfl)
theorem dX7_holds_20 : decode cX7_holds 20 = .ok (.if_icmp .le 26, 3) := dk_164 0 26 (dk_at dksX7_holds_0 20 rfl rfl)
theorem dX7_holds_23 : decode cX7_holds 23 = .ok (.aload_n 0, 1) := dk_42 (dk_at dksX7_holds_0 23 rfl rfl)
theorem dX7_holds_24 : decode cX7_holds 24 = .ok (.getfield 56, 3) := dk_180 0 56 (dk_at dksX7_holds_1 0 rfl rfl)
theorem dX7_holds_27 : decode cX7_holds 27 = .ok (.iload_n 2, 1) := dk_28 (dk_at dksX7_holds_1 3 rfl rfl)
theorem dX7_holds_28 : decode cX7_holds 28 = .ok (.aload_n 0, 1) := dk_42 (dk_at dksX7_holds_1 4 rfl rfl)
theorem dX7_holds_29 : decode cX7_holds 29 = .ok (.aload_n 0, 1) := dk_42 (dk_at dksX7_holds_1 5 rfl rfl)
theorem dX7_holds_30 : decode cX7_holds 30 = .ok (.getfield 53, 3) := dk_180 0 53 (dk_at dksX7_holds_1 6 rfl rfl)
theorem dX7_holds_33 : decode cX7_holds 33 = .ok (.iload_n 3, 1) := dk_29 (dk_at dksX7_holds_1 9 rfl rfl)
theorem dX7_holds_34 : decode cX7_holds 34 = .ok (.iaload, 1) := dk_46 (dk_at dksX7_holds_1 10 rfl rfl)
theorem dX7_holds_35 : decode cX7_holds 35 = .ok (.iload_n 1, 1) := dk_27 (dk_at dksX7_holds_1 11 rfl rfl)
theorem dX7_holds_36 : decode cX7_holds 36 = .ok (.invokevirtual 327, 3) := dk_182 1 71 (dk_at dksX7_holds_1 12 rfl rfl)
theorem dX7_holds_39 : decode cX7_holds 39 = .ok (.iastore, 1) := dk_79 (dk_at dksX7_holds_1 15 rfl rfl)
theorem dX7_holds_40 : decode cX7_holds 40 = .ok (.iinc 2 1, 3) := dk_132 2 1 (dk_at dksX7_holds_1 16 rfl rfl)
theorem dX7_holds_43 : decode cX7_holds 43 = .ok (.goto 77, 3) := dk_167 0 77 (dk_at dksX7_holds_1 19 rfl rfl)
theorem dX7_holds_46 : decode cX7_holds 46 = .ok (.aload_n 0, 1) := dk_42 (dk_at dksX7_holds_1 22 rfl rfl)
theorem dX7_holds_47 : decode cX7_holds 47 = .ok (.getfield 53, 3) := dk_180 0 53 (dk_at dksX7_holds_2 0 rfl rfl)
theorem dX7_holds_50 : decode cX7_holds 50 = .ok (.iload_n 3, 1) := dk_29 (dk_at dksX7_holds_2 3 rfl rfl)
theorem dX7_holds_51 : decode cX7_holds 51 = .ok (.iaload, 1) := dk_46 (dk_at dksX7_holds_2 4 rfl rfl)
theorem dX7_holds_52 : decode cX7_holds 52 = .ok (.bipush (-9), 2) := dk_16 247 (dk_at dksX7_holds_2 5 rfl rfl)
theorem dX7_holds_54 : decode cX7_holds 54 = .ok (.if_icmp .ne 24, 3) := dk_160 0 24 (dk_at dksX7_holds_2 7 rfl rfl)
theorem dX7_holds_57 : decode cX7_holds 57 = .ok (.aload_n 0, 1) := dk_42 (dk_at dksX7_holds_2 10 rfl rfl)
theorem dX7_holds_58 : decode cX7_holds 58 = .ok (.getfield 56, 3) := dk_180 0 56 (dk_at dksX7_holds_2 11 rfl rfl)
theorem dX7_holds_61 : decode cX7_holds 61 = .ok (.iload_n 2, 1) := dk_28 (dk_at dksX7_holds_2 14 rfl rfl)
theorem dX7_holds_62 : decode cX7_holds 62 = .ok (.iconst 1, 1) := dk_4 (dk_at dksX7_holds_2 15 rfl rfl)
theorem dX7_holds_63 : decode cX7_holds 63 = .ok (.isub, 1) := dk_100 (dk_at dksX7_holds_2 16 rfl rfl)
theorem dX7_holds_64 : decode cX7_holds 64 = .ok (.iconst 1, 1) := dk_4 (dk_at dksX7_holds_2 17 rfl rfl)
theorem dX7_holds_65 : decode cX7_holds 65 = .ok (.aload_n 0, 1) := dk_42 (dk_at dksX7_holds_2 18 rfl rfl)
theorem dX7_holds_66 : decode cX7_holds 66 = .ok (.getfield 56, 3) := dk_180 0 56 (dk_at dksX7_holds_2 19 rfl rfl)
theorem dX7_holds_69 : decode cX7_holds 69 = .ok (.iload_n 2, 1) := dk_28 (dk_at dksX7_holds_2 22 rfl rfl)
theorem dX7_holds_70 : decode cX7_holds 70 = .ok (.iconst 1, 1) := dk_4 (dk_at dksX7_holds_2 23 rfl rfl)
theorem dX7_holds_71 : decode cX7_holds 71 = .ok (.isub, 1) := dk_100 (dk_at dksX7_holds_3 0 rfl rfl)
theorem dX7_holds_72 : decode cX7_holds 72 = .ok (.iaload, 1) := dk_46 (dk_at dksX7_holds_3 1 rfl rfl)
theorem dX7_holds_73 : decode cX7_holds 73 = .ok (.isub, 1) := dk_100 (dk_at dksX7_holds_3 2 rfl rfl)
theorem dX7_holds_74 : decode cX7_holds 74 = .ok (.iastore, 1) := dk_79 (dk_at dksX7_holds_3 3 rfl rfl)
theorem dX7_holds_75 : decode cX7_holds 75 = .ok (.goto 45, 3) := dk_167 0 45 (dk_at dksX7_holds_3 4 rfl rfl)
theorem dX7_holds_78 : decode cX7_holds 78 = .ok (.iinc 2 (-1), 3) := dk_132 2 255 (dk_at dksX7_holds_3 7 rfl rfl)
theorem dX7_holds_81 : decode cX7_holds 81 = .ok (.aload_n 0, 1) := dk_42 (dk_at dksX7_holds_3 10 rfl rfl)
theorem dX7_holds_82 : decode cX7_holds 82 = .ok (.getfield 56, 3) := dk_180 0 56 (dk_at dksX7_holds_3 11 rfl rfl)
theorem dX7_holds_85 : decode cX7_holds 85 = .ok (.iload_n 2, 1) := dk_28 (dk_at dksX7_holds_3 14 rfl rfl)
theorem dX7_holds_86 : decode cX7_holds 86 = .ok (.iconst 1, 1) := dk_4 (dk_at dksX7_holds_3 15 rfl rfl)
theorem dX7_holds_87 : decode cX7_holds 87 = .ok (.isub, 1) := dk_100 (dk_at dksX7_holds_3 16 rfl rfl)
theorem dX7_holds_88 : decode cX7_holds 88 = .ok (.aload_n 0, 1) := dk_42 (dk_at dksX7_holds_3 17 rfl rfl)
theorem dX7_holds_89 : decode cX7_holds 89 = .ok (.getfield 53, 3) := dk_180 0 53 (dk_at dksX7_holds_3 18 rfl rfl)
theorem dX7_holds_92 : decode cX7_holds 92 = .ok (.iload_n 3, 1) := dk_29 (dk_at dksX7_holds_3 21 rfl rfl)
theorem dX7_holds_93 : decode cX7_holds 93 = .ok (.iaload, 1) := dk_46 (dk_at dksX7_holds_3 22 rfl rfl)
theorem dX7_holds_94 : decode cX7_holds 94 = .ok (.aload_n 0, 1) := dk_42 (dk_at dksX7_holds_3 23 rfl rfl)
theorem dX7_holds_95 : decode cX7_holds 95 = .ok (.getfield 56, 3) := dk_180 0 56 (dk_at dksX7_holds_4 0 rfl rfl)
theorem dX7_holds_98 : decode cX7_holds 98 = .ok (.iload_n 2, 1) := dk_28 (dk_at dksX7_holds_4 3 rfl rfl)
theorem dX7_holds_99 : decode cX7_holds 99 = .ok (.iconst 1, 1) := dk_4 (dk_at dksX7_holds_4 4 rfl rfl)
theorem dX7_holds_100 : decode cX7_holds 100 = .ok (.isub, 1) := dk_100 (dk_at dksX7_holds_4 5 rfl rfl)
theorem dX7_holds_101 : decode cX7_holds 101 = .ok (.iaload, 1) := dk_46 (dk_at dksX7_holds_4 6 rfl rfl)
theorem dX7_holds_102 : decode cX7_holds 102 = .ok (.aload_n 0, 1) := dk_42 (dk_at dksX7_holds_4 7 rfl rfl)
theorem dX7_holds_103 : decode cX7_holds 103 = .ok (.getfield 56, 3) := dk_180 0 56 (dk_at dksX7_holds_4 8 rfl rfl)
theorem dX7_holds_106 : decode cX7_holds 106 = .ok (.iload_n 2, 1) := dk_28 (dk_at dksX7_holds_4 11 rfl rfl)
theorem dX7_holds_107 : decode cX7_holds 107 = .ok (.iaload, 1) := dk_46 (dk_at dksX7_holds_4 12 rfl rfl)
theorem dX7_holds_108 : decode cX7_holds 108 = .ok (.invokestatic 330, 3) := dk_184 1 74 (dk_at dksX7_holds_4 13 rfl rfl)
theorem dX7_holds_111 : decode cX7_holds 111 = .ok (.ifCond .eq 7, 3) := dk_153 0 7 (dk_at dksX7_holds_4 16 rfl rfl)
theorem dX7_holds_114 : decode cX7_holds 114 = .ok (.iconst 1, 1) := dk_4 (dk_at dksX7_holds_4 19 rfl rfl)
theorem dX7_holds_115 : decode cX7_holds 115 = .ok (.goto 4, 3) := dk_167 0 4 (dk_at dksX7_holds_4 20 rfl rfl)
theorem dX7_holds_118 : decode cX7_holds 118 = .ok (.iconst 0, 1) := dk_3 (dk_at dksX7_holds_4 23 rfl rfl)
theorem dX7_holds_119 : decode cX7_holds 119 = .ok (.iastore, 1) := dk_79 (dk_at dksX7_holds_5 0 rfl rfl)
theorem dX7_holds_120 : decode cX7_holds 120 = .ok (.iinc 3 1, 3) := dk_132 3 1 (dk_at dksX7_holds_5 1 rfl rfl)
theorem dX7_holds_123 : decode cX7_holds 123 = .ok (.goto (-119), 3) := dk_167 255 137 (dk_at dksX7_holds_5 4 rfl rfl)
theorem dX7_holds_126 : decode cX7_holds 126 = .ok (.aload_n 0, 1) := dk_42 (dk_at dksX7_holds_5 7 rfl rfl)
theorem dX7_holds_127 : decode cX7_holds 127 = .ok (.getfield 56, 3) := dk_180 0 56 (dk_at dksX7_holds_5 8 rfl rfl)
theorem dX7_holds_130 : decode cX7_holds 130 = .ok (.iconst 0, 1) := dk_3 (dk_at dksX7_holds_5 11 rfl rfl)
theorem dX7_holds_131 : decode cX7_holds 131 = .ok (.iaload, 1) := dk_46 (dk_at dksX7_holds_5 12 rfl rfl)
theorem dX7_holds_132 : decode cX7_holds 132 = .ok (.iconst 1, 1) := dk_4 (dk_at dksX7_holds_5 13 rfl rfl)
theorem dX7_holds_133 : decode cX7_holds 133 = .ok (.if_icmp .ne 7, 3) := dk_160 0 7 (dk_at dksX7_holds_5 14 rfl rfl)
theorem dX7_holds_136 : decode cX7_holds 136 = .ok (.iconst 1, 1) := dk_4 (dk_at dksX7_holds_5 17 rfl rfl)
theorem dX7_holds_137 : decode cX7_holds 137 = .ok (.goto 4, 3) := dk_167 0 4 (dk_at dksX7_holds_5 18 rfl rfl)
theorem dX7_holds_140 : decode cX7_holds 140 = .ok (.iconst 0, 1) := dk_3 (dk_at dksX7_holds_5 21 rfl rfl)
theorem dX7_holds_141 : decode cX7_holds 141 = .ok (.ireturn, 1) := dk_172 (dk_at dksX7_holds_5 22 rfl rfl)
abbrev cX7_fact : ByteArray := prog_32_method_66_code
def yX7_fact : MethodName := ⟨RX7, "fact", "(II)I"⟩
def dkwX7_fact_3 : List UInt8 := [180, 0, 29, 28, 46, 100, 4, 100, 29, 100, 172, 42, 180, 0, 7, 172, 27, 172]
abbrev dktX7_fact_3 : List UInt8 := dkwX7_fact_3 ++ []
def dkwX7_fact_2 : List UInt8 := [42, 180, 0, 29, 28, 46, 172, 42, 180, 0, 32, 28, 46, 172, 29, 172, 42, 180, 0, 32, 28, 46, 42]
abbrev dktX7_fact_2 : List UInt8 := dkwX7_fact_2 ++ dktX7_fact_3
def dkwX7_fact_1 : List UInt8 := [170, 0, 0, 0, 0, 0, 0, 75, 255, 255, 255, 251, 255, 255, 255, 255, 0, 0, 0, 70, 0, 0, 0, 52, 0, 0, 0, 50, 0, 0, 0, 43, 0, 0, 0, 36]
abbrev dktX7_fact_1 : List UInt8 := dkwX7_fact_1 ++ dktX7_fact_2
def dkwX7_fact_0 : List UInt8 := [42, 180, 0, 35, 28, 46, 133, 184, 0, 127, 62, 27]
abbrev dktX7_fact_0 : List UInt8 := dkwX7_fact_0 ++ dktX7_fact_1
theorem dksX7_fact_0 : cX7_fact.data.toList.drop 0 = dktX7_fact_0 := by decide +kernel
theorem dksX7_fact_1 : cX7_fact.data.toList.drop 12 = dktX7_fact_1 := dk_seg dksX7_fact_0 12 rfl rfl
theorem dksX7_fact_2 : cX7_fact.data.toList.drop 48 = dktX7_fact_2 := dk_seg dksX7_fact_1 36 rfl rfl
theorem dksX7_fact_3 : cX7_fact.data.toList.drop 71 = dktX7_fact_3 := dk_seg dksX7_fact_2 23 rfl rfl
theorem dX7_fact_0 : decode cX7_fact 0 = .ok (.aload_n 0, 1) := dk_42 (dk_at dksX7_fact_0 0 rfl rfl)
theorem dX7_fact_1 : decode cX7_fact 1 = .ok (.getfield 35, 3) := dk_180 0 35 (dk_at dksX7_fact_0 1 rfl rfl)
theorem dX7_fact_4 : decode cX7_fact 4 = .ok (.iload_n 2, 1) := dk_28 (dk_at dksX7_fact_0 4 rfl rfl)
theorem dX7_fact_5 : decode cX7_fact 5 = .ok (.iaload, 1) := dk_46 (dk_at dksX7_fact_0 5 rfl rfl)
theorem dX7_fact_6 : decode cX7_fact 6 = .ok (.i2l, 1) := dk_133 (dk_at dksX7_fact_0 6 rfl rfl)
theorem dX7_fact_7 : decode cX7_fact 7 = .ok (.invokestatic 127, 3) := dk_184 0 127 (dk_at dksX7_fact_0 7 rfl rfl)
theorem dX7_fact_10 : decode cX7_fact 10 = .ok (.istore_n 3, 1) := dk_62 (dk_at dksX7_fact_0 10 rfl rfl)
theorem dX7_fact_11 : decode cX7_fact 11 = .ok (.iload_n 1, 1) := dk_27 (dk_at dksX7_fact_0 11 rfl rfl)
theorem dX7_fact_12 : decode cX7_fact 12 = .ok (.tableswitch 75 (-5) (-1) #[70, 52, 50, 43, 36], 36) := by decide +kernel
theorem dX7_fact_48 : decode cX7_fact 48 = .ok (.aload_n 0, 1) := dk_42 (dk_at dksX7_fact_2 0 rfl rfl)
theorem dX7_fact_49 : decode cX7_fact 49 = .ok (.getfield 29, 3) := dk_180 0 29 (dk_at dksX7_fact_2 1 rfl rfl)
theorem dX7_fact_52 : decode cX7_fact 52 = .ok (.iload_n 2, 1) := dk_28 (dk_at dksX7_fact_2 4 rfl rfl)
theorem dX7_fact_53 : decode cX7_fact 53 = .ok (.iaload, 1) := dk_46 (dk_at dksX7_fact_2 5 rfl rfl)
theorem dX7_fact_54 : decode cX7_fact 54 = .ok (.ireturn, 1) := dk_172 (dk_at dksX7_fact_2 6 rfl rfl)
theorem dX7_fact_55 : decode cX7_fact 55 = .ok (.aload_n 0, 1) := dk_42 (dk_at dksX7_fact_2 7 rfl rfl)
theorem dX7_fact_56 : decode cX7_fact 56 = .ok (.getfield 32, 3) := dk_180 0 32 (dk_at dksX7_fact_2 8 rfl rfl)
theorem dX7_fact_59 : decode cX7_fact 59 = .ok (.iload_n 2, 1) := dk_28 (dk_at dksX7_fact_2 11 rfl rfl)
theorem dX7_fact_60 : decode cX7_fact 60 = .ok (.iaload, 1) := dk_46 (dk_at dksX7_fact_2 12 rfl rfl)
theorem dX7_fact_61 : decode cX7_fact 61 = .ok (.ireturn, 1) := dk_172 (dk_at dksX7_fact_2 13 rfl rfl)
theorem dX7_fact_62 : decode cX7_fact 62 = .ok (.iload_n 3, 1) := dk_29 (dk_at dksX7_fact_2 14 rfl rfl)
theorem dX7_fact_63 : decode cX7_fact 63 = .ok (.ireturn, 1) := dk_172 (dk_at dksX7_fact_2 15 rfl rfl)
theorem dX7_fact_64 : decode cX7_fact 64 = .ok (.aload_n 0, 1) := dk_42 (dk_at dksX7_fact_2 16 rfl rfl)
theorem dX7_fact_65 : decode cX7_fact 65 = .ok (.getfield 32, 3) := dk_180 0 32 (dk_at dksX7_fact_2 17 rfl rfl)
theorem dX7_fact_68 : decode cX7_fact 68 = .ok (.iload_n 2, 1) := dk_28 (dk_at dksX7_fact_2 20 rfl rfl)
theorem dX7_fact_69 : decode cX7_fact 69 = .ok (.iaload, 1) := dk_46 (dk_at dksX7_fact_2 21 rfl rfl)
theorem dX7_fact_70 : decode cX7_fact 70 = .ok (.aload_n 0, 1) := dk_42 (dk_at dksX7_fact_2 22 rfl rfl)
theorem dX7_fact_71 : decode cX7_fact 71 = .ok (.getfield 29, 3) := dk_180 0 29 (dk_at dksX7_fact_3 0 rfl rfl)
theorem dX7_fact_74 : decode cX7_fact 74 = .ok (.iload_n 2, 1) := dk_28 (dk_at dksX7_fact_3 3 rfl rfl)
theorem dX7_fact_75 : decode cX7_fact 75 = .ok (.iaload, 1) := dk_46 (dk_at dksX7_fact_3 4 rfl rfl)
theorem dX7_fact_76 : decode cX7_fact 76 = .ok (.isub, 1) := dk_100 (dk_at dksX7_fact_3 5 rfl rfl)
theorem dX7_fact_77 : decode cX7_fact 77 = .ok (.iconst 1, 1) := dk_4 (dk_at dksX7_fact_3 6 rfl rfl)
theorem dX7_fact_78 : decode cX7_fact 78 = .ok (.isub, 1) := dk_100 (dk_at dksX7_fact_3 7 rfl rfl)
theorem dX7_fact_79 : decode cX7_fact 79 = .ok (.iload_n 3, 1) := dk_29 (dk_at dksX7_fact_3 8 rfl rfl)
theorem dX7_fact_80 : decode cX7_fact 80 = .ok (.isub, 1) := dk_100 (dk_at dksX7_fact_3 9 rfl rfl)
theorem dX7_fact_81 : decode cX7_fact 81 = .ok (.ireturn, 1) := dk_172 (dk_at dksX7_fact_3 10 rfl rfl)
theorem dX7_fact_82 : decode cX7_fact 82 = .ok (.aload_n 0, 1) := dk_42 (dk_at dksX7_fact_3 11 rfl rfl)
theorem dX7_fact_83 : decode cX7_fact 83 = .ok (.getfield 7, 3) := dk_180 0 7 (dk_at dksX7_fact_3 12 rfl rfl)
theorem dX7_fact_86 : decode cX7_fact 86 = .ok (.ireturn, 1) := dk_172 (dk_at dksX7_fact_3 15 rfl rfl)
theorem dX7_fact_87 : decode cX7_fact 87 = .ok (.iload_n 1, 1) := dk_27 (dk_at dksX7_fact_3 16 rfl rfl)
theorem dX7_fact_88 : decode cX7_fact 88 = .ok (.ireturn, 1) := dk_172 (dk_at dksX7_fact_3 17 rfl rfl)
abbrev cX7_isSo : ByteArray := prog_32_method_67_code
def yX7_isSo : MethodName := ⟨RX7, "isSo", "(III)Z"⟩
def dkwX7_isSo_4 : List UInt8 := [96, 158, 0, 7, 4, 167, 0, 4, 3, 172]
abbrev dktX7_isSo_4 : List UInt8 := dkwX7_isSo_4 ++ []
def dkwX7_isSo_3 : List UInt8 := [164, 0, 7, 4, 167, 0, 4, 3, 172, 27, 28, 96, 5, 160, 0, 7, 4, 167, 0, 4, 3, 172, 27, 28]
abbrev dktX7_isSo_3 : List UInt8 := dkwX7_isSo_3 ++ dktX7_isSo_4
def dkwX7_isSo_2 : List UInt8 := [27, 28, 162, 0, 7, 4, 167, 0, 4, 3, 172, 27, 28, 160, 0, 7, 4, 167, 0, 4, 3, 172, 27, 28]
abbrev dktX7_isSo_2 : List UInt8 := dkwX7_isSo_2 ++ dktX7_isSo_3
def dkwX7_isSo_1 : List UInt8 := [170, 0, 0, 0, 0, 0, 81, 255, 255, 255, 246, 255, 255, 255, 250, 0, 0, 0, 68, 0, 0, 0, 81, 0, 0, 0, 57, 0, 0, 0, 46, 0, 0, 0, 35]
abbrev dktX7_isSo_1 : List UInt8 := dkwX7_isSo_1 ++ dktX7_isSo_2
def dkwX7_isSo_0 : List UInt8 := [26]
abbrev dktX7_isSo_0 : List UInt8 := dkwX7_isSo_0 ++ dktX7_isSo_1
theorem dksX7_isSo_0 : cX7_isSo.data.toList.drop 0 = dktX7_isSo_0 := by decide +kernel
theorem dksX7_isSo_1 : cX7_isSo.data.toList.drop 1 = dktX7_isSo_1 := dk_seg dksX7_isSo_0 1 rfl rfl
theorem dksX7_isSo_2 : cX7_isSo.data.toList.drop 36 = dktX7_isSo_2 := dk_seg dksX7_isSo_1 35 rfl rfl
theorem dksX7_isSo_3 : cX7_isSo.data.toList.drop 60 = dktX7_isSo_3 := dk_seg dksX7_isSo_2 24 rfl rfl
theorem dksX7_isSo_4 : cX7_isSo.data.toList.drop 84 = dktX7_isSo_4 := dk_seg dksX7_isSo_3 24 rfl rfl
theorem dX7_isSo_0 : decode cX7_isSo 0 = .ok (.iload_n 0, 1) := dk_26 (dk_at dksX7_isSo_0 0 rfl rfl)
theorem dX7_isSo_1 : decode cX7_isSo 1 = .ok (.tableswitch 81 (-10) (-6) #[68, 81, 57, 46, 35], 35) := by decide +kernel
theorem dX7_isSo_36 : decode cX7_isSo 36 = .ok (.iload_n 1, 1) := dk_27 (dk_at dksX7_isSo_2 0 rfl rfl)
theorem dX7_isSo_37 : decode cX7_isSo 37 = .ok (.iload_n 2, 1) := dk_28 (dk_at dksX7_isSo_2 1 rfl rfl)
theorem dX7_isSo_38 : decode cX7_isSo 38 = .ok (.if_icmp .ge 7, 3) := dk_162 0 7 (dk_at dksX7_isSo_2 2 rfl rfl)
theorem dX7_isSo_41 : decode cX7_isSo 41 = .ok (.iconst 1, 1) := dk_4 (dk_at dksX7_isSo_2 5 rfl rfl)
theorem dX7_isSo_42 : decode cX7_isSo 42 = .ok (.goto 4, 3) := dk_167 0 4 (dk_at dksX7_isSo_2 6 rfl rfl)
theorem dX7_isSo_45 : decode cX7_isSo 45 = .ok (.iconst 0, 1) := dk_3 (dk_at dksX7_isSo_2 9 rfl rfl)
theorem dX7_isSo_46 : decode cX7_isSo 46 = .ok (.ireturn, 1) := dk_172 (dk_at dksX7_isSo_2 10 rfl rfl)
theorem dX7_isSo_47 : decode cX7_isSo 47 = .ok (.iload_n 1, 1) := dk_27 (dk_at dksX7_isSo_2 11 rfl rfl)
theorem dX7_isSo_48 : decode cX7_isSo 48 = .ok (.iload_n 2, 1) := dk_28 (dk_at dksX7_isSo_2 12 rfl rfl)
theorem dX7_isSo_49 : decode cX7_isSo 49 = .ok (.if_icmp .ne 7, 3) := dk_160 0 7 (dk_at dksX7_isSo_2 13 rfl rfl)
theorem dX7_isSo_52 : decode cX7_isSo 52 = .ok (.iconst 1, 1) := dk_4 (dk_at dksX7_isSo_2 16 rfl rfl)
theorem dX7_isSo_53 : decode cX7_isSo 53 = .ok (.goto 4, 3) := dk_167 0 4 (dk_at dksX7_isSo_2 17 rfl rfl)
theorem dX7_isSo_56 : decode cX7_isSo 56 = .ok (.iconst 0, 1) := dk_3 (dk_at dksX7_isSo_2 20 rfl rfl)
theorem dX7_isSo_57 : decode cX7_isSo 57 = .ok (.ireturn, 1) := dk_172 (dk_at dksX7_isSo_2 21 rfl rfl)
theorem dX7_isSo_58 : decode cX7_isSo 58 = .ok (.iload_n 1, 1) := dk_27 (dk_at dksX7_isSo_2 22 rfl rfl)
theorem dX7_isSo_59 : decode cX7_isSo 59 = .ok (.iload_n 2, 1) := dk_28 (dk_at dksX7_isSo_2 23 rfl rfl)
theorem dX7_isSo_60 : decode cX7_isSo 60 = .ok (.if_icmp .le 7, 3) := dk_164 0 7 (dk_at dksX7_isSo_3 0 rfl rfl)
theorem dX7_isSo_63 : decode cX7_isSo 63 = .ok (.iconst 1, 1) := dk_4 (dk_at dksX7_isSo_3 3 rfl rfl)
theorem dX7_isSo_64 : decode cX7_isSo 64 = .ok (.goto 4, 3) := dk_167 0 4 (dk_at dksX7_isSo_3 4 rfl rfl)
theorem dX7_isSo_67 : decode cX7_isSo 67 = .ok (.iconst 0, 1) := dk_3 (dk_at dksX7_isSo_3 7 rfl rfl)
theorem dX7_isSo_68 : decode cX7_isSo 68 = .ok (.ireturn, 1) := dk_172 (dk_at dksX7_isSo_3 8 rfl rfl)
theorem dX7_isSo_69 : decode cX7_isSo 69 = .ok (.iload_n 1, 1) := dk_27 (dk_at dksX7_isSo_3 9 rfl rfl)
theorem dX7_isSo_70 : decode cX7_isSo 70 = .ok (.iload_n 2, 1) := dk_28 (dk_at dksX7_isSo_3 10 rfl rfl)
theorem dX7_isSo_71 : decode cX7_isSo 71 = .ok (.iadd, 1) := dk_96 (dk_at dksX7_isSo_3 11 rfl rfl)
theorem dX7_isSo_72 : decode cX7_isSo 72 = .ok (.iconst 2, 1) := dk_5 (dk_at dksX7_isSo_3 12 rfl rfl)
theorem dX7_isSo_73 : decode cX7_isSo 73 = .ok (.if_icmp .ne 7, 3) := dk_160 0 7 (dk_at dksX7_isSo_3 13 rfl rfl)
theorem dX7_isSo_76 : decode cX7_isSo 76 = .ok (.iconst 1, 1) := dk_4 (dk_at dksX7_isSo_3 16 rfl rfl)
theorem dX7_isSo_77 : decode cX7_isSo 77 = .ok (.goto 4, 3) := dk_167 0 4 (dk_at dksX7_isSo_3 17 rfl rfl)
theorem dX7_isSo_80 : decode cX7_isSo 80 = .ok (.iconst 0, 1) := dk_3 (dk_at dksX7_isSo_3 20 rfl rfl)
theorem dX7_isSo_81 : decode cX7_isSo 81 = .ok (.ireturn, 1) := dk_172 (dk_at dksX7_isSo_3 21 rfl rfl)
theorem dX7_isSo_82 : decode cX7_isSo 82 = .ok (.iload_n 1, 1) := dk_27 (dk_at dksX7_isSo_3 22 rfl rfl)
theorem dX7_isSo_83 : decode cX7_isSo 83 = .ok (.iload_n 2, 1) := dk_28 (dk_at dksX7_isSo_3 23 rfl rfl)
theorem dX7_isSo_84 : decode cX7_isSo 84 = .ok (.iadd, 1) := dk_96 (dk_at dksX7_isSo_4 0 rfl rfl)
theorem dX7_isSo_85 : decode cX7_isSo 85 = .ok (.ifCond .le 7, 3) := dk_158 0 7 (dk_at dksX7_isSo_4 1 rfl rfl)
theorem dX7_isSo_88 : decode cX7_isSo 88 = .ok (.iconst 1, 1) := dk_4 (dk_at dksX7_isSo_4 4 rfl rfl)
theorem dX7_isSo_89 : decode cX7_isSo 89 = .ok (.goto 4, 3) := dk_167 0 4 (dk_at dksX7_isSo_4 5 rfl rfl)
theorem dX7_isSo_92 : decode cX7_isSo 92 = .ok (.iconst 0, 1) := dk_3 (dk_at dksX7_isSo_4 8 rfl rfl)
theorem dX7_isSo_93 : decode cX7_isSo 93 = .ok (.ireturn, 1) := dk_172 (dk_at dksX7_isSo_4 9 rfl rfl)
abbrev cX7_clear : ByteArray := prog_32_method_70_code
def yX7_clear : MethodName := ⟨RX7, "clear", "()I"⟩
def dkwX7_clear_0 : List UInt8 := [42, 180, 0, 137, 184, 0, 127, 60, 42, 9, 181, 0, 137, 27, 172]
abbrev dktX7_clear_0 : List UInt8 := dkwX7_clear_0 ++ []
theorem dksX7_clear_0 : cX7_clear.data.toList.drop 0 = dktX7_clear_0 := by decide +kernel
theorem dX7_clear_0 : decode cX7_clear 0 = .ok (.aload_n 0, 1) := dk_42 (dk_at dksX7_clear_0 0 rfl rfl)
theorem dX7_clear_1 : decode cX7_clear 1 = .ok (.getfield 137, 3) := dk_180 0 137 (dk_at dksX7_clear_0 1 rfl rfl)
theorem dX7_clear_4 : decode cX7_clear 4 = .ok (.invokestatic 127, 3) := dk_184 0 127 (dk_at dksX7_clear_0 4 rfl rfl)
theorem dX7_clear_7 : decode cX7_clear 7 = .ok (.istore_n 1, 1) := dk_60 (dk_at dksX7_clear_0 7 rfl rfl)
theorem dX7_clear_8 : decode cX7_clear 8 = .ok (.aload_n 0, 1) := dk_42 (dk_at dksX7_clear_0 8 rfl rfl)
theorem dX7_clear_9 : decode cX7_clear 9 = .ok (.lconst 0, 1) := dk_9 (dk_at dksX7_clear_0 9 rfl rfl)
theorem dX7_clear_10 : decode cX7_clear 10 = .ok (.putfield 137, 3) := dk_181 0 137 (dk_at dksX7_clear_0 10 rfl rfl)
theorem dX7_clear_13 : decode cX7_clear 13 = .ok (.iload_n 1, 1) := dk_27 (dk_at dksX7_clear_0 13 rfl rfl)
theorem dX7_clear_14 : decode cX7_clear 14 = .ok (.ireturn, 1) := dk_172 (dk_at dksX7_clear_0 14 rfl rfl)
abbrev cX7_alike : ByteArray := prog_32_method_77_code
def yX7_alike : MethodName := ⟨RX7, "alike", "(II)I"⟩
def dkwX7_alike_2 : List UInt8 := [42, 27, 182, 1, 93, 172]
abbrev dktX7_alike_2 : List UInt8 := dkwX7_alike_2 ++ []
def dkwX7_alike_1 : List UInt8 := [154, 0, 11, 42, 27, 182, 1, 87, 167, 0, 21, 28, 4, 160, 0, 11, 42, 27, 182, 1, 90, 167, 0, 8]
abbrev dktX7_alike_1 : List UInt8 := dkwX7_alike_1 ++ dktX7_alike_2
def dkwX7_alike_0 : List UInt8 := [42, 27, 182, 0, 116, 153, 0, 15, 28, 133, 9, 20, 0, 226, 184, 0, 133, 154, 0, 5, 2, 172, 28]
abbrev dktX7_alike_0 : List UInt8 := dkwX7_alike_0 ++ dktX7_alike_1
theorem dksX7_alike_0 : cX7_alike.data.toList.drop 0 = dktX7_alike_0 := by decide +kernel
theorem dksX7_alike_1 : cX7_alike.data.toList.drop 23 = dktX7_alike_1 := dk_seg dksX7_alike_0 23 rfl rfl
theorem dksX7_alike_2 : cX7_alike.data.toList.drop 47 = dktX7_alike_2 := dk_seg dksX7_alike_1 24 rfl rfl
theorem dX7_alike_0 : decode cX7_alike 0 = .ok (.aload_n 0, 1) := dk_42 (dk_at dksX7_alike_0 0 rfl rfl)
theorem dX7_alike_1 : decode cX7_alike 1 = .ok (.iload_n 1, 1) := dk_27 (dk_at dksX7_alike_0 1 rfl rfl)
theorem dX7_alike_2 : decode cX7_alike 2 = .ok (.invokevirtual 116, 3) := dk_182 0 116 (dk_at dksX7_alike_0 2 rfl rfl)
theorem dX7_alike_5 : decode cX7_alike 5 = .ok (.ifCond .eq 15, 3) := dk_153 0 15 (dk_at dksX7_alike_0 5 rfl rfl)
theorem dX7_alike_8 : decode cX7_alike 8 = .ok (.iload_n 2, 1) := dk_28 (dk_at dksX7_alike_0 8 rfl rfl)
theorem dX7_alike_9 : decode cX7_alike 9 = .ok (.i2l, 1) := dk_133 (dk_at dksX7_alike_0 9 rfl rfl)
theorem dX7_alike_10 : decode cX7_alike 10 = .ok (.lconst 0, 1) := dk_9 (dk_at dksX7_alike_0 10 rfl rfl)
theorem dX7_alike_11 : decode cX7_alike 11 = .ok (.ldc2_w 226, 3) := dk_20 0 226 (dk_at dksX7_alike_0 11 rfl rfl)
theorem dX7_alike_14 : decode cX7_alike 14 = .ok (.invokestatic 133, 3) := dk_184 0 133 (dk_at dksX7_alike_0 14 rfl rfl)
theorem dX7_alike_17 : decode cX7_alike 17 = .ok (.ifCond .ne 5, 3) := dk_154 0 5 (dk_at dksX7_alike_0 17 rfl rfl)
theorem dX7_alike_20 : decode cX7_alike 20 = .ok (.iconst (-1), 1) := dk_2 (dk_at dksX7_alike_0 20 rfl rfl)
theorem dX7_alike_21 : decode cX7_alike 21 = .ok (.ireturn, 1) := dk_172 (dk_at dksX7_alike_0 21 rfl rfl)
theorem dX7_alike_22 : decode cX7_alike 22 = .ok (.iload_n 2, 1) := dk_28 (dk_at dksX7_alike_0 22 rfl rfl)
theorem dX7_alike_23 : decode cX7_alike 23 = .ok (.ifCond .ne 11, 3) := dk_154 0 11 (dk_at dksX7_alike_1 0 rfl rfl)
theorem dX7_alike_26 : decode cX7_alike 26 = .ok (.aload_n 0, 1) := dk_42 (dk_at dksX7_alike_1 3 rfl rfl)
theorem dX7_alike_27 : decode cX7_alike 27 = .ok (.iload_n 1, 1) := dk_27 (dk_at dksX7_alike_1 4 rfl rfl)
theorem dX7_alike_28 : decode cX7_alike 28 = .ok (.invokevirtual 343, 3) := dk_182 1 87 (dk_at dksX7_alike_1 5 rfl rfl)
theorem dX7_alike_31 : decode cX7_alike 31 = .ok (.goto 21, 3) := dk_167 0 21 (dk_at dksX7_alike_1 8 rfl rfl)
theorem dX7_alike_34 : decode cX7_alike 34 = .ok (.iload_n 2, 1) := dk_28 (dk_at dksX7_alike_1 11 rfl rfl)
theorem dX7_alike_35 : decode cX7_alike 35 = .ok (.iconst 1, 1) := dk_4 (dk_at dksX7_alike_1 12 rfl rfl)
theorem dX7_alike_36 : decode cX7_alike 36 = .ok (.if_icmp .ne 11, 3) := dk_160 0 11 (dk_at dksX7_alike_1 13 rfl rfl)
theorem dX7_alike_39 : decode cX7_alike 39 = .ok (.aload_n 0, 1) := dk_42 (dk_at dksX7_alike_1 16 rfl rfl)
theorem dX7_alike_40 : decode cX7_alike 40 = .ok (.iload_n 1, 1) := dk_27 (dk_at dksX7_alike_1 17 rfl rfl)
theorem dX7_alike_41 : decode cX7_alike 41 = .ok (.invokevirtual 346, 3) := dk_182 1 90 (dk_at dksX7_alike_1 18 rfl rfl)
theorem dX7_alike_44 : decode cX7_alike 44 = .ok (.goto 8, 3) := dk_167 0 8 (dk_at dksX7_alike_1 21 rfl rfl)
theorem dX7_alike_47 : decode cX7_alike 47 = .ok (.aload_n 0, 1) := dk_42 (dk_at dksX7_alike_2 0 rfl rfl)
theorem dX7_alike_48 : decode cX7_alike 48 = .ok (.iload_n 1, 1) := dk_27 (dk_at dksX7_alike_2 1 rfl rfl)
theorem dX7_alike_49 : decode cX7_alike 49 = .ok (.invokevirtual 349, 3) := dk_182 1 93 (dk_at dksX7_alike_2 2 rfl rfl)
theorem dX7_alike_52 : decode cX7_alike 52 = .ok (.ireturn, 1) := dk_172 (dk_at dksX7_alike_2 5 rfl rfl)
abbrev cX7_leastOf : ByteArray := prog_32_method_73_code
def yX7_leastOf : MethodName := ⟨RX7, "leastOf", "(I)I"⟩
def dkwX7_leastOf_0 : List UInt8 := [42, 27, 4, 42, 180, 0, 137, 182, 1, 84, 172]
abbrev dktX7_leastOf_0 : List UInt8 := dkwX7_leastOf_0 ++ []
theorem dksX7_leastOf_0 : cX7_leastOf.data.toList.drop 0 = dktX7_leastOf_0 := by decide +kernel
theorem dX7_leastOf_0 : decode cX7_leastOf 0 = .ok (.aload_n 0, 1) := dk_42 (dk_at dksX7_leastOf_0 0 rfl rfl)
theorem dX7_leastOf_1 : decode cX7_leastOf 1 = .ok (.iload_n 1, 1) := dk_27 (dk_at dksX7_leastOf_0 1 rfl rfl)
theorem dX7_leastOf_2 : decode cX7_leastOf 2 = .ok (.iconst 1, 1) := dk_4 (dk_at dksX7_leastOf_0 2 rfl rfl)
theorem dX7_leastOf_3 : decode cX7_leastOf 3 = .ok (.aload_n 0, 1) := dk_42 (dk_at dksX7_leastOf_0 3 rfl rfl)
theorem dX7_leastOf_4 : decode cX7_leastOf 4 = .ok (.getfield 137, 3) := dk_180 0 137 (dk_at dksX7_leastOf_0 4 rfl rfl)
theorem dX7_leastOf_7 : decode cX7_leastOf 7 = .ok (.invokevirtual 340, 3) := dk_182 1 84 (dk_at dksX7_leastOf_0 7 rfl rfl)
theorem dX7_leastOf_10 : decode cX7_leastOf 10 = .ok (.ireturn, 1) := dk_172 (dk_at dksX7_leastOf_0 10 rfl rfl)
abbrev cX7_goes : ByteArray := prog_32_method_72_code
def yX7_goes : MethodName := ⟨RX7, "goes", "(IZJ)I"⟩
def dkwX7_goes_1 : List UInt8 := [182, 0, 171, 54, 5, 42, 21, 5, 28, 33, 182, 1, 80, 54, 6, 167, 255, 231, 21, 5, 172]
abbrev dktX7_goes_1 : List UInt8 := dkwX7_goes_1 ++ []
def dkwX7_goes_0 : List UInt8 := [27, 54, 5, 42, 21, 5, 28, 33, 182, 1, 80, 54, 6, 21, 6, 155, 0, 26, 42, 21, 5, 21, 6]
abbrev dktX7_goes_0 : List UInt8 := dkwX7_goes_0 ++ dktX7_goes_1
theorem dksX7_goes_0 : cX7_goes.data.toList.drop 0 = dktX7_goes_0 := by decide +kernel
theorem dksX7_goes_1 : cX7_goes.data.toList.drop 23 = dktX7_goes_1 := dk_seg dksX7_goes_0 23 rfl rfl
theorem dX7_goes_0 : decode cX7_goes 0 = .ok (.iload_n 1, 1) := dk_27 (dk_at dksX7_goes_0 0 rfl rfl)
theorem dX7_goes_1 : decode cX7_goes 1 = .ok (.istore 5, 2) := dk_54 5 (dk_at dksX7_goes_0 1 rfl rfl)
theorem dX7_goes_3 : decode cX7_goes 3 = .ok (.aload_n 0, 1) := dk_42 (dk_at dksX7_goes_0 3 rfl rfl)
theorem dX7_goes_4 : decode cX7_goes 4 = .ok (.iload 5, 2) := dk_21 5 (dk_at dksX7_goes_0 4 rfl rfl)
theorem dX7_goes_6 : decode cX7_goes 6 = .ok (.iload_n 2, 1) := dk_28 (dk_at dksX7_goes_0 6 rfl rfl)
theorem dX7_goes_7 : decode cX7_goes 7 = .ok (.lload_n 3, 1) := dk_33 (dk_at dksX7_goes_0 7 rfl rfl)
theorem dX7_goes_8 : decode cX7_goes 8 = .ok (.invokevirtual 336, 3) := dk_182 1 80 (dk_at dksX7_goes_0 8 rfl rfl)
theorem dX7_goes_11 : decode cX7_goes 11 = .ok (.istore 6, 2) := dk_54 6 (dk_at dksX7_goes_0 11 rfl rfl)
theorem dX7_goes_13 : decode cX7_goes 13 = .ok (.iload 6, 2) := dk_21 6 (dk_at dksX7_goes_0 13 rfl rfl)
theorem dX7_goes_15 : decode cX7_goes 15 = .ok (.ifCond .lt 26, 3) := dk_155 0 26 (dk_at dksX7_goes_0 15 rfl rfl)
theorem dX7_goes_18 : decode cX7_goes 18 = .ok (.aload_n 0, 1) := dk_42 (dk_at dksX7_goes_0 18 rfl rfl)
theorem dX7_goes_19 : decode cX7_goes 19 = .ok (.iload 5, 2) := dk_21 5 (dk_at dksX7_goes_0 19 rfl rfl)
theorem dX7_goes_21 : decode cX7_goes 21 = .ok (.iload 6, 2) := dk_21 6 (dk_at dksX7_goes_0 21 rfl rfl)
theorem dX7_goes_23 : decode cX7_goes 23 = .ok (.invokevirtual 171, 3) := dk_182 0 171 (dk_at dksX7_goes_1 0 rfl rfl)
theorem dX7_goes_26 : decode cX7_goes 26 = .ok (.istore 5, 2) := dk_54 5 (dk_at dksX7_goes_1 3 rfl rfl)
theorem dX7_goes_28 : decode cX7_goes 28 = .ok (.aload_n 0, 1) := dk_42 (dk_at dksX7_goes_1 5 rfl rfl)
theorem dX7_goes_29 : decode cX7_goes 29 = .ok (.iload 5, 2) := dk_21 5 (dk_at dksX7_goes_1 6 rfl rfl)
theorem dX7_goes_31 : decode cX7_goes 31 = .ok (.iload_n 2, 1) := dk_28 (dk_at dksX7_goes_1 8 rfl rfl)
theorem dX7_goes_32 : decode cX7_goes 32 = .ok (.lload_n 3, 1) := dk_33 (dk_at dksX7_goes_1 9 rfl rfl)
theorem dX7_goes_33 : decode cX7_goes 33 = .ok (.invokevirtual 336, 3) := dk_182 1 80 (dk_at dksX7_goes_1 10 rfl rfl)
theorem dX7_goes_36 : decode cX7_goes 36 = .ok (.istore 6, 2) := dk_54 6 (dk_at dksX7_goes_1 13 rfl rfl)
theorem dX7_goes_38 : decode cX7_goes 38 = .ok (.goto (-25), 3) := dk_167 255 231 (dk_at dksX7_goes_1 15 rfl rfl)
theorem dX7_goes_41 : decode cX7_goes 41 = .ok (.iload 5, 2) := dk_21 5 (dk_at dksX7_goes_1 18 rfl rfl)
theorem dX7_goes_43 : decode cX7_goes 43 = .ok (.ireturn, 1) := dk_172 (dk_at dksX7_goes_1 20 rfl rfl)
abbrev cX7_placeIn : ByteArray := prog_32_method_71_code
def yX7_placeIn : MethodName := ⟨RX7, "placeIn", "(IZJ)I"⟩
def dkwX7_placeIn_2 : List UInt8 := [167, 255, 214, 2, 172]
abbrev dktX7_placeIn_2 : List UInt8 := dkwX7_placeIn_2 ++ []
def dkwX7_placeIn_1 : List UInt8 := [160, 0, 20, 33, 42, 27, 21, 5, 182, 0, 187, 184, 0, 108, 153, 0, 6, 21, 5, 172, 132, 5, 1]
abbrev dktX7_placeIn_1 : List UInt8 := dkwX7_placeIn_1 ++ dktX7_placeIn_2
def dkwX7_placeIn_0 : List UInt8 := [3, 54, 5, 21, 5, 42, 180, 0, 7, 4, 100, 162, 0, 37, 42, 27, 21, 5, 182, 0, 154, 28]
abbrev dktX7_placeIn_0 : List UInt8 := dkwX7_placeIn_0 ++ dktX7_placeIn_1
theorem dksX7_placeIn_0 : cX7_placeIn.data.toList.drop 0 = dktX7_placeIn_0 := by decide +kernel
theorem dksX7_placeIn_1 : cX7_placeIn.data.toList.drop 22 = dktX7_placeIn_1 := dk_seg dksX7_placeIn_0 22 rfl rfl
theorem dksX7_placeIn_2 : cX7_placeIn.data.toList.drop 45 = dktX7_placeIn_2 := dk_seg dksX7_placeIn_1 23 rfl rfl
theorem dX7_placeIn_0 : decode cX7_placeIn 0 = .ok (.iconst 0, 1) := dk_3 (dk_at dksX7_placeIn_0 0 rfl rfl)
theorem dX7_placeIn_1 : decode cX7_placeIn 1 = .ok (.istore 5, 2) := dk_54 5 (dk_at dksX7_placeIn_0 1 rfl rfl)
theorem dX7_placeIn_3 : decode cX7_placeIn 3 = .ok (.iload 5, 2) := dk_21 5 (dk_at dksX7_placeIn_0 3 rfl rfl)
theorem dX7_placeIn_5 : decode cX7_placeIn 5 = .ok (.aload_n 0, 1) := dk_42 (dk_at dksX7_placeIn_0 5 rfl rfl)
theorem dX7_placeIn_6 : decode cX7_placeIn 6 = .ok (.getfield 7, 3) := dk_180 0 7 (dk_at dksX7_placeIn_0 6 rfl rfl)
theorem dX7_placeIn_9 : decode cX7_placeIn 9 = .ok (.iconst 1, 1) := dk_4 (dk_at dksX7_placeIn_0 9 rfl rfl)
theorem dX7_placeIn_10 : decode cX7_placeIn 10 = .ok (.isub, 1) := dk_100 (dk_at dksX7_placeIn_0 10 rfl rfl)
theorem dX7_placeIn_11 : decode cX7_placeIn 11 = .ok (.if_icmp .ge 37, 3) := dk_162 0 37 (dk_at dksX7_placeIn_0 11 rfl rfl)
theorem dX7_placeIn_14 : decode cX7_placeIn 14 = .ok (.aload_n 0, 1) := dk_42 (dk_at dksX7_placeIn_0 14 rfl rfl)
theorem dX7_placeIn_15 : decode cX7_placeIn 15 = .ok (.iload_n 1, 1) := dk_27 (dk_at dksX7_placeIn_0 15 rfl rfl)
theorem dX7_placeIn_16 : decode cX7_placeIn 16 = .ok (.iload 5, 2) := dk_21 5 (dk_at dksX7_placeIn_0 16 rfl rfl)
theorem dX7_placeIn_18 : decode cX7_placeIn 18 = .ok (.invokevirtual 154, 3) := dk_182 0 154 (dk_at dksX7_placeIn_0 18 rfl rfl)
theorem dX7_placeIn_21 : decode cX7_placeIn 21 = .ok (.iload_n 2, 1) := dk_28 (dk_at dksX7_placeIn_0 21 rfl rfl)
theorem dX7_placeIn_22 : decode cX7_placeIn 22 = .ok (.if_icmp .ne 20, 3) := dk_160 0 20 (dk_at dksX7_placeIn_1 0 rfl rfl)
theorem dX7_placeIn_25 : decode cX7_placeIn 25 = .ok (.lload_n 3, 1) := dk_33 (dk_at dksX7_placeIn_1 3 rfl rfl)
theorem dX7_placeIn_26 : decode cX7_placeIn 26 = .ok (.aload_n 0, 1) := dk_42 (dk_at dksX7_placeIn_1 4 rfl rfl)
theorem dX7_placeIn_27 : decode cX7_placeIn 27 = .ok (.iload_n 1, 1) := dk_27 (dk_at dksX7_placeIn_1 5 rfl rfl)
theorem dX7_placeIn_28 : decode cX7_placeIn 28 = .ok (.iload 5, 2) := dk_21 5 (dk_at dksX7_placeIn_1 6 rfl rfl)
theorem dX7_placeIn_30 : decode cX7_placeIn 30 = .ok (.invokevirtual 187, 3) := dk_182 0 187 (dk_at dksX7_placeIn_1 8 rfl rfl)
theorem dX7_placeIn_33 : decode cX7_placeIn 33 = .ok (.invokestatic 108, 3) := dk_184 0 108 (dk_at dksX7_placeIn_1 11 rfl rfl)
theorem dX7_placeIn_36 : decode cX7_placeIn 36 = .ok (.ifCond .eq 6, 3) := dk_153 0 6 (dk_at dksX7_placeIn_1 14 rfl rfl)
theorem dX7_placeIn_39 : decode cX7_placeIn 39 = .ok (.iload 5, 2) := dk_21 5 (dk_at dksX7_placeIn_1 17 rfl rfl)
theorem dX7_placeIn_41 : decode cX7_placeIn 41 = .ok (.ireturn, 1) := dk_172 (dk_at dksX7_placeIn_1 19 rfl rfl)
theorem dX7_placeIn_42 : decode cX7_placeIn 42 = .ok (.iinc 5 1, 3) := dk_132 5 1 (dk_at dksX7_placeIn_1 20 rfl rfl)
theorem dX7_placeIn_45 : decode cX7_placeIn 45 = .ok (.goto (-42), 3) := dk_167 255 214 (dk_at dksX7_placeIn_2 0 rfl rfl)
theorem dX7_placeIn_48 : decode cX7_placeIn 48 = .ok (.iconst (-1), 1) := dk_2 (dk_at dksX7_placeIn_2 3 rfl rfl)
theorem dX7_placeIn_49 : decode cX7_placeIn 49 = .ok (.ireturn, 1) := dk_172 (dk_at dksX7_placeIn_2 4 rfl rfl)
abbrev cX7_greatestOf : ByteArray := prog_32_method_74_code
def yX7_greatestOf : MethodName := ⟨RX7, "greatestOf", "(I)I"⟩
def dkwX7_greatestOf_0 : List UInt8 := [42, 27, 3, 42, 180, 0, 137, 182, 1, 84, 172]
abbrev dktX7_greatestOf_0 : List UInt8 := dkwX7_greatestOf_0 ++ []
theorem dksX7_greatestOf_0 : cX7_greatestOf.data.toList.drop 0 = dktX7_greatestOf_0 := by decide +kernel
theorem dX7_greatestOf_0 : decode cX7_greatestOf 0 = .ok (.aload_n 0, 1) := dk_42 (dk_at dksX7_greatestOf_0 0 rfl rfl)
theorem dX7_greatestOf_1 : decode cX7_greatestOf 1 = .ok (.iload_n 1, 1) := dk_27 (dk_at dksX7_greatestOf_0 1 rfl rfl)
theorem dX7_greatestOf_2 : decode cX7_greatestOf 2 = .ok (.iconst 0, 1) := dk_3 (dk_at dksX7_greatestOf_0 2 rfl rfl)
theorem dX7_greatestOf_3 : decode cX7_greatestOf 3 = .ok (.aload_n 0, 1) := dk_42 (dk_at dksX7_greatestOf_0 3 rfl rfl)
theorem dX7_greatestOf_4 : decode cX7_greatestOf 4 = .ok (.getfield 137, 3) := dk_180 0 137 (dk_at dksX7_greatestOf_0 4 rfl rfl)
theorem dX7_greatestOf_7 : decode cX7_greatestOf 7 = .ok (.invokevirtual 340, 3) := dk_182 1 84 (dk_at dksX7_greatestOf_0 7 rfl rfl)
theorem dX7_greatestOf_10 : decode cX7_greatestOf 10 = .ok (.ireturn, 1) := dk_172 (dk_at dksX7_greatestOf_0 10 rfl rfl)
abbrev cX7_manyAlike : ByteArray := prog_32_method_76_code
def yX7_manyAlike : MethodName := ⟨RX7, "manyAlike", "(I)I"⟩
def dkwX7_manyAlike_2 : List UInt8 := [62, 132, 4, 1, 167, 255, 217, 29, 172]
abbrev dktX7_manyAlike_2 : List UInt8 := dkwX7_manyAlike_2 ++ []
def dkwX7_manyAlike_1 : List UInt8 := [162, 0, 31, 29, 42, 42, 21, 4, 182, 0, 124, 182, 1, 87, 28, 160, 0, 7, 4, 167, 0, 4, 3, 96]
abbrev dktX7_manyAlike_1 : List UInt8 := dkwX7_manyAlike_1 ++ dktX7_manyAlike_2
def dkwX7_manyAlike_0 : List UInt8 := [42, 27, 182, 1, 87, 61, 3, 62, 3, 54, 4, 21, 4, 42, 180, 0, 47, 42, 180, 0, 7, 46]
abbrev dktX7_manyAlike_0 : List UInt8 := dkwX7_manyAlike_0 ++ dktX7_manyAlike_1
theorem dksX7_manyAlike_0 : cX7_manyAlike.data.toList.drop 0 = dktX7_manyAlike_0 := by decide +kernel
theorem dksX7_manyAlike_1 : cX7_manyAlike.data.toList.drop 22 = dktX7_manyAlike_1 := dk_seg dksX7_manyAlike_0 22 rfl rfl
theorem dksX7_manyAlike_2 : cX7_manyAlike.data.toList.drop 46 = dktX7_manyAlike_2 := dk_seg dksX7_manyAlike_1 24 rfl rfl
theorem dX7_manyAlike_0 : decode cX7_manyAlike 0 = .ok (.aload_n 0, 1) := dk_42 (dk_at dksX7_manyAlike_0 0 rfl rfl)
theorem dX7_manyAlike_1 : decode cX7_manyAlike 1 = .ok (.iload_n 1, 1) := dk_27 (dk_at dksX7_manyAlike_0 1 rfl rfl)
theorem dX7_manyAlike_2 : decode cX7_manyAlike 2 = .ok (.invokevirtual 343, 3) := dk_182 1 87 (dk_at dksX7_manyAlike_0 2 rfl rfl)
theorem dX7_manyAlike_5 : decode cX7_manyAlike 5 = .ok (.istore_n 2, 1) := dk_61 (dk_at dksX7_manyAlike_0 5 rfl rfl)
theorem dX7_manyAlike_6 : decode cX7_manyAlike 6 = .ok (.iconst 0, 1) := dk_3 (dk_at dksX7_manyAlike_0 6 rfl rfl)
theorem dX7_manyAlike_7 : decode cX7_manyAlike 7 = .ok (.istore_n 3, 1) := dk_62 (dk_at dksX7_manyAlike_0 7 rfl rfl)
theorem dX7_manyAlike_8 : decode cX7_manyAlike 8 = .ok (.iconst 0, 1) := dk_3 (dk_at dksX7_manyAlike_0 8 rfl rfl)
theorem dX7_manyAlike_9 : decode cX7_manyAlike 9 = .ok (.istore 4, 2) := dk_54 4 (dk_at dksX7_manyAlike_0 9 rfl rfl)
theorem dX7_manyAlike_11 : decode cX7_manyAlike 11 = .ok (.iload 4, 2) := dk_21 4 (dk_at dksX7_manyAlike_0 11 rfl rfl)
theorem dX7_manyAlike_13 : decode cX7_manyAlike 13 = .ok (.aload_n 0, 1) := dk_42 (dk_at dksX7_manyAlike_0 13 rfl rfl)
theorem dX7_manyAlike_14 : decode cX7_manyAlike 14 = .ok (.getfield 47, 3) := dk_180 0 47 (dk_at dksX7_manyAlike_0 14 rfl rfl)
theorem dX7_manyAlike_17 : decode cX7_manyAlike 17 = .ok (.aload_n 0, 1) := dk_42 (dk_at dksX7_manyAlike_0 17 rfl rfl)
theorem dX7_manyAlike_18 : decode cX7_manyAlike 18 = .ok (.getfield 7, 3) := dk_180 0 7 (dk_at dksX7_manyAlike_0 18 rfl rfl)
theorem dX7_manyAlike_21 : decode cX7_manyAlike 21 = .ok (.iaload, 1) := dk_46 (dk_at dksX7_manyAlike_0 21 rfl rfl)
theorem dX7_manyAlike_22 : decode cX7_manyAlike 22 = .ok (.if_icmp .ge 31, 3) := dk_162 0 31 (dk_at dksX7_manyAlike_1 0 rfl rfl)
theorem dX7_manyAlike_25 : decode cX7_manyAlike 25 = .ok (.iload_n 3, 1) := dk_29 (dk_at dksX7_manyAlike_1 3 rfl rfl)
theorem dX7_manyAlike_26 : decode cX7_manyAlike 26 = .ok (.aload_n 0, 1) := dk_42 (dk_at dksX7_manyAlike_1 4 rfl rfl)
theorem dX7_manyAlike_27 : decode cX7_manyAlike 27 = .ok (.aload_n 0, 1) := dk_42 (dk_at dksX7_manyAlike_1 5 rfl rfl)
theorem dX7_manyAlike_28 : decode cX7_manyAlike 28 = .ok (.iload 4, 2) := dk_21 4 (dk_at dksX7_manyAlike_1 6 rfl rfl)
theorem dX7_manyAlike_30 : decode cX7_manyAlike 30 = .ok (.invokevirtual 124, 3) := dk_182 0 124 (dk_at dksX7_manyAlike_1 8 rfl rfl)
theorem dX7_manyAlike_33 : decode cX7_manyAlike 33 = .ok (.invokevirtual 343, 3) := dk_182 1 87 (dk_at dksX7_manyAlike_1 11 rfl rfl)
theorem dX7_manyAlike_36 : decode cX7_manyAlike 36 = .ok (.iload_n 2, 1) := dk_28 (dk_at dksX7_manyAlike_1 14 rfl rfl)
theorem dX7_manyAlike_37 : decode cX7_manyAlike 37 = .ok (.if_icmp .ne 7, 3) := dk_160 0 7 (dk_at dksX7_manyAlike_1 15 rfl rfl)
theorem dX7_manyAlike_40 : decode cX7_manyAlike 40 = .ok (.iconst 1, 1) := dk_4 (dk_at dksX7_manyAlike_1 18 rfl rfl)
theorem dX7_manyAlike_41 : decode cX7_manyAlike 41 = .ok (.goto 4, 3) := dk_167 0 4 (dk_at dksX7_manyAlike_1 19 rfl rfl)
theorem dX7_manyAlike_44 : decode cX7_manyAlike 44 = .ok (.iconst 0, 1) := dk_3 (dk_at dksX7_manyAlike_1 22 rfl rfl)
theorem dX7_manyAlike_45 : decode cX7_manyAlike 45 = .ok (.iadd, 1) := dk_96 (dk_at dksX7_manyAlike_1 23 rfl rfl)
theorem dX7_manyAlike_46 : decode cX7_manyAlike 46 = .ok (.istore_n 3, 1) := dk_62 (dk_at dksX7_manyAlike_2 0 rfl rfl)
theorem dX7_manyAlike_47 : decode cX7_manyAlike 47 = .ok (.iinc 4 1, 3) := dk_132 4 1 (dk_at dksX7_manyAlike_2 1 rfl rfl)
theorem dX7_manyAlike_50 : decode cX7_manyAlike 50 = .ok (.goto (-39), 3) := dk_167 255 217 (dk_at dksX7_manyAlike_2 4 rfl rfl)
theorem dX7_manyAlike_53 : decode cX7_manyAlike 53 = .ok (.iload_n 3, 1) := dk_29 (dk_at dksX7_manyAlike_2 7 rfl rfl)
theorem dX7_manyAlike_54 : decode cX7_manyAlike 54 = .ok (.ireturn, 1) := dk_172 (dk_at dksX7_manyAlike_2 8 rfl rfl)
abbrev cX7_classAt : ByteArray := prog_32_method_78_code
def yX7_classAt : MethodName := ⟨RX7, "classAt", "(I)I"⟩
def dkwX7_classAt_2 : List UInt8 := [132, 3, 1, 167, 255, 210, 2, 172]
abbrev dktX7_classAt_2 : List UInt8 := dkwX7_classAt_2 ++ []
def dkwX7_classAt_1 : List UInt8 := [182, 0, 124, 54, 4, 42, 21, 4, 182, 1, 96, 153, 0, 13, 28, 154, 0, 6, 21, 4, 172, 132, 2, 255]
abbrev dktX7_classAt_1 : List UInt8 := dkwX7_classAt_1 ++ dktX7_classAt_2
def dkwX7_classAt_0 : List UInt8 := [27, 61, 3, 62, 29, 42, 180, 0, 47, 42, 180, 0, 7, 46, 162, 0, 39, 28, 155, 0, 35, 42, 29]
abbrev dktX7_classAt_0 : List UInt8 := dkwX7_classAt_0 ++ dktX7_classAt_1
theorem dksX7_classAt_0 : cX7_classAt.data.toList.drop 0 = dktX7_classAt_0 := by decide +kernel
theorem dksX7_classAt_1 : cX7_classAt.data.toList.drop 23 = dktX7_classAt_1 := dk_seg dksX7_classAt_0 23 rfl rfl
theorem dksX7_classAt_2 : cX7_classAt.data.toList.drop 47 = dktX7_classAt_2 := dk_seg dksX7_classAt_1 24 rfl rfl
theorem dX7_classAt_0 : decode cX7_classAt 0 = .ok (.iload_n 1, 1) := dk_27 (dk_at dksX7_classAt_0 0 rfl rfl)
theorem dX7_classAt_1 : decode cX7_classAt 1 = .ok (.istore_n 2, 1) := dk_61 (dk_at dksX7_classAt_0 1 rfl rfl)
theorem dX7_classAt_2 : decode cX7_classAt 2 = .ok (.iconst 0, 1) := dk_3 (dk_at dksX7_classAt_0 2 rfl rfl)
theorem dX7_classAt_3 : decode cX7_classAt 3 = .ok (.istore_n 3, 1) := dk_62 (dk_at dksX7_classAt_0 3 rfl rfl)
theorem dX7_classAt_4 : decode cX7_classAt 4 = .ok (.iload_n 3, 1) := dk_29 (dk_at dksX7_classAt_0 4 rfl rfl)
theorem dX7_classAt_5 : decode cX7_classAt 5 = .ok (.aload_n 0, 1) := dk_42 (dk_at dksX7_classAt_0 5 rfl rfl)
theorem dX7_classAt_6 : decode cX7_classAt 6 = .ok (.getfield 47, 3) := dk_180 0 47 (dk_at dksX7_classAt_0 6 rfl rfl)
theorem dX7_classAt_9 : decode cX7_classAt 9 = .ok (.aload_n 0, 1) := dk_42 (dk_at dksX7_classAt_0 9 rfl rfl)
theorem dX7_classAt_10 : decode cX7_classAt 10 = .ok (.getfield 7, 3) := dk_180 0 7 (dk_at dksX7_classAt_0 10 rfl rfl)
theorem dX7_classAt_13 : decode cX7_classAt 13 = .ok (.iaload, 1) := dk_46 (dk_at dksX7_classAt_0 13 rfl rfl)
theorem dX7_classAt_14 : decode cX7_classAt 14 = .ok (.if_icmp .ge 39, 3) := dk_162 0 39 (dk_at dksX7_classAt_0 14 rfl rfl)
theorem dX7_classAt_17 : decode cX7_classAt 17 = .ok (.iload_n 2, 1) := dk_28 (dk_at dksX7_classAt_0 17 rfl rfl)
theorem dX7_classAt_18 : decode cX7_classAt 18 = .ok (.ifCond .lt 35, 3) := dk_155 0 35 (dk_at dksX7_classAt_0 18 rfl rfl)
theorem dX7_classAt_21 : decode cX7_classAt 21 = .ok (.aload_n 0, 1) := dk_42 (dk_at dksX7_classAt_0 21 rfl rfl)
theorem dX7_classAt_22 : decode cX7_classAt 22 = .ok (.iload_n 3, 1) := dk_29 (dk_at dksX7_classAt_0 22 rfl rfl)
theorem dX7_classAt_23 : decode cX7_classAt 23 = .ok (.invokevirtual 124, 3) := dk_182 0 124 (dk_at dksX7_classAt_1 0 rfl rfl)
theorem dX7_classAt_26 : decode cX7_classAt 26 = .ok (.istore 4, 2) := dk_54 4 (dk_at dksX7_classAt_1 3 rfl rfl)
theorem dX7_classAt_28 : decode cX7_classAt 28 = .ok (.aload_n 0, 1) := dk_42 (dk_at dksX7_classAt_1 5 rfl rfl)
theorem dX7_classAt_29 : decode cX7_classAt 29 = .ok (.iload 4, 2) := dk_21 4 (dk_at dksX7_classAt_1 6 rfl rfl)
theorem dX7_classAt_31 : decode cX7_classAt 31 = .ok (.invokevirtual 352, 3) := dk_182 1 96 (dk_at dksX7_classAt_1 8 rfl rfl)
theorem dX7_classAt_34 : decode cX7_classAt 34 = .ok (.ifCond .eq 13, 3) := dk_153 0 13 (dk_at dksX7_classAt_1 11 rfl rfl)
theorem dX7_classAt_37 : decode cX7_classAt 37 = .ok (.iload_n 2, 1) := dk_28 (dk_at dksX7_classAt_1 14 rfl rfl)
theorem dX7_classAt_38 : decode cX7_classAt 38 = .ok (.ifCond .ne 6, 3) := dk_154 0 6 (dk_at dksX7_classAt_1 15 rfl rfl)
theorem dX7_classAt_41 : decode cX7_classAt 41 = .ok (.iload 4, 2) := dk_21 4 (dk_at dksX7_classAt_1 18 rfl rfl)
theorem dX7_classAt_43 : decode cX7_classAt 43 = .ok (.ireturn, 1) := dk_172 (dk_at dksX7_classAt_1 20 rfl rfl)
theorem dX7_classAt_44 : decode cX7_classAt 44 = .ok (.iinc 2 (-1), 3) := dk_132 2 255 (dk_at dksX7_classAt_1 21 rfl rfl)
theorem dX7_classAt_47 : decode cX7_classAt 47 = .ok (.iinc 3 1, 3) := dk_132 3 1 (dk_at dksX7_classAt_2 0 rfl rfl)
theorem dX7_classAt_50 : decode cX7_classAt 50 = .ok (.goto (-46), 3) := dk_167 255 210 (dk_at dksX7_classAt_2 3 rfl rfl)
theorem dX7_classAt_53 : decode cX7_classAt 53 = .ok (.iconst (-1), 1) := dk_2 (dk_at dksX7_classAt_2 6 rfl rfl)
theorem dX7_classAt_54 : decode cX7_classAt 54 = .ok (.ireturn, 1) := dk_172 (dk_at dksX7_classAt_2 7 rfl rfl)
abbrev cX7_isLeast : ByteArray := prog_32_method_75_code
def yX7_isLeast : MethodName := ⟨RX7, "isLeast", "(I)Z"⟩
def dkwX7_isLeast_0 : List UInt8 := [42, 27, 4, 42, 180, 0, 137, 182, 1, 80, 156, 0, 7, 4, 167, 0, 4, 3, 172]
abbrev dktX7_isLeast_0 : List UInt8 := dkwX7_isLeast_0 ++ []
theorem dksX7_isLeast_0 : cX7_isLeast.data.toList.drop 0 = dktX7_isLeast_0 := by decide +kernel
theorem dX7_isLeast_0 : decode cX7_isLeast 0 = .ok (.aload_n 0, 1) := dk_42 (dk_at dksX7_isLeast_0 0 rfl rfl)
theorem dX7_isLeast_1 : decode cX7_isLeast 1 = .ok (.iload_n 1, 1) := dk_27 (dk_at dksX7_isLeast_0 1 rfl rfl)
theorem dX7_isLeast_2 : decode cX7_isLeast 2 = .ok (.iconst 1, 1) := dk_4 (dk_at dksX7_isLeast_0 2 rfl rfl)
theorem dX7_isLeast_3 : decode cX7_isLeast 3 = .ok (.aload_n 0, 1) := dk_42 (dk_at dksX7_isLeast_0 3 rfl rfl)
theorem dX7_isLeast_4 : decode cX7_isLeast 4 = .ok (.getfield 137, 3) := dk_180 0 137 (dk_at dksX7_isLeast_0 4 rfl rfl)
theorem dX7_isLeast_7 : decode cX7_isLeast 7 = .ok (.invokevirtual 336, 3) := dk_182 1 80 (dk_at dksX7_isLeast_0 7 rfl rfl)
theorem dX7_isLeast_10 : decode cX7_isLeast 10 = .ok (.ifCond .ge 7, 3) := dk_156 0 7 (dk_at dksX7_isLeast_0 10 rfl rfl)
theorem dX7_isLeast_13 : decode cX7_isLeast 13 = .ok (.iconst 1, 1) := dk_4 (dk_at dksX7_isLeast_0 13 rfl rfl)
theorem dX7_isLeast_14 : decode cX7_isLeast 14 = .ok (.goto 4, 3) := dk_167 0 4 (dk_at dksX7_isLeast_0 14 rfl rfl)
theorem dX7_isLeast_17 : decode cX7_isLeast 17 = .ok (.iconst 0, 1) := dk_3 (dk_at dksX7_isLeast_0 17 rfl rfl)
theorem dX7_isLeast_18 : decode cX7_isLeast 18 = .ok (.ireturn, 1) := dk_172 (dk_at dksX7_isLeast_0 18 rfl rfl)
abbrev cX7_classes : ByteArray := prog_32_method_79_code
def yX7_classes : MethodName := ⟨RX7, "classes", "(III)I"⟩
def dkwX7_classes_3 : List UInt8 := [21, 5, 182, 0, 148, 167, 0, 11, 42, 21, 4, 21, 5, 182, 0, 151, 182, 1, 87, 172]
abbrev dktX7_classes_3 : List UInt8 := dkwX7_classes_3 ++ []
def dkwX7_classes_2 : List UInt8 := [182, 0, 145, 153, 0, 7, 4, 167, 0, 35, 3, 167, 0, 31, 42, 29, 4, 160, 0, 14, 42, 21, 4]
abbrev dktX7_classes_2 : List UInt8 := dkwX7_classes_2 ++ dktX7_classes_3
def dkwX7_classes_1 : List UInt8 := [27, 182, 1, 87, 54, 4, 42, 28, 182, 1, 87, 54, 5, 29, 154, 0, 22, 42, 21, 4, 21, 5]
abbrev dktX7_classes_1 : List UInt8 := dkwX7_classes_1 ++ dktX7_classes_2
def dkwX7_classes_0 : List UInt8 := [42, 27, 28, 182, 0, 141, 153, 0, 15, 29, 133, 9, 20, 0, 226, 184, 0, 133, 154, 0, 5, 2, 172, 42]
abbrev dktX7_classes_0 : List UInt8 := dkwX7_classes_0 ++ dktX7_classes_1
theorem dksX7_classes_0 : cX7_classes.data.toList.drop 0 = dktX7_classes_0 := by decide +kernel
theorem dksX7_classes_1 : cX7_classes.data.toList.drop 24 = dktX7_classes_1 := dk_seg dksX7_classes_0 24 rfl rfl
theorem dksX7_classes_2 : cX7_classes.data.toList.drop 46 = dktX7_classes_2 := dk_seg dksX7_classes_1 22 rfl rfl
theorem dksX7_classes_3 : cX7_classes.data.toList.drop 69 = dktX7_classes_3 := dk_seg dksX7_classes_2 23 rfl rfl
theorem dX7_classes_0 : decode cX7_classes 0 = .ok (.aload_n 0, 1) := dk_42 (dk_at dksX7_classes_0 0 rfl rfl)
theorem dX7_classes_1 : decode cX7_classes 1 = .ok (.iload_n 1, 1) := dk_27 (dk_at dksX7_classes_0 1 rfl rfl)
theorem dX7_classes_2 : decode cX7_classes 2 = .ok (.iload_n 2, 1) := dk_28 (dk_at dksX7_classes_0 2 rfl rfl)
theorem dX7_classes_3 : decode cX7_classes 3 = .ok (.invokevirtual 141, 3) := dk_182 0 141 (dk_at dksX7_classes_0 3 rfl rfl)
theorem dX7_classes_6 : decode cX7_classes 6 = .ok (.ifCond .eq 15, 3) := dk_153 0 15 (dk_at dksX7_classes_0 6 rfl rfl)
theorem dX7_classes_9 : decode cX7_classes 9 = .ok (.iload_n 3, 1) := dk_29 (dk_at dksX7_classes_0 9 rfl rfl)
theorem dX7_classes_10 : decode cX7_classes 10 = .ok (.i2l, 1) := dk_133 (dk_at dksX7_classes_0 10 rfl rfl)
theorem dX7_classes_11 : decode cX7_classes 11 = .ok (.lconst 0, 1) := dk_9 (dk_at dksX7_classes_0 11 rfl rfl)
theorem dX7_classes_12 : decode cX7_classes 12 = .ok (.ldc2_w 226, 3) := dk_20 0 226 (dk_at dksX7_classes_0 12 rfl rfl)
theorem dX7_classes_15 : decode cX7_classes 15 = .ok (.invokestatic 133, 3) := dk_184 0 133 (dk_at dksX7_classes_0 15 rfl rfl)
theorem dX7_classes_18 : decode cX7_classes 18 = .ok (.ifCond .ne 5, 3) := dk_154 0 5 (dk_at dksX7_classes_0 18 rfl rfl)
theorem dX7_classes_21 : decode cX7_classes 21 = .ok (.iconst (-1), 1) := dk_2 (dk_at dksX7_classes_0 21 rfl rfl)
theorem dX7_classes_22 : decode cX7_classes 22 = .ok (.ireturn, 1) := dk_172 (dk_at dksX7_classes_0 22 rfl rfl)
theorem dX7_classes_23 : decode cX7_classes 23 = .ok (.aload_n 0, 1) := dk_42 (dk_at dksX7_classes_0 23 rfl rfl)
theorem dX7_classes_24 : decode cX7_classes 24 = .ok (.iload_n 1, 1) := dk_27 (dk_at dksX7_classes_1 0 rfl rfl)
theorem dX7_classes_25 : decode cX7_classes 25 = .ok (.invokevirtual 343, 3) := dk_182 1 87 (dk_at dksX7_classes_1 1 rfl rfl)
theorem dX7_classes_28 : decode cX7_classes 28 = .ok (.istore 4, 2) := dk_54 4 (dk_at dksX7_classes_1 4 rfl rfl)
theorem dX7_classes_30 : decode cX7_classes 30 = .ok (.aload_n 0, 1) := dk_42 (dk_at dksX7_classes_1 6 rfl rfl)
theorem dX7_classes_31 : decode cX7_classes 31 = .ok (.iload_n 2, 1) := dk_28 (dk_at dksX7_classes_1 7 rfl rfl)
theorem dX7_classes_32 : decode cX7_classes 32 = .ok (.invokevirtual 343, 3) := dk_182 1 87 (dk_at dksX7_classes_1 8 rfl rfl)
theorem dX7_classes_35 : decode cX7_classes 35 = .ok (.istore 5, 2) := dk_54 5 (dk_at dksX7_classes_1 11 rfl rfl)
theorem dX7_classes_37 : decode cX7_classes 37 = .ok (.iload_n 3, 1) := dk_29 (dk_at dksX7_classes_1 13 rfl rfl)
theorem dX7_classes_38 : decode cX7_classes 38 = .ok (.ifCond .ne 22, 3) := dk_154 0 22 (dk_at dksX7_classes_1 14 rfl rfl)
theorem dX7_classes_41 : decode cX7_classes 41 = .ok (.aload_n 0, 1) := dk_42 (dk_at dksX7_classes_1 17 rfl rfl)
theorem dX7_classes_42 : decode cX7_classes 42 = .ok (.iload 4, 2) := dk_21 4 (dk_at dksX7_classes_1 18 rfl rfl)
theorem dX7_classes_44 : decode cX7_classes 44 = .ok (.iload 5, 2) := dk_21 5 (dk_at dksX7_classes_1 20 rfl rfl)
theorem dX7_classes_46 : decode cX7_classes 46 = .ok (.invokevirtual 145, 3) := dk_182 0 145 (dk_at dksX7_classes_2 0 rfl rfl)
theorem dX7_classes_49 : decode cX7_classes 49 = .ok (.ifCond .eq 7, 3) := dk_153 0 7 (dk_at dksX7_classes_2 3 rfl rfl)
theorem dX7_classes_52 : decode cX7_classes 52 = .ok (.iconst 1, 1) := dk_4 (dk_at dksX7_classes_2 6 rfl rfl)
theorem dX7_classes_53 : decode cX7_classes 53 = .ok (.goto 35, 3) := dk_167 0 35 (dk_at dksX7_classes_2 7 rfl rfl)
theorem dX7_classes_56 : decode cX7_classes 56 = .ok (.iconst 0, 1) := dk_3 (dk_at dksX7_classes_2 10 rfl rfl)
theorem dX7_classes_57 : decode cX7_classes 57 = .ok (.goto 31, 3) := dk_167 0 31 (dk_at dksX7_classes_2 11 rfl rfl)
theorem dX7_classes_60 : decode cX7_classes 60 = .ok (.aload_n 0, 1) := dk_42 (dk_at dksX7_classes_2 14 rfl rfl)
theorem dX7_classes_61 : decode cX7_classes 61 = .ok (.iload_n 3, 1) := dk_29 (dk_at dksX7_classes_2 15 rfl rfl)
theorem dX7_classes_62 : decode cX7_classes 62 = .ok (.iconst 1, 1) := dk_4 (dk_at dksX7_classes_2 16 rfl rfl)
theorem dX7_classes_63 : decode cX7_classes 63 = .ok (.if_icmp .ne 14, 3) := dk_160 0 14 (dk_at dksX7_classes_2 17 rfl rfl)
theorem dX7_classes_66 : decode cX7_classes 66 = .ok (.aload_n 0, 1) := dk_42 (dk_at dksX7_classes_2 20 rfl rfl)
theorem dX7_classes_67 : decode cX7_classes 67 = .ok (.iload 4, 2) := dk_21 4 (dk_at dksX7_classes_2 21 rfl rfl)
theorem dX7_classes_69 : decode cX7_classes 69 = .ok (.iload 5, 2) := dk_21 5 (dk_at dksX7_classes_3 0 rfl rfl)
theorem dX7_classes_71 : decode cX7_classes 71 = .ok (.invokevirtual 148, 3) := dk_182 0 148 (dk_at dksX7_classes_3 2 rfl rfl)
theorem dX7_classes_74 : decode cX7_classes 74 = .ok (.goto 11, 3) := dk_167 0 11 (dk_at dksX7_classes_3 5 rfl rfl)
theorem dX7_classes_77 : decode cX7_classes 77 = .ok (.aload_n 0, 1) := dk_42 (dk_at dksX7_classes_3 8 rfl rfl)
theorem dX7_classes_78 : decode cX7_classes 78 = .ok (.iload 4, 2) := dk_21 4 (dk_at dksX7_classes_3 9 rfl rfl)
theorem dX7_classes_80 : decode cX7_classes 80 = .ok (.iload 5, 2) := dk_21 5 (dk_at dksX7_classes_3 11 rfl rfl)
theorem dX7_classes_82 : decode cX7_classes 82 = .ok (.invokevirtual 151, 3) := dk_182 0 151 (dk_at dksX7_classes_3 13 rfl rfl)
theorem dX7_classes_85 : decode cX7_classes 85 = .ok (.invokevirtual 343, 3) := dk_182 1 87 (dk_at dksX7_classes_3 16 rfl rfl)
theorem dX7_classes_88 : decode cX7_classes 88 = .ok (.ireturn, 1) := dk_172 (dk_at dksX7_classes_3 19 rfl rfl)
abbrev cX7_rotations : ByteArray := prog_32_method_81_code
def yX7_rotations : MethodName := ⟨RX7, "rotations", "(II)I"⟩
def dkwX7_rotations_1 : List UInt8 := [167, 0, 4, 2, 172]
abbrev dktX7_rotations_1 : List UInt8 := dkwX7_rotations_1 ++ []
def dkwX7_rotations_0 : List UInt8 := [42, 27, 182, 0, 116, 153, 0, 22, 28, 133, 9, 10, 184, 0, 133, 153, 0, 12, 42, 27, 28, 182, 1, 99]
abbrev dktX7_rotations_0 : List UInt8 := dkwX7_rotations_0 ++ dktX7_rotations_1
theorem dksX7_rotations_0 : cX7_rotations.data.toList.drop 0 = dktX7_rotations_0 := by decide +kernel
theorem dksX7_rotations_1 : cX7_rotations.data.toList.drop 24 = dktX7_rotations_1 := dk_seg dksX7_rotations_0 24 rfl rfl
theorem dX7_rotations_0 : decode cX7_rotations 0 = .ok (.aload_n 0, 1) := dk_42 (dk_at dksX7_rotations_0 0 rfl rfl)
theorem dX7_rotations_1 : decode cX7_rotations 1 = .ok (.iload_n 1, 1) := dk_27 (dk_at dksX7_rotations_0 1 rfl rfl)
theorem dX7_rotations_2 : decode cX7_rotations 2 = .ok (.invokevirtual 116, 3) := dk_182 0 116 (dk_at dksX7_rotations_0 2 rfl rfl)
theorem dX7_rotations_5 : decode cX7_rotations 5 = .ok (.ifCond .eq 22, 3) := dk_153 0 22 (dk_at dksX7_rotations_0 5 rfl rfl)
theorem dX7_rotations_8 : decode cX7_rotations 8 = .ok (.iload_n 2, 1) := dk_28 (dk_at dksX7_rotations_0 8 rfl rfl)
theorem dX7_rotations_9 : decode cX7_rotations 9 = .ok (.i2l, 1) := dk_133 (dk_at dksX7_rotations_0 9 rfl rfl)
theorem dX7_rotations_10 : decode cX7_rotations 10 = .ok (.lconst 0, 1) := dk_9 (dk_at dksX7_rotations_0 10 rfl rfl)
theorem dX7_rotations_11 : decode cX7_rotations 11 = .ok (.lconst 1, 1) := dk_10 (dk_at dksX7_rotations_0 11 rfl rfl)
theorem dX7_rotations_12 : decode cX7_rotations 12 = .ok (.invokestatic 133, 3) := dk_184 0 133 (dk_at dksX7_rotations_0 12 rfl rfl)
theorem dX7_rotations_15 : decode cX7_rotations 15 = .ok (.ifCond .eq 12, 3) := dk_153 0 12 (dk_at dksX7_rotations_0 15 rfl rfl)
theorem dX7_rotations_18 : decode cX7_rotations 18 = .ok (.aload_n 0, 1) := dk_42 (dk_at dksX7_rotations_0 18 rfl rfl)
theorem dX7_rotations_19 : decode cX7_rotations 19 = .ok (.iload_n 1, 1) := dk_27 (dk_at dksX7_rotations_0 19 rfl rfl)
theorem dX7_rotations_20 : decode cX7_rotations 20 = .ok (.iload_n 2, 1) := dk_28 (dk_at dksX7_rotations_0 20 rfl rfl)
theorem dX7_rotations_21 : decode cX7_rotations 21 = .ok (.invokevirtual 355, 3) := dk_182 1 99 (dk_at dksX7_rotations_0 21 rfl rfl)
theorem dX7_rotations_24 : decode cX7_rotations 24 = .ok (.goto 4, 3) := dk_167 0 4 (dk_at dksX7_rotations_1 0 rfl rfl)
theorem dX7_rotations_27 : decode cX7_rotations 27 = .ok (.iconst (-1), 1) := dk_2 (dk_at dksX7_rotations_1 3 rfl rfl)
theorem dX7_rotations_28 : decode cX7_rotations 28 = .ok (.ireturn, 1) := dk_172 (dk_at dksX7_rotations_1 4 rfl rfl)
abbrev cX7_turnsTo : ByteArray := prog_32_method_80_code
def yX7_turnsTo : MethodName := ⟨RX7, "turnsTo", "(II)I"⟩
def dkwX7_turnsTo_5 : List UInt8 := [21, 6, 79, 132, 4, 1, 132, 5, 1, 167, 255, 153, 21, 4, 172]
abbrev dktX7_turnsTo_5 : List UInt8 := dkwX7_turnsTo_5 ++ []
def dkwX7_turnsTo_4 : List UInt8 := [21, 7, 42, 180, 0, 59, 21, 7, 4, 100, 46, 79, 132, 7, 255, 167, 255, 218, 42, 180, 0, 59, 21, 7]
abbrev dktX7_turnsTo_4 : List UInt8 := dkwX7_turnsTo_4 ++ dktX7_turnsTo_5
def dkwX7_turnsTo_3 : List UInt8 := [21, 7, 158, 0, 39, 42, 180, 0, 59, 21, 7, 4, 100, 46, 21, 6, 164, 0, 25, 42, 180, 0, 59]
abbrev dktX7_turnsTo_3 : List UInt8 := dkwX7_turnsTo_3 ++ dktX7_turnsTo_4
def dkwX7_turnsTo_2 : List UInt8 := [167, 0, 4, 3, 160, 0, 73, 42, 42, 29, 21, 5, 182, 0, 171, 182, 1, 87, 54, 6, 21, 4, 54, 7]
abbrev dktX7_turnsTo_2 : List UInt8 := dkwX7_turnsTo_2 ++ dktX7_turnsTo_3
def dkwX7_turnsTo_1 : List UInt8 := [21, 5, 42, 180, 0, 7, 4, 100, 162, 0, 98, 42, 29, 21, 5, 182, 0, 154, 28, 154, 0, 7, 4]
abbrev dktX7_turnsTo_1 : List UInt8 := dkwX7_turnsTo_1 ++ dktX7_turnsTo_2
def dkwX7_turnsTo_0 : List UInt8 := [28, 154, 0, 11, 42, 27, 182, 1, 87, 167, 0, 8, 42, 27, 182, 1, 90, 62, 3, 54, 4, 3, 54, 5]
abbrev dktX7_turnsTo_0 : List UInt8 := dkwX7_turnsTo_0 ++ dktX7_turnsTo_1
theorem dksX7_turnsTo_0 : cX7_turnsTo.data.toList.drop 0 = dktX7_turnsTo_0 := by decide +kernel
theorem dksX7_turnsTo_1 : cX7_turnsTo.data.toList.drop 24 = dktX7_turnsTo_1 := dk_seg dksX7_turnsTo_0 24 rfl rfl
theorem dksX7_turnsTo_2 : cX7_turnsTo.data.toList.drop 47 = dktX7_turnsTo_2 := dk_seg dksX7_turnsTo_1 23 rfl rfl
theorem dksX7_turnsTo_3 : cX7_turnsTo.data.toList.drop 71 = dktX7_turnsTo_3 := dk_seg dksX7_turnsTo_2 24 rfl rfl
theorem dksX7_turnsTo_4 : cX7_turnsTo.data.toList.drop 94 = dktX7_turnsTo_4 := dk_seg dksX7_turnsTo_3 23 rfl rfl
theorem dksX7_turnsTo_5 : cX7_turnsTo.data.toList.drop 118 = dktX7_turnsTo_5 := dk_seg dksX7_turnsTo_4 24 rfl rfl
theorem dX7_turnsTo_0 : decode cX7_turnsTo 0 = .ok (.iload_n 2, 1) := dk_28 (dk_at dksX7_turnsTo_0 0 rfl rfl)
theorem dX7_turnsTo_1 : decode cX7_turnsTo 1 = .ok (.ifCond .ne 11, 3) := dk_154 0 11 (dk_at dksX7_turnsTo_0 1 rfl rfl)
theorem dX7_turnsTo_4 : decode cX7_turnsTo 4 = .ok (.aload_n 0, 1) := dk_42 (dk_at dksX7_turnsTo_0 4 rfl rfl)
theorem dX7_turnsTo_5 : decode cX7_turnsTo 5 = .ok (.iload_n 1, 1) := dk_27 (dk_at dksX7_turnsTo_0 5 rfl rfl)
theorem dX7_turnsTo_6 : decode cX7_turnsTo 6 = .ok (.invokevirtual 343, 3) := dk_182 1 87 (dk_at dksX7_turnsTo_0 6 rfl rfl)
theorem dX7_turnsTo_9 : decode cX7_turnsTo 9 = .ok (.goto 8, 3) := dk_167 0 8 (dk_at dksX7_turnsTo_0 9 rfl rfl)
theorem dX7_turnsTo_12 : decode cX7_turnsTo 12 = .ok (.aload_n 0, 1) := dk_42 (dk_at dksX7_turnsTo_0 12 rfl rfl)
theorem dX7_turnsTo_13 : decode cX7_turnsTo 13 = .ok (.iload_n 1, 1) := dk_27 (dk_at dksX7_turnsTo_0 13 rfl rfl)
theorem dX7_turnsTo_14 : decode cX7_turnsTo 14 = .ok (.invokevirtual 346, 3) := dk_182 1 90 (dk_at dksX7_turnsTo_0 14 rfl rfl)
theorem dX7_turnsTo_17 : decode cX7_turnsTo 17 = .ok (.istore_n 3, 1) := dk_62 (dk_at dksX7_turnsTo_0 17 rfl rfl)
theorem dX7_turnsTo_18 : decode cX7_turnsTo 18 = .ok (.iconst 0, 1) := dk_3 (dk_at dksX7_turnsTo_0 18 rfl rfl)
theorem dX7_turnsTo_19 : decode cX7_turnsTo 19 = .ok (.istore 4, 2) := dk_54 4 (dk_at dksX7_turnsTo_0 19 rfl rfl)
theorem dX7_turnsTo_21 : decode cX7_turnsTo 21 = .ok (.iconst 0, 1) := dk_3 (dk_at dksX7_turnsTo_0 21 rfl rfl)
theorem dX7_turnsTo_22 : decode cX7_turnsTo 22 = .ok (.istore 5, 2) := dk_54 5 (dk_at dksX7_turnsTo_0 22 rfl rfl)
theorem dX7_turnsTo_24 : decode cX7_turnsTo 24 = .ok (.iload 5, 2) := dk_21 5 (dk_at dksX7_turnsTo_1 0 rfl rfl)
theorem dX7_turnsTo_26 : decode cX7_turnsTo 26 = .ok (.aload_n 0, 1) := dk_42 (dk_at dksX7_turnsTo_1 2 rfl rfl)
theorem dX7_turnsTo_27 : decode cX7_turnsTo 27 = .ok (.getfield 7, 3) := dk_180 0 7 (dk_at dksX7_turnsTo_1 3 rfl rfl)
theorem dX7_turnsTo_30 : decode cX7_turnsTo 30 = .ok (.iconst 1, 1) := dk_4 (dk_at dksX7_turnsTo_1 6 rfl rfl)
theorem dX7_turnsTo_31 : decode cX7_turnsTo 31 = .ok (.isub, 1) := dk_100 (dk_at dksX7_turnsTo_1 7 rfl rfl)
theorem dX7_turnsTo_32 : decode cX7_turnsTo 32 = .ok (.if_icmp .ge 98, 3) := dk_162 0 98 (dk_at dksX7_turnsTo_1 8 rfl rfl)
theorem dX7_turnsTo_35 : decode cX7_turnsTo 35 = .ok (.aload_n 0, 1) := dk_42 (dk_at dksX7_turnsTo_1 11 rfl rfl)
theorem dX7_turnsTo_36 : decode cX7_turnsTo 36 = .ok (.iload_n 3, 1) := dk_29 (dk_at dksX7_turnsTo_1 12 rfl rfl)
theorem dX7_turnsTo_37 : decode cX7_turnsTo 37 = .ok (.iload 5, 2) := dk_21 5 (dk_at dksX7_turnsTo_1 13 rfl rfl)
theorem dX7_turnsTo_39 : decode cX7_turnsTo 39 = .ok (.invokevirtual 154, 3) := dk_182 0 154 (dk_at dksX7_turnsTo_1 15 rfl rfl)
theorem dX7_turnsTo_42 : decode cX7_turnsTo 42 = .ok (.iload_n 2, 1) := dk_28 (dk_at dksX7_turnsTo_1 18 rfl rfl)
theorem dX7_turnsTo_43 : decode cX7_turnsTo 43 = .ok (.ifCond .ne 7, 3) := dk_154 0 7 (dk_at dksX7_turnsTo_1 19 rfl rfl)
theorem dX7_turnsTo_46 : decode cX7_turnsTo 46 = .ok (.iconst 1, 1) := dk_4 (dk_at dksX7_turnsTo_1 22 rfl rfl)
theorem dX7_turnsTo_47 : decode cX7_turnsTo 47 = .ok (.goto 4, 3) := dk_167 0 4 (dk_at dksX7_turnsTo_2 0 rfl rfl)
theorem dX7_turnsTo_50 : decode cX7_turnsTo 50 = .ok (.iconst 0, 1) := dk_3 (dk_at dksX7_turnsTo_2 3 rfl rfl)
theorem dX7_turnsTo_51 : decode cX7_turnsTo 51 = .ok (.if_icmp .ne 73, 3) := dk_160 0 73 (dk_at dksX7_turnsTo_2 4 rfl rfl)
theorem dX7_turnsTo_54 : decode cX7_turnsTo 54 = .ok (.aload_n 0, 1) := dk_42 (dk_at dksX7_turnsTo_2 7 rfl rfl)
theorem dX7_turnsTo_55 : decode cX7_turnsTo 55 = .ok (.aload_n 0, 1) := dk_42 (dk_at dksX7_turnsTo_2 8 rfl rfl)
theorem dX7_turnsTo_56 : decode cX7_turnsTo 56 = .ok (.iload_n 3, 1) := dk_29 (dk_at dksX7_turnsTo_2 9 rfl rfl)
theorem dX7_turnsTo_57 : decode cX7_turnsTo 57 = .ok (.iload 5, 2) := dk_21 5 (dk_at dksX7_turnsTo_2 10 rfl rfl)
theorem dX7_turnsTo_59 : decode cX7_turnsTo 59 = .ok (.invokevirtual 171, 3) := dk_182 0 171 (dk_at dksX7_turnsTo_2 12 rfl rfl)
theorem dX7_turnsTo_62 : decode cX7_turnsTo 62 = .ok (.invokevirtual 343, 3) := dk_182 1 87 (dk_at dksX7_turnsTo_2 15 rfl rfl)
theorem dX7_turnsTo_65 : decode cX7_turnsTo 65 = .ok (.istore 6, 2) := dk_54 6 (dk_at dksX7_turnsTo_2 18 rfl rfl)
theorem dX7_turnsTo_67 : decode cX7_turnsTo 67 = .ok (.iload 4, 2) := dk_21 4 (dk_at dksX7_turnsTo_2 20 rfl rfl)
theorem dX7_turnsTo_69 : decode cX7_turnsTo 69 = .ok (.istore 7, 2) := dk_54 7 (dk_at dksX7_turnsTo_2 22 rfl rfl)
theorem dX7_turnsTo_71 : decode cX7_turnsTo 71 = .ok (.iload 7, 2) := dk_21 7 (dk_at dksX7_turnsTo_3 0 rfl rfl)
theorem dX7_turnsTo_73 : decode cX7_turnsTo 73 = .ok (.ifCond .le 39, 3) := dk_158 0 39 (dk_at dksX7_turnsTo_3 2 rfl rfl)
theorem dX7_turnsTo_76 : decode cX7_turnsTo 76 = .ok (.aload_n 0, 1) := dk_42 (dk_at dksX7_turnsTo_3 5 rfl rfl)
theorem dX7_turnsTo_77 : decode cX7_turnsTo 77 = .ok (.getfield 59, 3) := dk_180 0 59 (dk_at dksX7_turnsTo_3 6 rfl rfl)
theorem dX7_turnsTo_80 : decode cX7_turnsTo 80 = .ok (.iload 7, 2) := dk_21 7 (dk_at dksX7_turnsTo_3 9 rfl rfl)
theorem dX7_turnsTo_82 : decode cX7_turnsTo 82 = .ok (.iconst 1, 1) := dk_4 (dk_at dksX7_turnsTo_3 11 rfl rfl)
theorem dX7_turnsTo_83 : decode cX7_turnsTo 83 = .ok (.isub, 1) := dk_100 (dk_at dksX7_turnsTo_3 12 rfl rfl)
theorem dX7_turnsTo_84 : decode cX7_turnsTo 84 = .ok (.iaload, 1) := dk_46 (dk_at dksX7_turnsTo_3 13 rfl rfl)
theorem dX7_turnsTo_85 : decode cX7_turnsTo 85 = .ok (.iload 6, 2) := dk_21 6 (dk_at dksX7_turnsTo_3 14 rfl rfl)
theorem dX7_turnsTo_87 : decode cX7_turnsTo 87 = .ok (.if_icmp .le 25, 3) := dk_164 0 25 (dk_at dksX7_turnsTo_3 16 rfl rfl)
theorem dX7_turnsTo_90 : decode cX7_turnsTo 90 = .ok (.aload_n 0, 1) := dk_42 (dk_at dksX7_turnsTo_3 19 rfl rfl)
theorem dX7_turnsTo_91 : decode cX7_turnsTo 91 = .ok (.getfield 59, 3) := dk_180 0 59 (dk_at dksX7_turnsTo_3 20 rfl rfl)
theorem dX7_turnsTo_94 : decode cX7_turnsTo 94 = .ok (.iload 7, 2) := dk_21 7 (dk_at dksX7_turnsTo_4 0 rfl rfl)
theorem dX7_turnsTo_96 : decode cX7_turnsTo 96 = .ok (.aload_n 0, 1) := dk_42 (dk_at dksX7_turnsTo_4 2 rfl rfl)
theorem dX7_turnsTo_97 : decode cX7_turnsTo 97 = .ok (.getfield 59, 3) := dk_180 0 59 (dk_at dksX7_turnsTo_4 3 rfl rfl)
theorem dX7_turnsTo_100 : decode cX7_turnsTo 100 = .ok (.iload 7, 2) := dk_21 7 (dk_at dksX7_turnsTo_4 6 rfl rfl)
theorem dX7_turnsTo_102 : decode cX7_turnsTo 102 = .ok (.iconst 1, 1) := dk_4 (dk_at dksX7_turnsTo_4 8 rfl rfl)
theorem dX7_turnsTo_103 : decode cX7_turnsTo 103 = .ok (.isub, 1) := dk_100 (dk_at dksX7_turnsTo_4 9 rfl rfl)
theorem dX7_turnsTo_104 : decode cX7_turnsTo 104 = .ok (.iaload, 1) := dk_46 (dk_at dksX7_turnsTo_4 10 rfl rfl)
theorem dX7_turnsTo_105 : decode cX7_turnsTo 105 = .ok (.iastore, 1) := dk_79 (dk_at dksX7_turnsTo_4 11 rfl rfl)
theorem dX7_turnsTo_106 : decode cX7_turnsTo 106 = .ok (.iinc 7 (-1), 3) := dk_132 7 255 (dk_at dksX7_turnsTo_4 12 rfl rfl)
theorem dX7_turnsTo_109 : decode cX7_turnsTo 109 = .ok (.goto (-38), 3) := dk_167 255 218 (dk_at dksX7_turnsTo_4 15 rfl rfl)
theorem dX7_turnsTo_112 : decode cX7_turnsTo 112 = .ok (.aload_n 0, 1) := dk_42 (dk_at dksX7_turnsTo_4 18 rfl rfl)
theorem dX7_turnsTo_113 : decode cX7_turnsTo 113 = .ok (.getfield 59, 3) := dk_180 0 59 (dk_at dksX7_turnsTo_4 19 rfl rfl)
theorem dX7_turnsTo_116 : decode cX7_turnsTo 116 = .ok (.iload 7, 2) := dk_21 7 (dk_at dksX7_turnsTo_4 22 rfl rfl)
theorem dX7_turnsTo_118 : decode cX7_turnsTo 118 = .ok (.iload 6, 2) := dk_21 6 (dk_at dksX7_turnsTo_5 0 rfl rfl)
theorem dX7_turnsTo_120 : decode cX7_turnsTo 120 = .ok (.iastore, 1) := dk_79 (dk_at dksX7_turnsTo_5 2 rfl rfl)
theorem dX7_turnsTo_121 : decode cX7_turnsTo 121 = .ok (.iinc 4 1, 3) := dk_132 4 1 (dk_at dksX7_turnsTo_5 3 rfl rfl)
theorem dX7_turnsTo_124 : decode cX7_turnsTo 124 = .ok (.iinc 5 1, 3) := dk_132 5 1 (dk_at dksX7_turnsTo_5 6 rfl rfl)
theorem dX7_turnsTo_127 : decode cX7_turnsTo 127 = .ok (.goto (-103), 3) := dk_167 255 153 (dk_at dksX7_turnsTo_5 9 rfl rfl)
theorem dX7_turnsTo_130 : decode cX7_turnsTo 130 = .ok (.iload 4, 2) := dk_21 4 (dk_at dksX7_turnsTo_5 12 rfl rfl)
theorem dX7_turnsTo_132 : decode cX7_turnsTo 132 = .ok (.ireturn, 1) := dk_172 (dk_at dksX7_turnsTo_5 14 rfl rfl)
abbrev cX7_rotate : ByteArray := prog_32_method_82_code
def yX7_rotate : MethodName := ⟨RX7, "rotate", "(III)I"⟩
def dkwX7_rotate_1 : List UInt8 := [28, 42, 27, 29, 182, 1, 99, 162, 0, 12, 42, 180, 0, 59, 28, 46, 167, 0, 5, 16, 253, 172]
abbrev dktX7_rotate_1 : List UInt8 := dkwX7_rotate_1 ++ []
def dkwX7_rotate_0 : List UInt8 := [42, 27, 182, 0, 116, 153, 0, 17, 28, 155, 0, 13, 29, 133, 9, 10, 184, 0, 133, 154, 0, 5, 2, 172]
abbrev dktX7_rotate_0 : List UInt8 := dkwX7_rotate_0 ++ dktX7_rotate_1
theorem dksX7_rotate_0 : cX7_rotate.data.toList.drop 0 = dktX7_rotate_0 := by decide +kernel
theorem dksX7_rotate_1 : cX7_rotate.data.toList.drop 24 = dktX7_rotate_1 := dk_seg dksX7_rotate_0 24 rfl rfl
theorem dX7_rotate_0 : decode cX7_rotate 0 = .ok (.aload_n 0, 1) := dk_42 (dk_at dksX7_rotate_0 0 rfl rfl)
theorem dX7_rotate_1 : decode cX7_rotate 1 = .ok (.iload_n 1, 1) := dk_27 (dk_at dksX7_rotate_0 1 rfl rfl)
theorem dX7_rotate_2 : decode cX7_rotate 2 = .ok (.invokevirtual 116, 3) := dk_182 0 116 (dk_at dksX7_rotate_0 2 rfl rfl)
theorem dX7_rotate_5 : decode cX7_rotate 5 = .ok (.ifCond .eq 17, 3) := dk_153 0 17 (dk_at dksX7_rotate_0 5 rfl rfl)
theorem dX7_rotate_8 : decode cX7_rotate 8 = .ok (.iload_n 2, 1) := dk_28 (dk_at dksX7_rotate_0 8 rfl rfl)
theorem dX7_rotate_9 : decode cX7_rotate 9 = .ok (.ifCond .lt 13, 3) := dk_155 0 13 (dk_at dksX7_rotate_0 9 rfl rfl)
theorem dX7_rotate_12 : decode cX7_rotate 12 = .ok (.iload_n 3, 1) := dk_29 (dk_at dksX7_rotate_0 12 rfl rfl)
theorem dX7_rotate_13 : decode cX7_rotate 13 = .ok (.i2l, 1) := dk_133 (dk_at dksX7_rotate_0 13 rfl rfl)
theorem dX7_rotate_14 : decode cX7_rotate 14 = .ok (.lconst 0, 1) := dk_9 (dk_at dksX7_rotate_0 14 rfl rfl)
theorem dX7_rotate_15 : decode cX7_rotate 15 = .ok (.lconst 1, 1) := dk_10 (dk_at dksX7_rotate_0 15 rfl rfl)
theorem dX7_rotate_16 : decode cX7_rotate 16 = .ok (.invokestatic 133, 3) := dk_184 0 133 (dk_at dksX7_rotate_0 16 rfl rfl)
theorem dX7_rotate_19 : decode cX7_rotate 19 = .ok (.ifCond .ne 5, 3) := dk_154 0 5 (dk_at dksX7_rotate_0 19 rfl rfl)
theorem dX7_rotate_22 : decode cX7_rotate 22 = .ok (.iconst (-1), 1) := dk_2 (dk_at dksX7_rotate_0 22 rfl rfl)
theorem dX7_rotate_23 : decode cX7_rotate 23 = .ok (.ireturn, 1) := dk_172 (dk_at dksX7_rotate_0 23 rfl rfl)
theorem dX7_rotate_24 : decode cX7_rotate 24 = .ok (.iload_n 2, 1) := dk_28 (dk_at dksX7_rotate_1 0 rfl rfl)
theorem dX7_rotate_25 : decode cX7_rotate 25 = .ok (.aload_n 0, 1) := dk_42 (dk_at dksX7_rotate_1 1 rfl rfl)
theorem dX7_rotate_26 : decode cX7_rotate 26 = .ok (.iload_n 1, 1) := dk_27 (dk_at dksX7_rotate_1 2 rfl rfl)
theorem dX7_rotate_27 : decode cX7_rotate 27 = .ok (.iload_n 3, 1) := dk_29 (dk_at dksX7_rotate_1 3 rfl rfl)
theorem dX7_rotate_28 : decode cX7_rotate 28 = .ok (.invokevirtual 355, 3) := dk_182 1 99 (dk_at dksX7_rotate_1 4 rfl rfl)
theorem dX7_rotate_31 : decode cX7_rotate 31 = .ok (.if_icmp .ge 12, 3) := dk_162 0 12 (dk_at dksX7_rotate_1 7 rfl rfl)
theorem dX7_rotate_34 : decode cX7_rotate 34 = .ok (.aload_n 0, 1) := dk_42 (dk_at dksX7_rotate_1 10 rfl rfl)
theorem dX7_rotate_35 : decode cX7_rotate 35 = .ok (.getfield 59, 3) := dk_180 0 59 (dk_at dksX7_rotate_1 11 rfl rfl)
theorem dX7_rotate_38 : decode cX7_rotate 38 = .ok (.iload_n 2, 1) := dk_28 (dk_at dksX7_rotate_1 14 rfl rfl)
theorem dX7_rotate_39 : decode cX7_rotate 39 = .ok (.iaload, 1) := dk_46 (dk_at dksX7_rotate_1 15 rfl rfl)
theorem dX7_rotate_40 : decode cX7_rotate 40 = .ok (.goto 5, 3) := dk_167 0 5 (dk_at dksX7_rotate_1 16 rfl rfl)
theorem dX7_rotate_43 : decode cX7_rotate 43 = .ok (.bipush (-3), 2) := dk_16 253 (dk_at dksX7_rotate_1 19 rfl rfl)
theorem dX7_rotate_45 : decode cX7_rotate 45 = .ok (.ireturn, 1) := dk_172 (dk_at dksX7_rotate_1 21 rfl rfl)
abbrev cX7_apart : ByteArray := prog_32_method_85_code
def yX7_apart : MethodName := ⟨RX7, "apart", "(II)I"⟩
def dkwX7_apart_1 : List UInt8 := [167, 0, 17, 42, 42, 27, 182, 1, 87, 42, 28, 182, 1, 87, 182, 1, 105, 172]
abbrev dktX7_apart_1 : List UInt8 := dkwX7_apart_1 ++ []
def dkwX7_apart_0 : List UInt8 := [42, 27, 28, 182, 0, 141, 154, 0, 7, 2, 167, 0, 31, 42, 180, 0, 7, 16, 6, 160, 0, 8, 16, 252]
abbrev dktX7_apart_0 : List UInt8 := dkwX7_apart_0 ++ dktX7_apart_1
theorem dksX7_apart_0 : cX7_apart.data.toList.drop 0 = dktX7_apart_0 := by decide +kernel
theorem dksX7_apart_1 : cX7_apart.data.toList.drop 24 = dktX7_apart_1 := dk_seg dksX7_apart_0 24 rfl rfl
theorem dX7_apart_0 : decode cX7_apart 0 = .ok (.aload_n 0, 1) := dk_42 (dk_at dksX7_apart_0 0 rfl rfl)
theorem dX7_apart_1 : decode cX7_apart 1 = .ok (.iload_n 1, 1) := dk_27 (dk_at dksX7_apart_0 1 rfl rfl)
theorem dX7_apart_2 : decode cX7_apart 2 = .ok (.iload_n 2, 1) := dk_28 (dk_at dksX7_apart_0 2 rfl rfl)
theorem dX7_apart_3 : decode cX7_apart 3 = .ok (.invokevirtual 141, 3) := dk_182 0 141 (dk_at dksX7_apart_0 3 rfl rfl)
theorem dX7_apart_6 : decode cX7_apart 6 = .ok (.ifCond .ne 7, 3) := dk_154 0 7 (dk_at dksX7_apart_0 6 rfl rfl)
theorem dX7_apart_9 : decode cX7_apart 9 = .ok (.iconst (-1), 1) := dk_2 (dk_at dksX7_apart_0 9 rfl rfl)
theorem dX7_apart_10 : decode cX7_apart 10 = .ok (.goto 31, 3) := dk_167 0 31 (dk_at dksX7_apart_0 10 rfl rfl)
theorem dX7_apart_13 : decode cX7_apart 13 = .ok (.aload_n 0, 1) := dk_42 (dk_at dksX7_apart_0 13 rfl rfl)
theorem dX7_apart_14 : decode cX7_apart 14 = .ok (.getfield 7, 3) := dk_180 0 7 (dk_at dksX7_apart_0 14 rfl rfl)
theorem dX7_apart_17 : decode cX7_apart 17 = .ok (.bipush 6, 2) := dk_16 6 (dk_at dksX7_apart_0 17 rfl rfl)
theorem dX7_apart_19 : decode cX7_apart 19 = .ok (.if_icmp .ne 8, 3) := dk_160 0 8 (dk_at dksX7_apart_0 19 rfl rfl)
theorem dX7_apart_22 : decode cX7_apart 22 = .ok (.bipush (-4), 2) := dk_16 252 (dk_at dksX7_apart_0 22 rfl rfl)
theorem dX7_apart_24 : decode cX7_apart 24 = .ok (.goto 17, 3) := dk_167 0 17 (dk_at dksX7_apart_1 0 rfl rfl)
theorem dX7_apart_27 : decode cX7_apart 27 = .ok (.aload_n 0, 1) := dk_42 (dk_at dksX7_apart_1 3 rfl rfl)
theorem dX7_apart_28 : decode cX7_apart 28 = .ok (.aload_n 0, 1) := dk_42 (dk_at dksX7_apart_1 4 rfl rfl)
theorem dX7_apart_29 : decode cX7_apart 29 = .ok (.iload_n 1, 1) := dk_27 (dk_at dksX7_apart_1 5 rfl rfl)
theorem dX7_apart_30 : decode cX7_apart 30 = .ok (.invokevirtual 343, 3) := dk_182 1 87 (dk_at dksX7_apart_1 6 rfl rfl)
theorem dX7_apart_33 : decode cX7_apart 33 = .ok (.aload_n 0, 1) := dk_42 (dk_at dksX7_apart_1 9 rfl rfl)
theorem dX7_apart_34 : decode cX7_apart 34 = .ok (.iload_n 2, 1) := dk_28 (dk_at dksX7_apart_1 10 rfl rfl)
theorem dX7_apart_35 : decode cX7_apart 35 = .ok (.invokevirtual 343, 3) := dk_182 1 87 (dk_at dksX7_apart_1 11 rfl rfl)
theorem dX7_apart_38 : decode cX7_apart 38 = .ok (.invokevirtual 361, 3) := dk_182 1 105 (dk_at dksX7_apart_1 14 rfl rfl)
theorem dX7_apart_41 : decode cX7_apart 41 = .ok (.ireturn, 1) := dk_172 (dk_at dksX7_apart_1 17 rfl rfl)
abbrev cX7_apartOf : ByteArray := prog_32_method_84_code
def yX7_apartOf : MethodName := ⟨RX7, "apartOf", "(II)I"⟩
def dkwX7_apartOf_7 : List UInt8 := [180, 0, 62, 42, 28, 182, 0, 162, 46, 172]
abbrev dktX7_apartOf_7 : List UInt8 := dkwX7_apartOf_7 ++ []
def dkwX7_apartOf_6 : List UInt8 := [132, 3, 1, 132, 7, 1, 167, 255, 177, 132, 5, 1, 167, 255, 147, 132, 4, 1, 167, 255, 125, 42]
abbrev dktX7_apartOf_6 : List UInt8 := dkwX7_apartOf_6 ++ dktX7_apartOf_7
def dkwX7_apartOf_5 : List UInt8 := [21, 4, 46, 182, 0, 162, 46, 4, 96, 79, 42, 180, 0, 68, 29, 42, 180, 0, 59, 21, 7, 46, 79]
abbrev dktX7_apartOf_5 : List UInt8 := dkwX7_apartOf_5 ++ dktX7_apartOf_6
def dkwX7_apartOf_4 : List UInt8 := [42, 180, 0, 62, 42, 42, 180, 0, 59, 21, 7, 46, 182, 0, 162, 42, 180, 0, 62, 42, 42, 180, 0, 68]
abbrev dktX7_apartOf_4 : List UInt8 := dkwX7_apartOf_4 ++ dktX7_apartOf_5
def dkwX7_apartOf_3 : List UInt8 := [21, 6, 162, 0, 78, 42, 180, 0, 62, 42, 42, 180, 0, 59, 21, 7, 46, 182, 0, 162, 46, 156, 0, 53]
abbrev dktX7_apartOf_3 : List UInt8 := dkwX7_apartOf_3 ++ dktX7_apartOf_4
def dkwX7_apartOf_2 : List UInt8 := [162, 0, 109, 42, 42, 180, 0, 68, 21, 4, 46, 21, 5, 182, 1, 99, 54, 6, 3, 54, 7, 21, 7]
abbrev dktX7_apartOf_2 : List UInt8 := dkwX7_apartOf_2 ++ dktX7_apartOf_3
def dkwX7_apartOf_1 : List UInt8 := [3, 54, 4, 42, 180, 0, 62, 42, 28, 182, 0, 162, 46, 156, 0, 124, 3, 54, 5, 21, 5, 5]
abbrev dktX7_apartOf_1 : List UInt8 := dkwX7_apartOf_1 ++ dktX7_apartOf_2
def dkwX7_apartOf_0 : List UInt8 := [42, 182, 1, 102, 42, 180, 0, 62, 42, 27, 182, 0, 162, 3, 79, 42, 180, 0, 68, 3, 27, 79, 4, 62]
abbrev dktX7_apartOf_0 : List UInt8 := dkwX7_apartOf_0 ++ dktX7_apartOf_1
theorem dksX7_apartOf_0 : cX7_apartOf.data.toList.drop 0 = dktX7_apartOf_0 := by decide +kernel
theorem dksX7_apartOf_1 : cX7_apartOf.data.toList.drop 24 = dktX7_apartOf_1 := dk_seg dksX7_apartOf_0 24 rfl rfl
theorem dksX7_apartOf_2 : cX7_apartOf.data.toList.drop 46 = dktX7_apartOf_2 := dk_seg dksX7_apartOf_1 22 rfl rfl
theorem dksX7_apartOf_3 : cX7_apartOf.data.toList.drop 69 = dktX7_apartOf_3 := dk_seg dksX7_apartOf_2 23 rfl rfl
theorem dksX7_apartOf_4 : cX7_apartOf.data.toList.drop 93 = dktX7_apartOf_4 := dk_seg dksX7_apartOf_3 24 rfl rfl
theorem dksX7_apartOf_5 : cX7_apartOf.data.toList.drop 117 = dktX7_apartOf_5 := dk_seg dksX7_apartOf_4 24 rfl rfl
theorem dksX7_apartOf_6 : cX7_apartOf.data.toList.drop 140 = dktX7_apartOf_6 := dk_seg dksX7_apartOf_5 23 rfl rfl
theorem dksX7_apartOf_7 : cX7_apartOf.data.toList.drop 162 = dktX7_apartOf_7 := dk_seg dksX7_apartOf_6 22 rfl rfl
theorem dX7_apartOf_0 : decode cX7_apartOf 0 = .ok (.aload_n 0, 1) := dk_42 (dk_at dksX7_apartOf_0 0 rfl rfl)
theorem dX7_apartOf_1 : decode cX7_apartOf 1 = .ok (.invokevirtual 358, 3) := dk_182 1 102 (dk_at dksX7_apartOf_0 1 rfl rfl)
theorem dX7_apartOf_4 : decode cX7_apartOf 4 = .ok (.aload_n 0, 1) := dk_42 (dk_at dksX7_apartOf_0 4 rfl rfl)
theorem dX7_apartOf_5 : decode cX7_apartOf 5 = .ok (.getfield 62, 3) := dk_180 0 62 (dk_at dksX7_apartOf_0 5 rfl rfl)
theorem dX7_apartOf_8 : decode cX7_apartOf 8 = .ok (.aload_n 0, 1) := dk_42 (dk_at dksX7_apartOf_0 8 rfl rfl)
theorem dX7_apartOf_9 : decode cX7_apartOf 9 = .ok (.iload_n 1, 1) := dk_27 (dk_at dksX7_apartOf_0 9 rfl rfl)
theorem dX7_apartOf_10 : decode cX7_apartOf 10 = .ok (.invokevirtual 162, 3) := dk_182 0 162 (dk_at dksX7_apartOf_0 10 rfl rfl)
theorem dX7_apartOf_13 : decode cX7_apartOf 13 = .ok (.iconst 0, 1) := dk_3 (dk_at dksX7_apartOf_0 13 rfl rfl)
theorem dX7_apartOf_14 : decode cX7_apartOf 14 = .ok (.iastore, 1) := dk_79 (dk_at dksX7_apartOf_0 14 rfl rfl)
theorem dX7_apartOf_15 : decode cX7_apartOf 15 = .ok (.aload_n 0, 1) := dk_42 (dk_at dksX7_apartOf_0 15 rfl rfl)
theorem dX7_apartOf_16 : decode cX7_apartOf 16 = .ok (.getfield 68, 3) := dk_180 0 68 (dk_at dksX7_apartOf_0 16 rfl rfl)
theorem dX7_apartOf_19 : decode cX7_apartOf 19 = .ok (.iconst 0, 1) := dk_3 (dk_at dksX7_apartOf_0 19 rfl rfl)
theorem dX7_apartOf_20 : decode cX7_apartOf 20 = .ok (.iload_n 1, 1) := dk_27 (dk_at dksX7_apartOf_0 20 rfl rfl)
theorem dX7_apartOf_21 : decode cX7_apartOf 21 = .ok (.iastore, 1) := dk_79 (dk_at dksX7_apartOf_0 21 rfl rfl)
theorem dX7_apartOf_22 : decode cX7_apartOf 22 = .ok (.iconst 1, 1) := dk_4 (dk_at dksX7_apartOf_0 22 rfl rfl)
theorem dX7_apartOf_23 : decode cX7_apartOf 23 = .ok (.istore_n 3, 1) := dk_62 (dk_at dksX7_apartOf_0 23 rfl rfl)
theorem dX7_apartOf_24 : decode cX7_apartOf 24 = .ok (.iconst 0, 1) := dk_3 (dk_at dksX7_apartOf_1 0 rfl rfl)
theorem dX7_apartOf_25 : decode cX7_apartOf 25 = .ok (.istore 4, 2) := dk_54 4 (dk_at dksX7_apartOf_1 1 rfl rfl)
theorem dX7_apartOf_27 : decode cX7_apartOf 27 = .ok (.aload_n 0, 1) := dk_42 (dk_at dksX7_apartOf_1 3 rfl rfl)
theorem dX7_apartOf_28 : decode cX7_apartOf 28 = .ok (.getfield 62, 3) := dk_180 0 62 (dk_at dksX7_apartOf_1 4 rfl rfl)
theorem dX7_apartOf_31 : decode cX7_apartOf 31 = .ok (.aload_n 0, 1) := dk_42 (dk_at dksX7_apartOf_1 7 rfl rfl)
theorem dX7_apartOf_32 : decode cX7_apartOf 32 = .ok (.iload_n 2, 1) := dk_28 (dk_at dksX7_apartOf_1 8 rfl rfl)
theorem dX7_apartOf_33 : decode cX7_apartOf 33 = .ok (.invokevirtual 162, 3) := dk_182 0 162 (dk_at dksX7_apartOf_1 9 rfl rfl)
theorem dX7_apartOf_36 : decode cX7_apartOf 36 = .ok (.iaload, 1) := dk_46 (dk_at dksX7_apartOf_1 12 rfl rfl)
theorem dX7_apartOf_37 : decode cX7_apartOf 37 = .ok (.ifCond .ge 124, 3) := dk_156 0 124 (dk_at dksX7_apartOf_1 13 rfl rfl)
theorem dX7_apartOf_40 : decode cX7_apartOf 40 = .ok (.iconst 0, 1) := dk_3 (dk_at dksX7_apartOf_1 16 rfl rfl)
theorem dX7_apartOf_41 : decode cX7_apartOf 41 = .ok (.istore 5, 2) := dk_54 5 (dk_at dksX7_apartOf_1 17 rfl rfl)
theorem dX7_apartOf_43 : decode cX7_apartOf 43 = .ok (.iload 5, 2) := dk_21 5 (dk_at dksX7_apartOf_1 19 rfl rfl)
theorem dX7_apartOf_45 : decode cX7_apartOf 45 = .ok (.iconst 2, 1) := dk_5 (dk_at dksX7_apartOf_1 21 rfl rfl)
theorem dX7_apartOf_46 : decode cX7_apartOf 46 = .ok (.if_icmp .ge 109, 3) := dk_162 0 109 (dk_at dksX7_apartOf_2 0 rfl rfl)
theorem dX7_apartOf_49 : decode cX7_apartOf 49 = .ok (.aload_n 0, 1) := dk_42 (dk_at dksX7_apartOf_2 3 rfl rfl)
theorem dX7_apartOf_50 : decode cX7_apartOf 50 = .ok (.aload_n 0, 1) := dk_42 (dk_at dksX7_apartOf_2 4 rfl rfl)
theorem dX7_apartOf_51 : decode cX7_apartOf 51 = .ok (.getfield 68, 3) := dk_180 0 68 (dk_at dksX7_apartOf_2 5 rfl rfl)
theorem dX7_apartOf_54 : decode cX7_apartOf 54 = .ok (.iload 4, 2) := dk_21 4 (dk_at dksX7_apartOf_2 8 rfl rfl)
theorem dX7_apartOf_56 : decode cX7_apartOf 56 = .ok (.iaload, 1) := dk_46 (dk_at dksX7_apartOf_2 10 rfl rfl)
theorem dX7_apartOf_57 : decode cX7_apartOf 57 = .ok (.iload 5, 2) := dk_21 5 (dk_at dksX7_apartOf_2 11 rfl rfl)
theorem dX7_apartOf_59 : decode cX7_apartOf 59 = .ok (.invokevirtual 355, 3) := dk_182 1 99 (dk_at dksX7_apartOf_2 13 rfl rfl)
theorem dX7_apartOf_62 : decode cX7_apartOf 62 = .ok (.istore 6, 2) := dk_54 6 (dk_at dksX7_apartOf_2 16 rfl rfl)
theorem dX7_apartOf_64 : decode cX7_apartOf 64 = .ok (.iconst 0, 1) := dk_3 (dk_at dksX7_apartOf_2 18 rfl rfl)
theorem dX7_apartOf_65 : decode cX7_apartOf 65 = .ok (.istore 7, 2) := dk_54 7 (dk_at dksX7_apartOf_2 19 rfl rfl)
theorem dX7_apartOf_67 : decode cX7_apartOf 67 = .ok (.iload 7, 2) := dk_21 7 (dk_at dksX7_apartOf_2 21 rfl rfl)
theorem dX7_apartOf_69 : decode cX7_apartOf 69 = .ok (.iload 6, 2) := dk_21 6 (dk_at dksX7_apartOf_3 0 rfl rfl)
theorem dX7_apartOf_71 : decode cX7_apartOf 71 = .ok (.if_icmp .ge 78, 3) := dk_162 0 78 (dk_at dksX7_apartOf_3 2 rfl rfl)
theorem dX7_apartOf_74 : decode cX7_apartOf 74 = .ok (.aload_n 0, 1) := dk_42 (dk_at dksX7_apartOf_3 5 rfl rfl)
theorem dX7_apartOf_75 : decode cX7_apartOf 75 = .ok (.getfield 62, 3) := dk_180 0 62 (dk_at dksX7_apartOf_3 6 rfl rfl)
theorem dX7_apartOf_78 : decode cX7_apartOf 78 = .ok (.aload_n 0, 1) := dk_42 (dk_at dksX7_apartOf_3 9 rfl rfl)
theorem dX7_apartOf_79 : decode cX7_apartOf 79 = .ok (.aload_n 0, 1) := dk_42 (dk_at dksX7_apartOf_3 10 rfl rfl)
theorem dX7_apartOf_80 : decode cX7_apartOf 80 = .ok (.getfield 59, 3) := dk_180 0 59 (dk_at dksX7_apartOf_3 11 rfl rfl)
theorem dX7_apartOf_83 : decode cX7_apartOf 83 = .ok (.iload 7, 2) := dk_21 7 (dk_at dksX7_apartOf_3 14 rfl rfl)
theorem dX7_apartOf_85 : decode cX7_apartOf 85 = .ok (.iaload, 1) := dk_46 (dk_at dksX7_apartOf_3 16 rfl rfl)
theorem dX7_apartOf_86 : decode cX7_apartOf 86 = .ok (.invokevirtual 162, 3) := dk_182 0 162 (dk_at dksX7_apartOf_3 17 rfl rfl)
theorem dX7_apartOf_89 : decode cX7_apartOf 89 = .ok (.iaload, 1) := dk_46 (dk_at dksX7_apartOf_3 20 rfl rfl)
theorem dX7_apartOf_90 : decode cX7_apartOf 90 = .ok (.ifCond .ge 53, 3) := dk_156 0 53 (dk_at dksX7_apartOf_3 21 rfl rfl)
theorem dX7_apartOf_93 : decode cX7_apartOf 93 = .ok (.aload_n 0, 1) := dk_42 (dk_at dksX7_apartOf_4 0 rfl rfl)
theorem dX7_apartOf_94 : decode cX7_apartOf 94 = .ok (.getfield 62, 3) := dk_180 0 62 (dk_at dksX7_apartOf_4 1 rfl rfl)
theorem dX7_apartOf_97 : decode cX7_apartOf 97 = .ok (.aload_n 0, 1) := dk_42 (dk_at dksX7_apartOf_4 4 rfl rfl)
theorem dX7_apartOf_98 : decode cX7_apartOf 98 = .ok (.aload_n 0, 1) := dk_42 (dk_at dksX7_apartOf_4 5 rfl rfl)
theorem dX7_apartOf_99 : decode cX7_apartOf 99 = .ok (.getfield 59, 3) := dk_180 0 59 (dk_at dksX7_apartOf_4 6 rfl rfl)
theorem dX7_apartOf_102 : decode cX7_apartOf 102 = .ok (.iload 7, 2) := dk_21 7 (dk_at dksX7_apartOf_4 9 rfl rfl)
theorem dX7_apartOf_104 : decode cX7_apartOf 104 = .ok (.iaload, 1) := dk_46 (dk_at dksX7_apartOf_4 11 rfl rfl)
theorem dX7_apartOf_105 : decode cX7_apartOf 105 = .ok (.invokevirtual 162, 3) := dk_182 0 162 (dk_at dksX7_apartOf_4 12 rfl rfl)
theorem dX7_apartOf_108 : decode cX7_apartOf 108 = .ok (.aload_n 0, 1) := dk_42 (dk_at dksX7_apartOf_4 15 rfl rfl)
theorem dX7_apartOf_109 : decode cX7_apartOf 109 = .ok (.getfield 62, 3) := dk_180 0 62 (dk_at dksX7_apartOf_4 16 rfl rfl)
theorem dX7_apartOf_112 : decode cX7_apartOf 112 = .ok (.aload_n 0, 1) := dk_42 (dk_at dksX7_apartOf_4 19 rfl rfl)
theorem dX7_apartOf_113 : decode cX7_apartOf 113 = .ok (.aload_n 0, 1) := dk_42 (dk_at dksX7_apartOf_4 20 rfl rfl)
theorem dX7_apartOf_114 : decode cX7_apartOf 114 = .ok (.getfield 68, 3) := dk_180 0 68 (dk_at dksX7_apartOf_4 21 rfl rfl)
theorem dX7_apartOf_117 : decode cX7_apartOf 117 = .ok (.iload 4, 2) := dk_21 4 (dk_at dksX7_apartOf_5 0 rfl rfl)
theorem dX7_apartOf_119 : decode cX7_apartOf 119 = .ok (.iaload, 1) := dk_46 (dk_at dksX7_apartOf_5 2 rfl rfl)
theorem dX7_apartOf_120 : decode cX7_apartOf 120 = .ok (.invokevirtual 162, 3) := dk_182 0 162 (dk_at dksX7_apartOf_5 3 rfl rfl)
theorem dX7_apartOf_123 : decode cX7_apartOf 123 = .ok (.iaload, 1) := dk_46 (dk_at dksX7_apartOf_5 6 rfl rfl)
theorem dX7_apartOf_124 : decode cX7_apartOf 124 = .ok (.iconst 1, 1) := dk_4 (dk_at dksX7_apartOf_5 7 rfl rfl)
theorem dX7_apartOf_125 : decode cX7_apartOf 125 = .ok (.iadd, 1) := dk_96 (dk_at dksX7_apartOf_5 8 rfl rfl)
theorem dX7_apartOf_126 : decode cX7_apartOf 126 = .ok (.iastore, 1) := dk_79 (dk_at dksX7_apartOf_5 9 rfl rfl)
theorem dX7_apartOf_127 : decode cX7_apartOf 127 = .ok (.aload_n 0, 1) := dk_42 (dk_at dksX7_apartOf_5 10 rfl rfl)
theorem dX7_apartOf_128 : decode cX7_apartOf 128 = .ok (.getfield 68, 3) := dk_180 0 68 (dk_at dksX7_apartOf_5 11 rfl rfl)
theorem dX7_apartOf_131 : decode cX7_apartOf 131 = .ok (.iload_n 3, 1) := dk_29 (dk_at dksX7_apartOf_5 14 rfl rfl)
theorem dX7_apartOf_132 : decode cX7_apartOf 132 = .ok (.aload_n 0, 1) := dk_42 (dk_at dksX7_apartOf_5 15 rfl rfl)
theorem dX7_apartOf_133 : decode cX7_apartOf 133 = .ok (.getfield 59, 3) := dk_180 0 59 (dk_at dksX7_apartOf_5 16 rfl rfl)
theorem dX7_apartOf_136 : decode cX7_apartOf 136 = .ok (.iload 7, 2) := dk_21 7 (dk_at dksX7_apartOf_5 19 rfl rfl)
theorem dX7_apartOf_138 : decode cX7_apartOf 138 = .ok (.iaload, 1) := dk_46 (dk_at dksX7_apartOf_5 21 rfl rfl)
theorem dX7_apartOf_139 : decode cX7_apartOf 139 = .ok (.iastore, 1) := dk_79 (dk_at dksX7_apartOf_5 22 rfl rfl)
theorem dX7_apartOf_140 : decode cX7_apartOf 140 = .ok (.iinc 3 1, 3) := dk_132 3 1 (dk_at dksX7_apartOf_6 0 rfl rfl)
theorem dX7_apartOf_143 : decode cX7_apartOf 143 = .ok (.iinc 7 1, 3) := dk_132 7 1 (dk_at dksX7_apartOf_6 3 rfl rfl)
theorem dX7_apartOf_146 : decode cX7_apartOf 146 = .ok (.goto (-79), 3) := dk_167 255 177 (dk_at dksX7_apartOf_6 6 rfl rfl)
theorem dX7_apartOf_149 : decode cX7_apartOf 149 = .ok (.iinc 5 1, 3) := dk_132 5 1 (dk_at dksX7_apartOf_6 9 rfl rfl)
theorem dX7_apartOf_152 : decode cX7_apartOf 152 = .ok (.goto (-109), 3) := dk_167 255 147 (dk_at dksX7_apartOf_6 12 rfl rfl)
theorem dX7_apartOf_155 : decode cX7_apartOf 155 = .ok (.iinc 4 1, 3) := dk_132 4 1 (dk_at dksX7_apartOf_6 15 rfl rfl)
theorem dX7_apartOf_158 : decode cX7_apartOf 158 = .ok (.goto (-131), 3) := dk_167 255 125 (dk_at dksX7_apartOf_6 18 rfl rfl)
theorem dX7_apartOf_161 : decode cX7_apartOf 161 = .ok (.aload_n 0, 1) := dk_42 (dk_at dksX7_apartOf_6 21 rfl rfl)
theorem dX7_apartOf_162 : decode cX7_apartOf 162 = .ok (.getfield 62, 3) := dk_180 0 62 (dk_at dksX7_apartOf_7 0 rfl rfl)
theorem dX7_apartOf_165 : decode cX7_apartOf 165 = .ok (.aload_n 0, 1) := dk_42 (dk_at dksX7_apartOf_7 3 rfl rfl)
theorem dX7_apartOf_166 : decode cX7_apartOf 166 = .ok (.iload_n 2, 1) := dk_28 (dk_at dksX7_apartOf_7 4 rfl rfl)
theorem dX7_apartOf_167 : decode cX7_apartOf 167 = .ok (.invokevirtual 162, 3) := dk_182 0 162 (dk_at dksX7_apartOf_7 5 rfl rfl)
theorem dX7_apartOf_170 : decode cX7_apartOf 170 = .ok (.iaload, 1) := dk_46 (dk_at dksX7_apartOf_7 8 rfl rfl)
theorem dX7_apartOf_171 : decode cX7_apartOf 171 = .ok (.ireturn, 1) := dk_172 (dk_at dksX7_apartOf_7 9 rfl rfl)
abbrev cX7_begins : ByteArray := prog_32_method_83_code
def yX7_begins : MethodName := ⟨RX7, "begins", "()V"⟩
def dkwX7_begins_1 : List UInt8 := [132, 1, 1, 167, 255, 233, 177]
abbrev dktX7_begins_1 : List UInt8 := dkwX7_begins_1 ++ []
def dkwX7_begins_0 : List UInt8 := [3, 60, 27, 16, 120, 162, 0, 23, 42, 180, 0, 62, 27, 2, 79, 42, 180, 0, 65, 27, 2, 79]
abbrev dktX7_begins_0 : List UInt8 := dkwX7_begins_0 ++ dktX7_begins_1
theorem dksX7_begins_0 : cX7_begins.data.toList.drop 0 = dktX7_begins_0 := by decide +kernel
theorem dksX7_begins_1 : cX7_begins.data.toList.drop 22 = dktX7_begins_1 := dk_seg dksX7_begins_0 22 rfl rfl
theorem dX7_begins_0 : decode cX7_begins 0 = .ok (.iconst 0, 1) := dk_3 (dk_at dksX7_begins_0 0 rfl rfl)
theorem dX7_begins_1 : decode cX7_begins 1 = .ok (.istore_n 1, 1) := dk_60 (dk_at dksX7_begins_0 1 rfl rfl)
theorem dX7_begins_2 : decode cX7_begins 2 = .ok (.iload_n 1, 1) := dk_27 (dk_at dksX7_begins_0 2 rfl rfl)
theorem dX7_begins_3 : decode cX7_begins 3 = .ok (.bipush 120, 2) := dk_16 120 (dk_at dksX7_begins_0 3 rfl rfl)
theorem dX7_begins_5 : decode cX7_begins 5 = .ok (.if_icmp .ge 23, 3) := dk_162 0 23 (dk_at dksX7_begins_0 5 rfl rfl)
theorem dX7_begins_8 : decode cX7_begins 8 = .ok (.aload_n 0, 1) := dk_42 (dk_at dksX7_begins_0 8 rfl rfl)
theorem dX7_begins_9 : decode cX7_begins 9 = .ok (.getfield 62, 3) := dk_180 0 62 (dk_at dksX7_begins_0 9 rfl rfl)
theorem dX7_begins_12 : decode cX7_begins 12 = .ok (.iload_n 1, 1) := dk_27 (dk_at dksX7_begins_0 12 rfl rfl)
theorem dX7_begins_13 : decode cX7_begins 13 = .ok (.iconst (-1), 1) := dk_2 (dk_at dksX7_begins_0 13 rfl rfl)
theorem dX7_begins_14 : decode cX7_begins 14 = .ok (.iastore, 1) := dk_79 (dk_at dksX7_begins_0 14 rfl rfl)
theorem dX7_begins_15 : decode cX7_begins 15 = .ok (.aload_n 0, 1) := dk_42 (dk_at dksX7_begins_0 15 rfl rfl)
theorem dX7_begins_16 : decode cX7_begins 16 = .ok (.getfield 65, 3) := dk_180 0 65 (dk_at dksX7_begins_0 16 rfl rfl)
theorem dX7_begins_19 : decode cX7_begins 19 = .ok (.iload_n 1, 1) := dk_27 (dk_at dksX7_begins_0 19 rfl rfl)
theorem dX7_begins_20 : decode cX7_begins 20 = .ok (.iconst (-1), 1) := dk_2 (dk_at dksX7_begins_0 20 rfl rfl)
theorem dX7_begins_21 : decode cX7_begins 21 = .ok (.iastore, 1) := dk_79 (dk_at dksX7_begins_0 21 rfl rfl)
theorem dX7_begins_22 : decode cX7_begins 22 = .ok (.iinc 1 1, 3) := dk_132 1 1 (dk_at dksX7_begins_1 0 rfl rfl)
theorem dX7_begins_25 : decode cX7_begins 25 = .ok (.goto (-23), 3) := dk_167 255 233 (dk_at dksX7_begins_1 3 rfl rfl)
theorem dX7_begins_28 : decode cX7_begins 28 = .ok (.return_, 1) := dk_177 (dk_at dksX7_begins_1 6 rfl rfl)
abbrev cX7_wayUp : ByteArray := prog_32_method_87_code
def yX7_wayUp : MethodName := ⟨RX7, "wayUp", "(I)I"⟩
def dkwX7_wayUp_2 : List UInt8 := [182, 0, 162, 61, 27, 154, 0, 12, 42, 180, 0, 62, 28, 46, 167, 0, 9, 42, 180, 0, 65, 28, 46, 172]
abbrev dktX7_wayUp_2 : List UInt8 := dkwX7_wayUp_2 ++ []
def dkwX7_wayUp_1 : List UInt8 := [42, 182, 1, 108, 42, 42, 42, 42, 180, 0, 47, 42, 180, 0, 7, 46, 4, 100, 182, 0, 124, 182, 1, 87]
abbrev dktX7_wayUp_1 : List UInt8 := dkwX7_wayUp_1 ++ dktX7_wayUp_2
def dkwX7_wayUp_0 : List UInt8 := [27, 133, 9, 10, 184, 0, 133, 154, 0, 5, 2, 172, 42, 180, 0, 7, 16, 6, 160, 0, 6, 16, 252, 172]
abbrev dktX7_wayUp_0 : List UInt8 := dkwX7_wayUp_0 ++ dktX7_wayUp_1
theorem dksX7_wayUp_0 : cX7_wayUp.data.toList.drop 0 = dktX7_wayUp_0 := by decide +kernel
theorem dksX7_wayUp_1 : cX7_wayUp.data.toList.drop 24 = dktX7_wayUp_1 := dk_seg dksX7_wayUp_0 24 rfl rfl
theorem dksX7_wayUp_2 : cX7_wayUp.data.toList.drop 48 = dktX7_wayUp_2 := dk_seg dksX7_wayUp_1 24 rfl rfl
theorem dX7_wayUp_0 : decode cX7_wayUp 0 = .ok (.iload_n 1, 1) := dk_27 (dk_at dksX7_wayUp_0 0 rfl rfl)
theorem dX7_wayUp_1 : decode cX7_wayUp 1 = .ok (.i2l, 1) := dk_133 (dk_at dksX7_wayUp_0 1 rfl rfl)
theorem dX7_wayUp_2 : decode cX7_wayUp 2 = .ok (.lconst 0, 1) := dk_9 (dk_at dksX7_wayUp_0 2 rfl rfl)
theorem dX7_wayUp_3 : decode cX7_wayUp 3 = .ok (.lconst 1, 1) := dk_10 (dk_at dksX7_wayUp_0 3 rfl rfl)
theorem dX7_wayUp_4 : decode cX7_wayUp 4 = .ok (.invokestatic 133, 3) := dk_184 0 133 (dk_at dksX7_wayUp_0 4 rfl rfl)
theorem dX7_wayUp_7 : decode cX7_wayUp 7 = .ok (.ifCond .ne 5, 3) := dk_154 0 5 (dk_at dksX7_wayUp_0 7 rfl rfl)
theorem dX7_wayUp_10 : decode cX7_wayUp 10 = .ok (.iconst (-1), 1) := dk_2 (dk_at dksX7_wayUp_0 10 rfl rfl)
theorem dX7_wayUp_11 : decode cX7_wayUp 11 = .ok (.ireturn, 1) := dk_172 (dk_at dksX7_wayUp_0 11 rfl rfl)
theorem dX7_wayUp_12 : decode cX7_wayUp 12 = .ok (.aload_n 0, 1) := dk_42 (dk_at dksX7_wayUp_0 12 rfl rfl)
theorem dX7_wayUp_13 : decode cX7_wayUp 13 = .ok (.getfield 7, 3) := dk_180 0 7 (dk_at dksX7_wayUp_0 13 rfl rfl)
theorem dX7_wayUp_16 : decode cX7_wayUp 16 = .ok (.bipush 6, 2) := dk_16 6 (dk_at dksX7_wayUp_0 16 rfl rfl)
theorem dX7_wayUp_18 : decode cX7_wayUp 18 = .ok (.if_icmp .ne 6, 3) := dk_160 0 6 (dk_at dksX7_wayUp_0 18 rfl rfl)
theorem dX7_wayUp_21 : decode cX7_wayUp 21 = .ok (.bipush (-4), 2) := dk_16 252 (dk_at dksX7_wayUp_0 21 rfl rfl)
theorem dX7_wayUp_23 : decode cX7_wayUp 23 = .ok (.ireturn, 1) := dk_172 (dk_at dksX7_wayUp_0 23 rfl rfl)
theorem dX7_wayUp_24 : decode cX7_wayUp 24 = .ok (.aload_n 0, 1) := dk_42 (dk_at dksX7_wayUp_1 0 rfl rfl)
theorem dX7_wayUp_25 : decode cX7_wayUp 25 = .ok (.invokevirtual 364, 3) := dk_182 1 108 (dk_at dksX7_wayUp_1 1 rfl rfl)
theorem dX7_wayUp_28 : decode cX7_wayUp 28 = .ok (.aload_n 0, 1) := dk_42 (dk_at dksX7_wayUp_1 4 rfl rfl)
theorem dX7_wayUp_29 : decode cX7_wayUp 29 = .ok (.aload_n 0, 1) := dk_42 (dk_at dksX7_wayUp_1 5 rfl rfl)
theorem dX7_wayUp_30 : decode cX7_wayUp 30 = .ok (.aload_n 0, 1) := dk_42 (dk_at dksX7_wayUp_1 6 rfl rfl)
theorem dX7_wayUp_31 : decode cX7_wayUp 31 = .ok (.aload_n 0, 1) := dk_42 (dk_at dksX7_wayUp_1 7 rfl rfl)
theorem dX7_wayUp_32 : decode cX7_wayUp 32 = .ok (.getfield 47, 3) := dk_180 0 47 (dk_at dksX7_wayUp_1 8 rfl rfl)
theorem dX7_wayUp_35 : decode cX7_wayUp 35 = .ok (.aload_n 0, 1) := dk_42 (dk_at dksX7_wayUp_1 11 rfl rfl)
theorem dX7_wayUp_36 : decode cX7_wayUp 36 = .ok (.getfield 7, 3) := dk_180 0 7 (dk_at dksX7_wayUp_1 12 rfl rfl)
theorem dX7_wayUp_39 : decode cX7_wayUp 39 = .ok (.iaload, 1) := dk_46 (dk_at dksX7_wayUp_1 15 rfl rfl)
theorem dX7_wayUp_40 : decode cX7_wayUp 40 = .ok (.iconst 1, 1) := dk_4 (dk_at dksX7_wayUp_1 16 rfl rfl)
theorem dX7_wayUp_41 : decode cX7_wayUp 41 = .ok (.isub, 1) := dk_100 (dk_at dksX7_wayUp_1 17 rfl rfl)
theorem dX7_wayUp_42 : decode cX7_wayUp 42 = .ok (.invokevirtual 124, 3) := dk_182 0 124 (dk_at dksX7_wayUp_1 18 rfl rfl)
theorem dX7_wayUp_45 : decode cX7_wayUp 45 = .ok (.invokevirtual 343, 3) := dk_182 1 87 (dk_at dksX7_wayUp_1 21 rfl rfl)
theorem dX7_wayUp_48 : decode cX7_wayUp 48 = .ok (.invokevirtual 162, 3) := dk_182 0 162 (dk_at dksX7_wayUp_2 0 rfl rfl)
theorem dX7_wayUp_51 : decode cX7_wayUp 51 = .ok (.istore_n 2, 1) := dk_61 (dk_at dksX7_wayUp_2 3 rfl rfl)
theorem dX7_wayUp_52 : decode cX7_wayUp 52 = .ok (.iload_n 1, 1) := dk_27 (dk_at dksX7_wayUp_2 4 rfl rfl)
theorem dX7_wayUp_53 : decode cX7_wayUp 53 = .ok (.ifCond .ne 12, 3) := dk_154 0 12 (dk_at dksX7_wayUp_2 5 rfl rfl)
theorem dX7_wayUp_56 : decode cX7_wayUp 56 = .ok (.aload_n 0, 1) := dk_42 (dk_at dksX7_wayUp_2 8 rfl rfl)
theorem dX7_wayUp_57 : decode cX7_wayUp 57 = .ok (.getfield 62, 3) := dk_180 0 62 (dk_at dksX7_wayUp_2 9 rfl rfl)
theorem dX7_wayUp_60 : decode cX7_wayUp 60 = .ok (.iload_n 2, 1) := dk_28 (dk_at dksX7_wayUp_2 12 rfl rfl)
theorem dX7_wayUp_61 : decode cX7_wayUp 61 = .ok (.iaload, 1) := dk_46 (dk_at dksX7_wayUp_2 13 rfl rfl)
theorem dX7_wayUp_62 : decode cX7_wayUp 62 = .ok (.goto 9, 3) := dk_167 0 9 (dk_at dksX7_wayUp_2 14 rfl rfl)
theorem dX7_wayUp_65 : decode cX7_wayUp 65 = .ok (.aload_n 0, 1) := dk_42 (dk_at dksX7_wayUp_2 17 rfl rfl)
theorem dX7_wayUp_66 : decode cX7_wayUp 66 = .ok (.getfield 65, 3) := dk_180 0 65 (dk_at dksX7_wayUp_2 18 rfl rfl)
theorem dX7_wayUp_69 : decode cX7_wayUp 69 = .ok (.iload_n 2, 1) := dk_28 (dk_at dksX7_wayUp_2 21 rfl rfl)
theorem dX7_wayUp_70 : decode cX7_wayUp 70 = .ok (.iaload, 1) := dk_46 (dk_at dksX7_wayUp_2 22 rfl rfl)
theorem dX7_wayUp_71 : decode cX7_wayUp 71 = .ok (.ireturn, 1) := dk_172 (dk_at dksX7_wayUp_2 23 rfl rfl)
abbrev cX7_climbs : ByteArray := prog_32_method_86_code
def yX7_climbs : MethodName := ⟨RX7, "climbs", "()V"⟩
def dkwX7_climbs_9 : List UInt8 := [132, 5, 1, 167, 255, 137, 132, 2, 1, 167, 255, 76, 132, 1, 1, 167, 255, 51, 177]
abbrev dktX7_climbs_9 : List UInt8 := dkwX7_climbs_9 ++ []
def dkwX7_climbs_8 : List UInt8 := [46, 162, 0, 14, 42, 180, 0, 65, 28, 46, 4, 96, 167, 0, 10, 42, 180, 0, 65, 21, 6, 46, 79]
abbrev dktX7_climbs_8 : List UInt8 := dkwX7_climbs_8 ++ dktX7_climbs_9
def dkwX7_climbs_7 : List UInt8 := [42, 180, 0, 65, 21, 6, 46, 155, 0, 21, 42, 180, 0, 65, 28, 46, 4, 96, 42, 180, 0, 65, 21, 6]
abbrev dktX7_climbs_7 : List UInt8 := dkwX7_climbs_7 ++ dktX7_climbs_8
def dkwX7_climbs_6 : List UInt8 := [180, 0, 62, 28, 46, 4, 96, 167, 0, 10, 42, 180, 0, 62, 21, 6, 46, 79, 42, 180, 0, 65, 21, 6]
abbrev dktX7_climbs_6 : List UInt8 := dkwX7_climbs_6 ++ dktX7_climbs_7
def dkwX7_climbs_5 : List UInt8 := [180, 0, 62, 21, 6, 42, 180, 0, 62, 28, 46, 4, 96, 42, 180, 0, 62, 21, 6, 46, 164, 0, 14, 42]
abbrev dktX7_climbs_5 : List UInt8 := dkwX7_climbs_5 ++ dktX7_climbs_6
def dkwX7_climbs_4 : List UInt8 := [54, 5, 21, 5, 21, 4, 162, 0, 118, 42, 42, 180, 0, 59, 21, 5, 46, 182, 0, 162, 54, 6, 42]
abbrev dktX7_climbs_4 : List UInt8 := dkwX7_climbs_4 ++ dktX7_climbs_5
def dkwX7_climbs_3 : List UInt8 := [160, 0, 20, 42, 29, 182, 1, 96, 153, 0, 12, 42, 29, 4, 182, 1, 99, 167, 0, 4, 3, 54, 4, 3]
abbrev dktX7_climbs_3 : List UInt8 := dkwX7_climbs_3 ++ dktX7_climbs_4
def dkwX7_climbs_2 : List UInt8 := [180, 0, 7, 46, 162, 0, 173, 42, 28, 182, 0, 124, 62, 42, 29, 182, 0, 120, 133, 184, 0, 127, 27]
abbrev dktX7_climbs_2 : List UInt8 := dkwX7_climbs_2 ++ dktX7_climbs_3
def dkwX7_climbs_1 : List UInt8 := [180, 0, 7, 42, 180, 0, 7, 4, 100, 104, 5, 108, 163, 0, 194, 3, 61, 28, 42, 180, 0, 47, 42]
abbrev dktX7_climbs_1 : List UInt8 := dkwX7_climbs_1 ++ dktX7_climbs_2
def dkwX7_climbs_0 : List UInt8 := [42, 182, 1, 102, 42, 180, 0, 62, 3, 3, 79, 42, 180, 0, 65, 3, 3, 79, 3, 60, 27, 42]
abbrev dktX7_climbs_0 : List UInt8 := dkwX7_climbs_0 ++ dktX7_climbs_1
theorem dksX7_climbs_0 : cX7_climbs.data.toList.drop 0 = dktX7_climbs_0 := by decide +kernel
theorem dksX7_climbs_1 : cX7_climbs.data.toList.drop 22 = dktX7_climbs_1 := dk_seg dksX7_climbs_0 22 rfl rfl
theorem dksX7_climbs_2 : cX7_climbs.data.toList.drop 45 = dktX7_climbs_2 := dk_seg dksX7_climbs_1 23 rfl rfl
theorem dksX7_climbs_3 : cX7_climbs.data.toList.drop 68 = dktX7_climbs_3 := dk_seg dksX7_climbs_2 23 rfl rfl
theorem dksX7_climbs_4 : cX7_climbs.data.toList.drop 92 = dktX7_climbs_4 := dk_seg dksX7_climbs_3 24 rfl rfl
theorem dksX7_climbs_5 : cX7_climbs.data.toList.drop 115 = dktX7_climbs_5 := dk_seg dksX7_climbs_4 23 rfl rfl
theorem dksX7_climbs_6 : cX7_climbs.data.toList.drop 139 = dktX7_climbs_6 := dk_seg dksX7_climbs_5 24 rfl rfl
theorem dksX7_climbs_7 : cX7_climbs.data.toList.drop 163 = dktX7_climbs_7 := dk_seg dksX7_climbs_6 24 rfl rfl
theorem dksX7_climbs_8 : cX7_climbs.data.toList.drop 187 = dktX7_climbs_8 := dk_seg dksX7_climbs_7 24 rfl rfl
theorem dksX7_climbs_9 : cX7_climbs.data.toList.drop 210 = dktX7_climbs_9 := dk_seg dksX7_climbs_8 23 rfl rfl
theorem dX7_climbs_0 : decode cX7_climbs 0 = .ok (.aload_n 0, 1) := dk_42 (dk_at dksX7_climbs_0 0 rfl rfl)
theorem dX7_climbs_1 : decode cX7_climbs 1 = .ok (.invokevirtual 358, 3) := dk_182 1 102 (dk_at dksX7_climbs_0 1 rfl rfl)
theorem dX7_climbs_4 : decode cX7_climbs 4 = .ok (.aload_n 0, 1) := dk_42 (dk_at dksX7_climbs_0 4 rfl rfl)
theorem dX7_climbs_5 : decode cX7_climbs 5 = .ok (.getfield 62, 3) := dk_180 0 62 (dk_at dksX7_climbs_0 5 rfl rfl)
theorem dX7_climbs_8 : decode cX7_climbs 8 = .ok (.iconst 0, 1) := dk_3 (dk_at dksX7_climbs_0 8 rfl rfl)
theorem dX7_climbs_9 : decode cX7_climbs 9 = .ok (.iconst 0, 1) := dk_3 (dk_at dksX7_climbs_0 9 rfl rfl)
theorem dX7_climbs_10 : decode cX7_climbs 10 = .ok (.iastore, 1) := dk_79 (dk_at dksX7_climbs_0 10 rfl rfl)
theorem dX7_climbs_11 : decode cX7_climbs 11 = .ok (.aload_n 0, 1) := dk_42 (dk_at dksX7_climbs_0 11 rfl rfl)
theorem dX7_climbs_12 : decode cX7_climbs 12 = .ok (.getfield 65, 3) := dk_180 0 65 (dk_at dksX7_climbs_0 12 rfl rfl)
theorem dX7_climbs_15 : decode cX7_climbs 15 = .ok (.iconst 0, 1) := dk_3 (dk_at dksX7_climbs_0 15 rfl rfl)
theorem dX7_climbs_16 : decode cX7_climbs 16 = .ok (.iconst 0, 1) := dk_3 (dk_at dksX7_climbs_0 16 rfl rfl)
theorem dX7_climbs_17 : decode cX7_climbs 17 = .ok (.iastore, 1) := dk_79 (dk_at dksX7_climbs_0 17 rfl rfl)
theorem dX7_climbs_18 : decode cX7_climbs 18 = .ok (.iconst 0, 1) := dk_3 (dk_at dksX7_climbs_0 18 rfl rfl)
theorem dX7_climbs_19 : decode cX7_climbs 19 = .ok (.istore_n 1, 1) := dk_60 (dk_at dksX7_climbs_0 19 rfl rfl)
theorem dX7_climbs_20 : decode cX7_climbs 20 = .ok (.iload_n 1, 1) := dk_27 (dk_at dksX7_climbs_0 20 rfl rfl)
theorem dX7_climbs_21 : decode cX7_climbs 21 = .ok (.aload_n 0, 1) := dk_42 (dk_at dksX7_climbs_0 21 rfl rfl)
theorem dX7_climbs_22 : decode cX7_climbs 22 = .ok (.getfield 7, 3) := dk_180 0 7 (dk_at dksX7_climbs_1 0 rfl rfl)
theorem dX7_climbs_25 : decode cX7_climbs 25 = .ok (.aload_n 0, 1) := dk_42 (dk_at dksX7_climbs_1 3 rfl rfl)
theorem dX7_climbs_26 : decode cX7_climbs 26 = .ok (.getfield 7, 3) := dk_180 0 7 (dk_at dksX7_climbs_1 4 rfl rfl)
theorem dX7_climbs_29 : decode cX7_climbs 29 = .ok (.iconst 1, 1) := dk_4 (dk_at dksX7_climbs_1 7 rfl rfl)
theorem dX7_climbs_30 : decode cX7_climbs 30 = .ok (.isub, 1) := dk_100 (dk_at dksX7_climbs_1 8 rfl rfl)
theorem dX7_climbs_31 : decode cX7_climbs 31 = .ok (.imul, 1) := dk_104 (dk_at dksX7_climbs_1 9 rfl rfl)
theorem dX7_climbs_32 : decode cX7_climbs 32 = .ok (.iconst 2, 1) := dk_5 (dk_at dksX7_climbs_1 10 rfl rfl)
theorem dX7_climbs_33 : decode cX7_climbs 33 = .ok (.idiv, 1) := dk_108 (dk_at dksX7_climbs_1 11 rfl rfl)
theorem dX7_climbs_34 : decode cX7_climbs 34 = .ok (.if_icmp .gt 194, 3) := dk_163 0 194 (dk_at dksX7_climbs_1 12 rfl rfl)
theorem dX7_climbs_37 : decode cX7_climbs 37 = .ok (.iconst 0, 1) := dk_3 (dk_at dksX7_climbs_1 15 rfl rfl)
theorem dX7_climbs_38 : decode cX7_climbs 38 = .ok (.istore_n 2, 1) := dk_61 (dk_at dksX7_climbs_1 16 rfl rfl)
theorem dX7_climbs_39 : decode cX7_climbs 39 = .ok (.iload_n 2, 1) := dk_28 (dk_at dksX7_climbs_1 17 rfl rfl)
theorem dX7_climbs_40 : decode cX7_climbs 40 = .ok (.aload_n 0, 1) := dk_42 (dk_at dksX7_climbs_1 18 rfl rfl)
theorem dX7_climbs_41 : decode cX7_climbs 41 = .ok (.getfield 47, 3) := dk_180 0 47 (dk_at dksX7_climbs_1 19 rfl rfl)
theorem dX7_climbs_44 : decode cX7_climbs 44 = .ok (.aload_n 0, 1) := dk_42 (dk_at dksX7_climbs_1 22 rfl rfl)
theorem dX7_climbs_45 : decode cX7_climbs 45 = .ok (.getfield 7, 3) := dk_180 0 7 (dk_at dksX7_climbs_2 0 rfl rfl)
theorem dX7_climbs_48 : decode cX7_climbs 48 = .ok (.iaload, 1) := dk_46 (dk_at dksX7_climbs_2 3 rfl rfl)
theorem dX7_climbs_49 : decode cX7_climbs 49 = .ok (.if_icmp .ge 173, 3) := dk_162 0 173 (dk_at dksX7_climbs_2 4 rfl rfl)
theorem dX7_climbs_52 : decode cX7_climbs 52 = .ok (.aload_n 0, 1) := dk_42 (dk_at dksX7_climbs_2 7 rfl rfl)
theorem dX7_climbs_53 : decode cX7_climbs 53 = .ok (.iload_n 2, 1) := dk_28 (dk_at dksX7_climbs_2 8 rfl rfl)
theorem dX7_climbs_54 : decode cX7_climbs 54 = .ok (.invokevirtual 124, 3) := dk_182 0 124 (dk_at dksX7_climbs_2 9 rfl rfl)
theorem dX7_climbs_57 : decode cX7_climbs 57 = .ok (.istore_n 3, 1) := dk_62 (dk_at dksX7_climbs_2 12 rfl rfl)
theorem dX7_climbs_58 : decode cX7_climbs 58 = .ok (.aload_n 0, 1) := dk_42 (dk_at dksX7_climbs_2 13 rfl rfl)
theorem dX7_climbs_59 : decode cX7_climbs 59 = .ok (.iload_n 3, 1) := dk_29 (dk_at dksX7_climbs_2 14 rfl rfl)
theorem dX7_climbs_60 : decode cX7_climbs 60 = .ok (.invokevirtual 120, 3) := dk_182 0 120 (dk_at dksX7_climbs_2 15 rfl rfl)
theorem dX7_climbs_63 : decode cX7_climbs 63 = .ok (.i2l, 1) := dk_133 (dk_at dksX7_climbs_2 18 rfl rfl)
theorem dX7_climbs_64 : decode cX7_climbs 64 = .ok (.invokestatic 127, 3) := dk_184 0 127 (dk_at dksX7_climbs_2 19 rfl rfl)
theorem dX7_climbs_67 : decode cX7_climbs 67 = .ok (.iload_n 1, 1) := dk_27 (dk_at dksX7_climbs_2 22 rfl rfl)
theorem dX7_climbs_68 : decode cX7_climbs 68 = .ok (.if_icmp .ne 20, 3) := dk_160 0 20 (dk_at dksX7_climbs_3 0 rfl rfl)
theorem dX7_climbs_71 : decode cX7_climbs 71 = .ok (.aload_n 0, 1) := dk_42 (dk_at dksX7_climbs_3 3 rfl rfl)
theorem dX7_climbs_72 : decode cX7_climbs 72 = .ok (.iload_n 3, 1) := dk_29 (dk_at dksX7_climbs_3 4 rfl rfl)
theorem dX7_climbs_73 : decode cX7_climbs 73 = .ok (.invokevirtual 352, 3) := dk_182 1 96 (dk_at dksX7_climbs_3 5 rfl rfl)
theorem dX7_climbs_76 : decode cX7_climbs 76 = .ok (.ifCond .eq 12, 3) := dk_153 0 12 (dk_at dksX7_climbs_3 8 rfl rfl)
theorem dX7_climbs_79 : decode cX7_climbs 79 = .ok (.aload_n 0, 1) := dk_42 (dk_at dksX7_climbs_3 11 rfl rfl)
theorem dX7_climbs_80 : decode cX7_climbs 80 = .ok (.iload_n 3, 1) := dk_29 (dk_at dksX7_climbs_3 12 rfl rfl)
theorem dX7_climbs_81 : decode cX7_climbs 81 = .ok (.iconst 1, 1) := dk_4 (dk_at dksX7_climbs_3 13 rfl rfl)
theorem dX7_climbs_82 : decode cX7_climbs 82 = .ok (.invokevirtual 355, 3) := dk_182 1 99 (dk_at dksX7_climbs_3 14 rfl rfl)
theorem dX7_climbs_85 : decode cX7_climbs 85 = .ok (.goto 4, 3) := dk_167 0 4 (dk_at dksX7_climbs_3 17 rfl rfl)
theorem dX7_climbs_88 : decode cX7_climbs 88 = .ok (.iconst 0, 1) := dk_3 (dk_at dksX7_climbs_3 20 rfl rfl)
theorem dX7_climbs_89 : decode cX7_climbs 89 = .ok (.istore 4, 2) := dk_54 4 (dk_at dksX7_climbs_3 21 rfl rfl)
theorem dX7_climbs_91 : decode cX7_climbs 91 = .ok (.iconst 0, 1) := dk_3 (dk_at dksX7_climbs_3 23 rfl rfl)
theorem dX7_climbs_92 : decode cX7_climbs 92 = .ok (.istore 5, 2) := dk_54 5 (dk_at dksX7_climbs_4 0 rfl rfl)
theorem dX7_climbs_94 : decode cX7_climbs 94 = .ok (.iload 5, 2) := dk_21 5 (dk_at dksX7_climbs_4 2 rfl rfl)
theorem dX7_climbs_96 : decode cX7_climbs 96 = .ok (.iload 4, 2) := dk_21 4 (dk_at dksX7_climbs_4 4 rfl rfl)
theorem dX7_climbs_98 : decode cX7_climbs 98 = .ok (.if_icmp .ge 118, 3) := dk_162 0 118 (dk_at dksX7_climbs_4 6 rfl rfl)
theorem dX7_climbs_101 : decode cX7_climbs 101 = .ok (.aload_n 0, 1) := dk_42 (dk_at dksX7_climbs_4 9 rfl rfl)
theorem dX7_climbs_102 : decode cX7_climbs 102 = .ok (.aload_n 0, 1) := dk_42 (dk_at dksX7_climbs_4 10 rfl rfl)
theorem dX7_climbs_103 : decode cX7_climbs 103 = .ok (.getfield 59, 3) := dk_180 0 59 (dk_at dksX7_climbs_4 11 rfl rfl)
theorem dX7_climbs_106 : decode cX7_climbs 106 = .ok (.iload 5, 2) := dk_21 5 (dk_at dksX7_climbs_4 14 rfl rfl)
theorem dX7_climbs_108 : decode cX7_climbs 108 = .ok (.iaload, 1) := dk_46 (dk_at dksX7_climbs_4 16 rfl rfl)
theorem dX7_climbs_109 : decode cX7_climbs 109 = .ok (.invokevirtual 162, 3) := dk_182 0 162 (dk_at dksX7_climbs_4 17 rfl rfl)
theorem dX7_climbs_112 : decode cX7_climbs 112 = .ok (.istore 6, 2) := dk_54 6 (dk_at dksX7_climbs_4 20 rfl rfl)
theorem dX7_climbs_114 : decode cX7_climbs 114 = .ok (.aload_n 0, 1) := dk_42 (dk_at dksX7_climbs_4 22 rfl rfl)
theorem dX7_climbs_115 : decode cX7_climbs 115 = .ok (.getfield 62, 3) := dk_180 0 62 (dk_at dksX7_climbs_5 0 rfl rfl)
theorem dX7_climbs_118 : decode cX7_climbs 118 = .ok (.iload 6, 2) := dk_21 6 (dk_at dksX7_climbs_5 3 rfl rfl)
theorem dX7_climbs_120 : decode cX7_climbs 120 = .ok (.aload_n 0, 1) := dk_42 (dk_at dksX7_climbs_5 5 rfl rfl)
theorem dX7_climbs_121 : decode cX7_climbs 121 = .ok (.getfield 62, 3) := dk_180 0 62 (dk_at dksX7_climbs_5 6 rfl rfl)
theorem dX7_climbs_124 : decode cX7_climbs 124 = .ok (.iload_n 2, 1) := dk_28 (dk_at dksX7_climbs_5 9 rfl rfl)
theorem dX7_climbs_125 : decode cX7_climbs 125 = .ok (.iaload, 1) := dk_46 (dk_at dksX7_climbs_5 10 rfl rfl)
theorem dX7_climbs_126 : decode cX7_climbs 126 = .ok (.iconst 1, 1) := dk_4 (dk_at dksX7_climbs_5 11 rfl rfl)
theorem dX7_climbs_127 : decode cX7_climbs 127 = .ok (.iadd, 1) := dk_96 (dk_at dksX7_climbs_5 12 rfl rfl)
theorem dX7_climbs_128 : decode cX7_climbs 128 = .ok (.aload_n 0, 1) := dk_42 (dk_at dksX7_climbs_5 13 rfl rfl)
theorem dX7_climbs_129 : decode cX7_climbs 129 = .ok (.getfield 62, 3) := dk_180 0 62 (dk_at dksX7_climbs_5 14 rfl rfl)
theorem dX7_climbs_132 : decode cX7_climbs 132 = .ok (.iload 6, 2) := dk_21 6 (dk_at dksX7_climbs_5 17 rfl rfl)
theorem dX7_climbs_134 : decode cX7_climbs 134 = .ok (.iaload, 1) := dk_46 (dk_at dksX7_climbs_5 19 rfl rfl)
theorem dX7_climbs_135 : decode cX7_climbs 135 = .ok (.if_icmp .le 14, 3) := dk_164 0 14 (dk_at dksX7_climbs_5 20 rfl rfl)
theorem dX7_climbs_138 : decode cX7_climbs 138 = .ok (.aload_n 0, 1) := dk_42 (dk_at dksX7_climbs_5 23 rfl rfl)
theorem dX7_climbs_139 : decode cX7_climbs 139 = .ok (.getfield 62, 3) := dk_180 0 62 (dk_at dksX7_climbs_6 0 rfl rfl)
theorem dX7_climbs_142 : decode cX7_climbs 142 = .ok (.iload_n 2, 1) := dk_28 (dk_at dksX7_climbs_6 3 rfl rfl)
theorem dX7_climbs_143 : decode cX7_climbs 143 = .ok (.iaload, 1) := dk_46 (dk_at dksX7_climbs_6 4 rfl rfl)
theorem dX7_climbs_144 : decode cX7_climbs 144 = .ok (.iconst 1, 1) := dk_4 (dk_at dksX7_climbs_6 5 rfl rfl)
theorem dX7_climbs_145 : decode cX7_climbs 145 = .ok (.iadd, 1) := dk_96 (dk_at dksX7_climbs_6 6 rfl rfl)
theorem dX7_climbs_146 : decode cX7_climbs 146 = .ok (.goto 10, 3) := dk_167 0 10 (dk_at dksX7_climbs_6 7 rfl rfl)
theorem dX7_climbs_149 : decode cX7_climbs 149 = .ok (.aload_n 0, 1) := dk_42 (dk_at dksX7_climbs_6 10 rfl rfl)
theorem dX7_climbs_150 : decode cX7_climbs 150 = .ok (.getfield 62, 3) := dk_180 0 62 (dk_at dksX7_climbs_6 11 rfl rfl)
theorem dX7_climbs_153 : decode cX7_climbs 153 = .ok (.iload 6, 2) := dk_21 6 (dk_at dksX7_climbs_6 14 rfl rfl)
theorem dX7_climbs_155 : decode cX7_climbs 155 = .ok (.iaload, 1) := dk_46 (dk_at dksX7_climbs_6 16 rfl rfl)
theorem dX7_climbs_156 : decode cX7_climbs 156 = .ok (.iastore, 1) := dk_79 (dk_at dksX7_climbs_6 17 rfl rfl)
theorem dX7_climbs_157 : decode cX7_climbs 157 = .ok (.aload_n 0, 1) := dk_42 (dk_at dksX7_climbs_6 18 rfl rfl)
theorem dX7_climbs_158 : decode cX7_climbs 158 = .ok (.getfield 65, 3) := dk_180 0 65 (dk_at dksX7_climbs_6 19 rfl rfl)
theorem dX7_climbs_161 : decode cX7_climbs 161 = .ok (.iload 6, 2) := dk_21 6 (dk_at dksX7_climbs_6 22 rfl rfl)
theorem dX7_climbs_163 : decode cX7_climbs 163 = .ok (.aload_n 0, 1) := dk_42 (dk_at dksX7_climbs_7 0 rfl rfl)
theorem dX7_climbs_164 : decode cX7_climbs 164 = .ok (.getfield 65, 3) := dk_180 0 65 (dk_at dksX7_climbs_7 1 rfl rfl)
theorem dX7_climbs_167 : decode cX7_climbs 167 = .ok (.iload 6, 2) := dk_21 6 (dk_at dksX7_climbs_7 4 rfl rfl)
theorem dX7_climbs_169 : decode cX7_climbs 169 = .ok (.iaload, 1) := dk_46 (dk_at dksX7_climbs_7 6 rfl rfl)
theorem dX7_climbs_170 : decode cX7_climbs 170 = .ok (.ifCond .lt 21, 3) := dk_155 0 21 (dk_at dksX7_climbs_7 7 rfl rfl)
theorem dX7_climbs_173 : decode cX7_climbs 173 = .ok (.aload_n 0, 1) := dk_42 (dk_at dksX7_climbs_7 10 rfl rfl)
theorem dX7_climbs_174 : decode cX7_climbs 174 = .ok (.getfield 65, 3) := dk_180 0 65 (dk_at dksX7_climbs_7 11 rfl rfl)
theorem dX7_climbs_177 : decode cX7_climbs 177 = .ok (.iload_n 2, 1) := dk_28 (dk_at dksX7_climbs_7 14 rfl rfl)
theorem dX7_climbs_178 : decode cX7_climbs 178 = .ok (.iaload, 1) := dk_46 (dk_at dksX7_climbs_7 15 rfl rfl)
theorem dX7_climbs_179 : decode cX7_climbs 179 = .ok (.iconst 1, 1) := dk_4 (dk_at dksX7_climbs_7 16 rfl rfl)
theorem dX7_climbs_180 : decode cX7_climbs 180 = .ok (.iadd, 1) := dk_96 (dk_at dksX7_climbs_7 17 rfl rfl)
theorem dX7_climbs_181 : decode cX7_climbs 181 = .ok (.aload_n 0, 1) := dk_42 (dk_at dksX7_climbs_7 18 rfl rfl)
theorem dX7_climbs_182 : decode cX7_climbs 182 = .ok (.getfield 65, 3) := dk_180 0 65 (dk_at dksX7_climbs_7 19 rfl rfl)
theorem dX7_climbs_185 : decode cX7_climbs 185 = .ok (.iload 6, 2) := dk_21 6 (dk_at dksX7_climbs_7 22 rfl rfl)
theorem dX7_climbs_187 : decode cX7_climbs 187 = .ok (.iaload, 1) := dk_46 (dk_at dksX7_climbs_8 0 rfl rfl)
theorem dX7_climbs_188 : decode cX7_climbs 188 = .ok (.if_icmp .ge 14, 3) := dk_162 0 14 (dk_at dksX7_climbs_8 1 rfl rfl)
theorem dX7_climbs_191 : decode cX7_climbs 191 = .ok (.aload_n 0, 1) := dk_42 (dk_at dksX7_climbs_8 4 rfl rfl)
theorem dX7_climbs_192 : decode cX7_climbs 192 = .ok (.getfield 65, 3) := dk_180 0 65 (dk_at dksX7_climbs_8 5 rfl rfl)
theorem dX7_climbs_195 : decode cX7_climbs 195 = .ok (.iload_n 2, 1) := dk_28 (dk_at dksX7_climbs_8 8 rfl rfl)
theorem dX7_climbs_196 : decode cX7_climbs 196 = .ok (.iaload, 1) := dk_46 (dk_at dksX7_climbs_8 9 rfl rfl)
theorem dX7_climbs_197 : decode cX7_climbs 197 = .ok (.iconst 1, 1) := dk_4 (dk_at dksX7_climbs_8 10 rfl rfl)
theorem dX7_climbs_198 : decode cX7_climbs 198 = .ok (.iadd, 1) := dk_96 (dk_at dksX7_climbs_8 11 rfl rfl)
theorem dX7_climbs_199 : decode cX7_climbs 199 = .ok (.goto 10, 3) := dk_167 0 10 (dk_at dksX7_climbs_8 12 rfl rfl)
theorem dX7_climbs_202 : decode cX7_climbs 202 = .ok (.aload_n 0, 1) := dk_42 (dk_at dksX7_climbs_8 15 rfl rfl)
theorem dX7_climbs_203 : decode cX7_climbs 203 = .ok (.getfield 65, 3) := dk_180 0 65 (dk_at dksX7_climbs_8 16 rfl rfl)
theorem dX7_climbs_206 : decode cX7_climbs 206 = .ok (.iload 6, 2) := dk_21 6 (dk_at dksX7_climbs_8 19 rfl rfl)
theorem dX7_climbs_208 : decode cX7_climbs 208 = .ok (.iaload, 1) := dk_46 (dk_at dksX7_climbs_8 21 rfl rfl)
theorem dX7_climbs_209 : decode cX7_climbs 209 = .ok (.iastore, 1) := dk_79 (dk_at dksX7_climbs_8 22 rfl rfl)
theorem dX7_climbs_210 : decode cX7_climbs 210 = .ok (.iinc 5 1, 3) := dk_132 5 1 (dk_at dksX7_climbs_9 0 rfl rfl)
theorem dX7_climbs_213 : decode cX7_climbs 213 = .ok (.goto (-119), 3) := dk_167 255 137 (dk_at dksX7_climbs_9 3 rfl rfl)
theorem dX7_climbs_216 : decode cX7_climbs 216 = .ok (.iinc 2 1, 3) := dk_132 2 1 (dk_at dksX7_climbs_9 6 rfl rfl)
theorem dX7_climbs_219 : decode cX7_climbs 219 = .ok (.goto (-180), 3) := dk_167 255 76 (dk_at dksX7_climbs_9 9 rfl rfl)
theorem dX7_climbs_222 : decode cX7_climbs 222 = .ok (.iinc 1 1, 3) := dk_132 1 1 (dk_at dksX7_climbs_9 12 rfl rfl)
theorem dX7_climbs_225 : decode cX7_climbs 225 = .ok (.goto (-205), 3) := dk_167 255 51 (dk_at dksX7_climbs_9 15 rfl rfl)
theorem dX7_climbs_228 : decode cX7_climbs 228 = .ok (.return_, 1) := dk_177 (dk_at dksX7_climbs_9 18 rfl rfl)
abbrev cX7_listed : ByteArray := prog_32_method_90_code
def yX7_listed : MethodName := ⟨RX7, "listed", "(I)I"⟩
def dkwX7_listed_4 : List UInt8 := [180, 0, 71, 27, 46, 167, 0, 5, 16, 253, 172]
abbrev dktX7_listed_4 : List UInt8 := dkwX7_listed_4 ++ []
def dkwX7_listed_3 : List UInt8 := [182, 0, 162, 4, 84, 132, 2, 1, 42, 29, 182, 1, 114, 62, 167, 255, 218, 27, 28, 162, 0, 12, 42]
abbrev dktX7_listed_3 : List UInt8 := dkwX7_listed_3 ++ dktX7_listed_4
def dkwX7_listed_2 : List UInt8 := [29, 16, 253, 159, 0, 38, 28, 27, 163, 0, 33, 42, 180, 0, 71, 28, 29, 79, 42, 180, 0, 74, 42, 29]
abbrev dktX7_listed_2 : List UInt8 := dkwX7_listed_2 ++ dktX7_listed_3
def dkwX7_listed_1 : List UInt8 := [162, 0, 16, 42, 180, 0, 74, 28, 3, 84, 132, 2, 1, 167, 255, 240, 3, 61, 42, 3, 182, 0, 124, 62]
abbrev dktX7_listed_1 : List UInt8 := dkwX7_listed_1 ++ dktX7_listed_2
def dkwX7_listed_0 : List UInt8 := [27, 156, 0, 5, 2, 172, 42, 180, 0, 7, 16, 6, 160, 0, 6, 16, 252, 172, 3, 61, 28, 16, 120]
abbrev dktX7_listed_0 : List UInt8 := dkwX7_listed_0 ++ dktX7_listed_1
theorem dksX7_listed_0 : cX7_listed.data.toList.drop 0 = dktX7_listed_0 := by decide +kernel
theorem dksX7_listed_1 : cX7_listed.data.toList.drop 23 = dktX7_listed_1 := dk_seg dksX7_listed_0 23 rfl rfl
theorem dksX7_listed_2 : cX7_listed.data.toList.drop 47 = dktX7_listed_2 := dk_seg dksX7_listed_1 24 rfl rfl
theorem dksX7_listed_3 : cX7_listed.data.toList.drop 71 = dktX7_listed_3 := dk_seg dksX7_listed_2 24 rfl rfl
theorem dksX7_listed_4 : cX7_listed.data.toList.drop 94 = dktX7_listed_4 := dk_seg dksX7_listed_3 23 rfl rfl
theorem dX7_listed_0 : decode cX7_listed 0 = .ok (.iload_n 1, 1) := dk_27 (dk_at dksX7_listed_0 0 rfl rfl)
theorem dX7_listed_1 : decode cX7_listed 1 = .ok (.ifCond .ge 5, 3) := dk_156 0 5 (dk_at dksX7_listed_0 1 rfl rfl)
theorem dX7_listed_4 : decode cX7_listed 4 = .ok (.iconst (-1), 1) := dk_2 (dk_at dksX7_listed_0 4 rfl rfl)
theorem dX7_listed_5 : decode cX7_listed 5 = .ok (.ireturn, 1) := dk_172 (dk_at dksX7_listed_0 5 rfl rfl)
theorem dX7_listed_6 : decode cX7_listed 6 = .ok (.aload_n 0, 1) := dk_42 (dk_at dksX7_listed_0 6 rfl rfl)
theorem dX7_listed_7 : decode cX7_listed 7 = .ok (.getfield 7, 3) := dk_180 0 7 (dk_at dksX7_listed_0 7 rfl rfl)
theorem dX7_listed_10 : decode cX7_listed 10 = .ok (.bipush 6, 2) := dk_16 6 (dk_at dksX7_listed_0 10 rfl rfl)
theorem dX7_listed_12 : decode cX7_listed 12 = .ok (.if_icmp .ne 6, 3) := dk_160 0 6 (dk_at dksX7_listed_0 12 rfl rfl)
theorem dX7_listed_15 : decode cX7_listed 15 = .ok (.bipush (-4), 2) := dk_16 252 (dk_at dksX7_listed_0 15 rfl rfl)
theorem dX7_listed_17 : decode cX7_listed 17 = .ok (.ireturn, 1) := dk_172 (dk_at dksX7_listed_0 17 rfl rfl)
theorem dX7_listed_18 : decode cX7_listed 18 = .ok (.iconst 0, 1) := dk_3 (dk_at dksX7_listed_0 18 rfl rfl)
theorem dX7_listed_19 : decode cX7_listed 19 = .ok (.istore_n 2, 1) := dk_61 (dk_at dksX7_listed_0 19 rfl rfl)
theorem dX7_listed_20 : decode cX7_listed 20 = .ok (.iload_n 2, 1) := dk_28 (dk_at dksX7_listed_0 20 rfl rfl)
theorem dX7_listed_21 : decode cX7_listed 21 = .ok (.bipush 120, 2) := dk_16 120 (dk_at dksX7_listed_0 21 rfl rfl)
theorem dX7_listed_23 : decode cX7_listed 23 = .ok (.if_icmp .ge 16, 3) := dk_162 0 16 (dk_at dksX7_listed_1 0 rfl rfl)
theorem dX7_listed_26 : decode cX7_listed 26 = .ok (.aload_n 0, 1) := dk_42 (dk_at dksX7_listed_1 3 rfl rfl)
theorem dX7_listed_27 : decode cX7_listed 27 = .ok (.getfield 74, 3) := dk_180 0 74 (dk_at dksX7_listed_1 4 rfl rfl)
theorem dX7_listed_30 : decode cX7_listed 30 = .ok (.iload_n 2, 1) := dk_28 (dk_at dksX7_listed_1 7 rfl rfl)
theorem dX7_listed_31 : decode cX7_listed 31 = .ok (.iconst 0, 1) := dk_3 (dk_at dksX7_listed_1 8 rfl rfl)
theorem dX7_listed_32 : decode cX7_listed 32 = .ok (.bastore, 1) := dk_84 (dk_at dksX7_listed_1 9 rfl rfl)
theorem dX7_listed_33 : decode cX7_listed 33 = .ok (.iinc 2 1, 3) := dk_132 2 1 (dk_at dksX7_listed_1 10 rfl rfl)
theorem dX7_listed_36 : decode cX7_listed 36 = .ok (.goto (-16), 3) := dk_167 255 240 (dk_at dksX7_listed_1 13 rfl rfl)
theorem dX7_listed_39 : decode cX7_listed 39 = .ok (.iconst 0, 1) := dk_3 (dk_at dksX7_listed_1 16 rfl rfl)
theorem dX7_listed_40 : decode cX7_listed 40 = .ok (.istore_n 2, 1) := dk_61 (dk_at dksX7_listed_1 17 rfl rfl)
theorem dX7_listed_41 : decode cX7_listed 41 = .ok (.aload_n 0, 1) := dk_42 (dk_at dksX7_listed_1 18 rfl rfl)
theorem dX7_listed_42 : decode cX7_listed 42 = .ok (.iconst 0, 1) := dk_3 (dk_at dksX7_listed_1 19 rfl rfl)
theorem dX7_listed_43 : decode cX7_listed 43 = .ok (.invokevirtual 124, 3) := dk_182 0 124 (dk_at dksX7_listed_1 20 rfl rfl)
theorem dX7_listed_46 : decode cX7_listed 46 = .ok (.istore_n 3, 1) := dk_62 (dk_at dksX7_listed_1 23 rfl rfl)
theorem dX7_listed_47 : decode cX7_listed 47 = .ok (.iload_n 3, 1) := dk_29 (dk_at dksX7_listed_2 0 rfl rfl)
theorem dX7_listed_48 : decode cX7_listed 48 = .ok (.bipush (-3), 2) := dk_16 253 (dk_at dksX7_listed_2 1 rfl rfl)
theorem dX7_listed_50 : decode cX7_listed 50 = .ok (.if_icmp .eq 38, 3) := dk_159 0 38 (dk_at dksX7_listed_2 3 rfl rfl)
theorem dX7_listed_53 : decode cX7_listed 53 = .ok (.iload_n 2, 1) := dk_28 (dk_at dksX7_listed_2 6 rfl rfl)
theorem dX7_listed_54 : decode cX7_listed 54 = .ok (.iload_n 1, 1) := dk_27 (dk_at dksX7_listed_2 7 rfl rfl)
theorem dX7_listed_55 : decode cX7_listed 55 = .ok (.if_icmp .gt 33, 3) := dk_163 0 33 (dk_at dksX7_listed_2 8 rfl rfl)
theorem dX7_listed_58 : decode cX7_listed 58 = .ok (.aload_n 0, 1) := dk_42 (dk_at dksX7_listed_2 11 rfl rfl)
theorem dX7_listed_59 : decode cX7_listed 59 = .ok (.getfield 71, 3) := dk_180 0 71 (dk_at dksX7_listed_2 12 rfl rfl)
theorem dX7_listed_62 : decode cX7_listed 62 = .ok (.iload_n 2, 1) := dk_28 (dk_at dksX7_listed_2 15 rfl rfl)
theorem dX7_listed_63 : decode cX7_listed 63 = .ok (.iload_n 3, 1) := dk_29 (dk_at dksX7_listed_2 16 rfl rfl)
theorem dX7_listed_64 : decode cX7_listed 64 = .ok (.iastore, 1) := dk_79 (dk_at dksX7_listed_2 17 rfl rfl)
theorem dX7_listed_65 : decode cX7_listed 65 = .ok (.aload_n 0, 1) := dk_42 (dk_at dksX7_listed_2 18 rfl rfl)
theorem dX7_listed_66 : decode cX7_listed 66 = .ok (.getfield 74, 3) := dk_180 0 74 (dk_at dksX7_listed_2 19 rfl rfl)
theorem dX7_listed_69 : decode cX7_listed 69 = .ok (.aload_n 0, 1) := dk_42 (dk_at dksX7_listed_2 22 rfl rfl)
theorem dX7_listed_70 : decode cX7_listed 70 = .ok (.iload_n 3, 1) := dk_29 (dk_at dksX7_listed_2 23 rfl rfl)
theorem dX7_listed_71 : decode cX7_listed 71 = .ok (.invokevirtual 162, 3) := dk_182 0 162 (dk_at dksX7_listed_3 0 rfl rfl)
theorem dX7_listed_74 : decode cX7_listed 74 = .ok (.iconst 1, 1) := dk_4 (dk_at dksX7_listed_3 3 rfl rfl)
theorem dX7_listed_75 : decode cX7_listed 75 = .ok (.bastore, 1) := dk_84 (dk_at dksX7_listed_3 4 rfl rfl)
theorem dX7_listed_76 : decode cX7_listed 76 = .ok (.iinc 2 1, 3) := dk_132 2 1 (dk_at dksX7_listed_3 5 rfl rfl)
theorem dX7_listed_79 : decode cX7_listed 79 = .ok (.aload_n 0, 1) := dk_42 (dk_at dksX7_listed_3 8 rfl rfl)
theorem dX7_listed_80 : decode cX7_listed 80 = .ok (.iload_n 3, 1) := dk_29 (dk_at dksX7_listed_3 9 rfl rfl)
theorem dX7_listed_81 : decode cX7_listed 81 = .ok (.invokevirtual 370, 3) := dk_182 1 114 (dk_at dksX7_listed_3 10 rfl rfl)
theorem dX7_listed_84 : decode cX7_listed 84 = .ok (.istore_n 3, 1) := dk_62 (dk_at dksX7_listed_3 13 rfl rfl)
theorem dX7_listed_85 : decode cX7_listed 85 = .ok (.goto (-38), 3) := dk_167 255 218 (dk_at dksX7_listed_3 14 rfl rfl)
theorem dX7_listed_88 : decode cX7_listed 88 = .ok (.iload_n 1, 1) := dk_27 (dk_at dksX7_listed_3 17 rfl rfl)
theorem dX7_listed_89 : decode cX7_listed 89 = .ok (.iload_n 2, 1) := dk_28 (dk_at dksX7_listed_3 18 rfl rfl)
theorem dX7_listed_90 : decode cX7_listed 90 = .ok (.if_icmp .ge 12, 3) := dk_162 0 12 (dk_at dksX7_listed_3 19 rfl rfl)
theorem dX7_listed_93 : decode cX7_listed 93 = .ok (.aload_n 0, 1) := dk_42 (dk_at dksX7_listed_3 22 rfl rfl)
theorem dX7_listed_94 : decode cX7_listed 94 = .ok (.getfield 71, 3) := dk_180 0 71 (dk_at dksX7_listed_4 0 rfl rfl)
theorem dX7_listed_97 : decode cX7_listed 97 = .ok (.iload_n 1, 1) := dk_27 (dk_at dksX7_listed_4 3 rfl rfl)
theorem dX7_listed_98 : decode cX7_listed 98 = .ok (.iaload, 1) := dk_46 (dk_at dksX7_listed_4 4 rfl rfl)
theorem dX7_listed_99 : decode cX7_listed 99 = .ok (.goto 5, 3) := dk_167 0 5 (dk_at dksX7_listed_4 5 rfl rfl)
theorem dX7_listed_102 : decode cX7_listed 102 = .ok (.bipush (-3), 2) := dk_16 253 (dk_at dksX7_listed_4 8 rfl rfl)
theorem dX7_listed_104 : decode cX7_listed 104 = .ok (.ireturn, 1) := dk_172 (dk_at dksX7_listed_4 10 rfl rfl)
abbrev cX7_nextBehind : ByteArray := prog_32_method_89_code
def yX7_nextBehind : MethodName := ⟨RX7, "nextBehind", "(I)I"⟩
def dkwX7_nextBehind_2 : List UInt8 := [21, 4, 172, 132, 3, 2, 167, 255, 215, 132, 2, 255, 167, 255, 202, 16, 253, 172]
abbrev dktX7_nextBehind_2 : List UInt8 := dkwX7_nextBehind_2 ++ []
def dkwX7_nextBehind_1 : List UInt8 := [54, 4, 21, 4, 16, 253, 159, 0, 20, 42, 180, 0, 74, 42, 21, 4, 182, 0, 162, 51, 154, 0, 6]
abbrev dktX7_nextBehind_1 : List UInt8 := dkwX7_nextBehind_1 ++ dktX7_nextBehind_2
def dkwX7_nextBehind_0 : List UInt8 := [42, 180, 0, 7, 61, 28, 4, 164, 0, 55, 2, 62, 29, 5, 162, 0, 42, 42, 27, 28, 29, 182, 1, 111]
abbrev dktX7_nextBehind_0 : List UInt8 := dkwX7_nextBehind_0 ++ dktX7_nextBehind_1
theorem dksX7_nextBehind_0 : cX7_nextBehind.data.toList.drop 0 = dktX7_nextBehind_0 := by decide +kernel
theorem dksX7_nextBehind_1 : cX7_nextBehind.data.toList.drop 24 = dktX7_nextBehind_1 := dk_seg dksX7_nextBehind_0 24 rfl rfl
theorem dksX7_nextBehind_2 : cX7_nextBehind.data.toList.drop 47 = dktX7_nextBehind_2 := dk_seg dksX7_nextBehind_1 23 rfl rfl
theorem dX7_nextBehind_0 : decode cX7_nextBehind 0 = .ok (.aload_n 0, 1) := dk_42 (dk_at dksX7_nextBehind_0 0 rfl rfl)
theorem dX7_nextBehind_1 : decode cX7_nextBehind 1 = .ok (.getfield 7, 3) := dk_180 0 7 (dk_at dksX7_nextBehind_0 1 rfl rfl)
theorem dX7_nextBehind_4 : decode cX7_nextBehind 4 = .ok (.istore_n 2, 1) := dk_61 (dk_at dksX7_nextBehind_0 4 rfl rfl)
theorem dX7_nextBehind_5 : decode cX7_nextBehind 5 = .ok (.iload_n 2, 1) := dk_28 (dk_at dksX7_nextBehind_0 5 rfl rfl)
theorem dX7_nextBehind_6 : decode cX7_nextBehind 6 = .ok (.iconst 1, 1) := dk_4 (dk_at dksX7_nextBehind_0 6 rfl rfl)
theorem dX7_nextBehind_7 : decode cX7_nextBehind 7 = .ok (.if_icmp .le 55, 3) := dk_164 0 55 (dk_at dksX7_nextBehind_0 7 rfl rfl)
theorem dX7_nextBehind_10 : decode cX7_nextBehind 10 = .ok (.iconst (-1), 1) := dk_2 (dk_at dksX7_nextBehind_0 10 rfl rfl)
theorem dX7_nextBehind_11 : decode cX7_nextBehind 11 = .ok (.istore_n 3, 1) := dk_62 (dk_at dksX7_nextBehind_0 11 rfl rfl)
theorem dX7_nextBehind_12 : decode cX7_nextBehind 12 = .ok (.iload_n 3, 1) := dk_29 (dk_at dksX7_nextBehind_0 12 rfl rfl)
theorem dX7_nextBehind_13 : decode cX7_nextBehind 13 = .ok (.iconst 2, 1) := dk_5 (dk_at dksX7_nextBehind_0 13 rfl rfl)
theorem dX7_nextBehind_14 : decode cX7_nextBehind 14 = .ok (.if_icmp .ge 42, 3) := dk_162 0 42 (dk_at dksX7_nextBehind_0 14 rfl rfl)
theorem dX7_nextBehind_17 : decode cX7_nextBehind 17 = .ok (.aload_n 0, 1) := dk_42 (dk_at dksX7_nextBehind_0 17 rfl rfl)
theorem dX7_nextBehind_18 : decode cX7_nextBehind 18 = .ok (.iload_n 1, 1) := dk_27 (dk_at dksX7_nextBehind_0 18 rfl rfl)
theorem dX7_nextBehind_19 : decode cX7_nextBehind 19 = .ok (.iload_n 2, 1) := dk_28 (dk_at dksX7_nextBehind_0 19 rfl rfl)
theorem dX7_nextBehind_20 : decode cX7_nextBehind 20 = .ok (.iload_n 3, 1) := dk_29 (dk_at dksX7_nextBehind_0 20 rfl rfl)
theorem dX7_nextBehind_21 : decode cX7_nextBehind 21 = .ok (.invokevirtual 367, 3) := dk_182 1 111 (dk_at dksX7_nextBehind_0 21 rfl rfl)
theorem dX7_nextBehind_24 : decode cX7_nextBehind 24 = .ok (.istore 4, 2) := dk_54 4 (dk_at dksX7_nextBehind_1 0 rfl rfl)
theorem dX7_nextBehind_26 : decode cX7_nextBehind 26 = .ok (.iload 4, 2) := dk_21 4 (dk_at dksX7_nextBehind_1 2 rfl rfl)
theorem dX7_nextBehind_28 : decode cX7_nextBehind 28 = .ok (.bipush (-3), 2) := dk_16 253 (dk_at dksX7_nextBehind_1 4 rfl rfl)
theorem dX7_nextBehind_30 : decode cX7_nextBehind 30 = .ok (.if_icmp .eq 20, 3) := dk_159 0 20 (dk_at dksX7_nextBehind_1 6 rfl rfl)
theorem dX7_nextBehind_33 : decode cX7_nextBehind 33 = .ok (.aload_n 0, 1) := dk_42 (dk_at dksX7_nextBehind_1 9 rfl rfl)
theorem dX7_nextBehind_34 : decode cX7_nextBehind 34 = .ok (.getfield 74, 3) := dk_180 0 74 (dk_at dksX7_nextBehind_1 10 rfl rfl)
theorem dX7_nextBehind_37 : decode cX7_nextBehind 37 = .ok (.aload_n 0, 1) := dk_42 (dk_at dksX7_nextBehind_1 13 rfl rfl)
theorem dX7_nextBehind_38 : decode cX7_nextBehind 38 = .ok (.iload 4, 2) := dk_21 4 (dk_at dksX7_nextBehind_1 14 rfl rfl)
theorem dX7_nextBehind_40 : decode cX7_nextBehind 40 = .ok (.invokevirtual 162, 3) := dk_182 0 162 (dk_at dksX7_nextBehind_1 16 rfl rfl)
theorem dX7_nextBehind_43 : decode cX7_nextBehind 43 = .ok (.baload, 1) := dk_51 (dk_at dksX7_nextBehind_1 19 rfl rfl)
theorem dX7_nextBehind_44 : decode cX7_nextBehind 44 = .ok (.ifCond .ne 6, 3) := dk_154 0 6 (dk_at dksX7_nextBehind_1 20 rfl rfl)
theorem dX7_nextBehind_47 : decode cX7_nextBehind 47 = .ok (.iload 4, 2) := dk_21 4 (dk_at dksX7_nextBehind_2 0 rfl rfl)
theorem dX7_nextBehind_49 : decode cX7_nextBehind 49 = .ok (.ireturn, 1) := dk_172 (dk_at dksX7_nextBehind_2 2 rfl rfl)
theorem dX7_nextBehind_50 : decode cX7_nextBehind 50 = .ok (.iinc 3 2, 3) := dk_132 3 2 (dk_at dksX7_nextBehind_2 3 rfl rfl)
theorem dX7_nextBehind_53 : decode cX7_nextBehind 53 = .ok (.goto (-41), 3) := dk_167 255 215 (dk_at dksX7_nextBehind_2 6 rfl rfl)
theorem dX7_nextBehind_56 : decode cX7_nextBehind 56 = .ok (.iinc 2 (-1), 3) := dk_132 2 255 (dk_at dksX7_nextBehind_2 9 rfl rfl)
theorem dX7_nextBehind_59 : decode cX7_nextBehind 59 = .ok (.goto (-54), 3) := dk_167 255 202 (dk_at dksX7_nextBehind_2 12 rfl rfl)
theorem dX7_nextBehind_62 : decode cX7_nextBehind 62 = .ok (.bipush (-3), 2) := dk_16 253 (dk_at dksX7_nextBehind_2 15 rfl rfl)
theorem dX7_nextBehind_64 : decode cX7_nextBehind 64 = .ok (.ireturn, 1) := dk_172 (dk_at dksX7_nextBehind_2 17 rfl rfl)
abbrev cX7_nearest : ByteArray := prog_32_method_88_code
def yX7_nearest : MethodName := ⟨RX7, "nearest", "(III)I"⟩
def dkwX7_nearest_1 : List UInt8 := [182, 1, 96, 153, 0, 6, 21, 5, 172, 21, 4, 29, 96, 54, 4, 167, 255, 221]
abbrev dktX7_nearest_1 : List UInt8 := dkwX7_nearest_1 ++ []
def dkwX7_nearest_0 : List UInt8 := [29, 54, 4, 42, 27, 28, 21, 4, 182, 0, 174, 54, 5, 21, 5, 16, 253, 159, 0, 12, 42, 21, 5]
abbrev dktX7_nearest_0 : List UInt8 := dkwX7_nearest_0 ++ dktX7_nearest_1
theorem dksX7_nearest_0 : cX7_nearest.data.toList.drop 0 = dktX7_nearest_0 := by decide +kernel
theorem dksX7_nearest_1 : cX7_nearest.data.toList.drop 23 = dktX7_nearest_1 := dk_seg dksX7_nearest_0 23 rfl rfl
theorem dX7_nearest_0 : decode cX7_nearest 0 = .ok (.iload_n 3, 1) := dk_29 (dk_at dksX7_nearest_0 0 rfl rfl)
theorem dX7_nearest_1 : decode cX7_nearest 1 = .ok (.istore 4, 2) := dk_54 4 (dk_at dksX7_nearest_0 1 rfl rfl)
theorem dX7_nearest_3 : decode cX7_nearest 3 = .ok (.aload_n 0, 1) := dk_42 (dk_at dksX7_nearest_0 3 rfl rfl)
theorem dX7_nearest_4 : decode cX7_nearest 4 = .ok (.iload_n 1, 1) := dk_27 (dk_at dksX7_nearest_0 4 rfl rfl)
theorem dX7_nearest_5 : decode cX7_nearest 5 = .ok (.iload_n 2, 1) := dk_28 (dk_at dksX7_nearest_0 5 rfl rfl)
theorem dX7_nearest_6 : decode cX7_nearest 6 = .ok (.iload 4, 2) := dk_21 4 (dk_at dksX7_nearest_0 6 rfl rfl)
theorem dX7_nearest_8 : decode cX7_nearest 8 = .ok (.invokevirtual 174, 3) := dk_182 0 174 (dk_at dksX7_nearest_0 8 rfl rfl)
theorem dX7_nearest_11 : decode cX7_nearest 11 = .ok (.istore 5, 2) := dk_54 5 (dk_at dksX7_nearest_0 11 rfl rfl)
theorem dX7_nearest_13 : decode cX7_nearest 13 = .ok (.iload 5, 2) := dk_21 5 (dk_at dksX7_nearest_0 13 rfl rfl)
theorem dX7_nearest_15 : decode cX7_nearest 15 = .ok (.bipush (-3), 2) := dk_16 253 (dk_at dksX7_nearest_0 15 rfl rfl)
theorem dX7_nearest_17 : decode cX7_nearest 17 = .ok (.if_icmp .eq 12, 3) := dk_159 0 12 (dk_at dksX7_nearest_0 17 rfl rfl)
theorem dX7_nearest_20 : decode cX7_nearest 20 = .ok (.aload_n 0, 1) := dk_42 (dk_at dksX7_nearest_0 20 rfl rfl)
theorem dX7_nearest_21 : decode cX7_nearest 21 = .ok (.iload 5, 2) := dk_21 5 (dk_at dksX7_nearest_0 21 rfl rfl)
theorem dX7_nearest_23 : decode cX7_nearest 23 = .ok (.invokevirtual 352, 3) := dk_182 1 96 (dk_at dksX7_nearest_1 0 rfl rfl)
theorem dX7_nearest_26 : decode cX7_nearest 26 = .ok (.ifCond .eq 6, 3) := dk_153 0 6 (dk_at dksX7_nearest_1 3 rfl rfl)
theorem dX7_nearest_29 : decode cX7_nearest 29 = .ok (.iload 5, 2) := dk_21 5 (dk_at dksX7_nearest_1 6 rfl rfl)
theorem dX7_nearest_31 : decode cX7_nearest 31 = .ok (.ireturn, 1) := dk_172 (dk_at dksX7_nearest_1 8 rfl rfl)
theorem dX7_nearest_32 : decode cX7_nearest 32 = .ok (.iload 4, 2) := dk_21 4 (dk_at dksX7_nearest_1 9 rfl rfl)
theorem dX7_nearest_34 : decode cX7_nearest 34 = .ok (.iload_n 3, 1) := dk_29 (dk_at dksX7_nearest_1 11 rfl rfl)
theorem dX7_nearest_35 : decode cX7_nearest 35 = .ok (.iadd, 1) := dk_96 (dk_at dksX7_nearest_1 12 rfl rfl)
theorem dX7_nearest_36 : decode cX7_nearest 36 = .ok (.istore 4, 2) := dk_54 4 (dk_at dksX7_nearest_1 13 rfl rfl)
theorem dX7_nearest_38 : decode cX7_nearest 38 = .ok (.goto (-35), 3) := dk_167 255 221 (dk_at dksX7_nearest_1 15 rfl rfl)
abbrev cX7_closed : ByteArray := prog_32_method_92_code
def yX7_closed : MethodName := ⟨RX7, "closed", "(I)I"⟩
def dkwX7_closed_1 : List UInt8 := [167, 0, 21, 42, 3, 27, 154, 0, 7, 9, 167, 0, 7, 42, 180, 0, 137, 9, 182, 1, 117, 172]
abbrev dktX7_closed_1 : List UInt8 := dkwX7_closed_1 ++ []
def dkwX7_closed_0 : List UInt8 := [27, 133, 9, 10, 184, 0, 133, 154, 0, 5, 2, 172, 42, 180, 0, 7, 16, 6, 160, 0, 8, 16, 252]
abbrev dktX7_closed_0 : List UInt8 := dkwX7_closed_0 ++ dktX7_closed_1
theorem dksX7_closed_0 : cX7_closed.data.toList.drop 0 = dktX7_closed_0 := by decide +kernel
theorem dksX7_closed_1 : cX7_closed.data.toList.drop 23 = dktX7_closed_1 := dk_seg dksX7_closed_0 23 rfl rfl
theorem dX7_closed_0 : decode cX7_closed 0 = .ok (.iload_n 1, 1) := dk_27 (dk_at dksX7_closed_0 0 rfl rfl)
theorem dX7_closed_1 : decode cX7_closed 1 = .ok (.i2l, 1) := dk_133 (dk_at dksX7_closed_0 1 rfl rfl)
theorem dX7_closed_2 : decode cX7_closed 2 = .ok (.lconst 0, 1) := dk_9 (dk_at dksX7_closed_0 2 rfl rfl)
theorem dX7_closed_3 : decode cX7_closed 3 = .ok (.lconst 1, 1) := dk_10 (dk_at dksX7_closed_0 3 rfl rfl)
theorem dX7_closed_4 : decode cX7_closed 4 = .ok (.invokestatic 133, 3) := dk_184 0 133 (dk_at dksX7_closed_0 4 rfl rfl)
theorem dX7_closed_7 : decode cX7_closed 7 = .ok (.ifCond .ne 5, 3) := dk_154 0 5 (dk_at dksX7_closed_0 7 rfl rfl)
theorem dX7_closed_10 : decode cX7_closed 10 = .ok (.iconst (-1), 1) := dk_2 (dk_at dksX7_closed_0 10 rfl rfl)
theorem dX7_closed_11 : decode cX7_closed 11 = .ok (.ireturn, 1) := dk_172 (dk_at dksX7_closed_0 11 rfl rfl)
theorem dX7_closed_12 : decode cX7_closed 12 = .ok (.aload_n 0, 1) := dk_42 (dk_at dksX7_closed_0 12 rfl rfl)
theorem dX7_closed_13 : decode cX7_closed 13 = .ok (.getfield 7, 3) := dk_180 0 7 (dk_at dksX7_closed_0 13 rfl rfl)
theorem dX7_closed_16 : decode cX7_closed 16 = .ok (.bipush 6, 2) := dk_16 6 (dk_at dksX7_closed_0 16 rfl rfl)
theorem dX7_closed_18 : decode cX7_closed 18 = .ok (.if_icmp .ne 8, 3) := dk_160 0 8 (dk_at dksX7_closed_0 18 rfl rfl)
theorem dX7_closed_21 : decode cX7_closed 21 = .ok (.bipush (-4), 2) := dk_16 252 (dk_at dksX7_closed_0 21 rfl rfl)
theorem dX7_closed_23 : decode cX7_closed 23 = .ok (.goto 21, 3) := dk_167 0 21 (dk_at dksX7_closed_1 0 rfl rfl)
theorem dX7_closed_26 : decode cX7_closed 26 = .ok (.aload_n 0, 1) := dk_42 (dk_at dksX7_closed_1 3 rfl rfl)
theorem dX7_closed_27 : decode cX7_closed 27 = .ok (.iconst 0, 1) := dk_3 (dk_at dksX7_closed_1 4 rfl rfl)
theorem dX7_closed_28 : decode cX7_closed 28 = .ok (.iload_n 1, 1) := dk_27 (dk_at dksX7_closed_1 5 rfl rfl)
theorem dX7_closed_29 : decode cX7_closed 29 = .ok (.ifCond .ne 7, 3) := dk_154 0 7 (dk_at dksX7_closed_1 6 rfl rfl)
theorem dX7_closed_32 : decode cX7_closed 32 = .ok (.lconst 0, 1) := dk_9 (dk_at dksX7_closed_1 9 rfl rfl)
theorem dX7_closed_33 : decode cX7_closed 33 = .ok (.goto 7, 3) := dk_167 0 7 (dk_at dksX7_closed_1 10 rfl rfl)
theorem dX7_closed_36 : decode cX7_closed 36 = .ok (.aload_n 0, 1) := dk_42 (dk_at dksX7_closed_1 13 rfl rfl)
theorem dX7_closed_37 : decode cX7_closed 37 = .ok (.getfield 137, 3) := dk_180 0 137 (dk_at dksX7_closed_1 14 rfl rfl)
theorem dX7_closed_40 : decode cX7_closed 40 = .ok (.lconst 0, 1) := dk_9 (dk_at dksX7_closed_1 17 rfl rfl)
theorem dX7_closed_41 : decode cX7_closed 41 = .ok (.invokevirtual 373, 3) := dk_182 1 117 (dk_at dksX7_closed_1 18 rfl rfl)
theorem dX7_closed_44 : decode cX7_closed 44 = .ok (.ireturn, 1) := dk_172 (dk_at dksX7_closed_1 21 rfl rfl)
abbrev cX7_closedFrom : ByteArray := prog_32_method_91_code
def yX7_closedFrom : MethodName := ⟨RX7, "closedFrom", "(IJJ)I"⟩
def dkwX7_closedFrom_2 : List UInt8 := [182, 1, 117, 42, 27, 4, 96, 32, 22, 4, 42, 27, 182, 0, 197, 129, 182, 1, 117, 96, 172]
abbrev dktX7_closedFrom_2 : List UInt8 := dkwX7_closedFrom_2 ++ []
def dkwX7_closedFrom_1 : List UInt8 := [96, 32, 22, 4, 182, 1, 117, 172, 42, 27, 4, 96, 32, 42, 180, 0, 38, 27, 47, 129, 22, 4]
abbrev dktX7_closedFrom_1 : List UInt8 := dkwX7_closedFrom_1 ++ dktX7_closedFrom_2
def dkwX7_closedFrom_0 : List UInt8 := [27, 42, 180, 0, 178, 160, 0, 5, 4, 172, 32, 22, 4, 129, 27, 184, 0, 108, 153, 0, 14, 42, 27, 4]
abbrev dktX7_closedFrom_0 : List UInt8 := dkwX7_closedFrom_0 ++ dktX7_closedFrom_1
theorem dksX7_closedFrom_0 : cX7_closedFrom.data.toList.drop 0 = dktX7_closedFrom_0 := by decide +kernel
theorem dksX7_closedFrom_1 : cX7_closedFrom.data.toList.drop 24 = dktX7_closedFrom_1 := dk_seg dksX7_closedFrom_0 24 rfl rfl
theorem dksX7_closedFrom_2 : cX7_closedFrom.data.toList.drop 46 = dktX7_closedFrom_2 := dk_seg dksX7_closedFrom_1 22 rfl rfl
theorem dX7_closedFrom_0 : decode cX7_closedFrom 0 = .ok (.iload_n 1, 1) := dk_27 (dk_at dksX7_closedFrom_0 0 rfl rfl)
theorem dX7_closedFrom_1 : decode cX7_closedFrom 1 = .ok (.aload_n 0, 1) := dk_42 (dk_at dksX7_closedFrom_0 1 rfl rfl)
theorem dX7_closedFrom_2 : decode cX7_closedFrom 2 = .ok (.getfield 178, 3) := dk_180 0 178 (dk_at dksX7_closedFrom_0 2 rfl rfl)
theorem dX7_closedFrom_5 : decode cX7_closedFrom 5 = .ok (.if_icmp .ne 5, 3) := dk_160 0 5 (dk_at dksX7_closedFrom_0 5 rfl rfl)
theorem dX7_closedFrom_8 : decode cX7_closedFrom 8 = .ok (.iconst 1, 1) := dk_4 (dk_at dksX7_closedFrom_0 8 rfl rfl)
theorem dX7_closedFrom_9 : decode cX7_closedFrom 9 = .ok (.ireturn, 1) := dk_172 (dk_at dksX7_closedFrom_0 9 rfl rfl)
theorem dX7_closedFrom_10 : decode cX7_closedFrom 10 = .ok (.lload_n 2, 1) := dk_32 (dk_at dksX7_closedFrom_0 10 rfl rfl)
theorem dX7_closedFrom_11 : decode cX7_closedFrom 11 = .ok (.lload 4, 2) := dk_22 4 (dk_at dksX7_closedFrom_0 11 rfl rfl)
theorem dX7_closedFrom_13 : decode cX7_closedFrom 13 = .ok (.lor, 1) := dk_129 (dk_at dksX7_closedFrom_0 13 rfl rfl)
theorem dX7_closedFrom_14 : decode cX7_closedFrom 14 = .ok (.iload_n 1, 1) := dk_27 (dk_at dksX7_closedFrom_0 14 rfl rfl)
theorem dX7_closedFrom_15 : decode cX7_closedFrom 15 = .ok (.invokestatic 108, 3) := dk_184 0 108 (dk_at dksX7_closedFrom_0 15 rfl rfl)
theorem dX7_closedFrom_18 : decode cX7_closedFrom 18 = .ok (.ifCond .eq 14, 3) := dk_153 0 14 (dk_at dksX7_closedFrom_0 18 rfl rfl)
theorem dX7_closedFrom_21 : decode cX7_closedFrom 21 = .ok (.aload_n 0, 1) := dk_42 (dk_at dksX7_closedFrom_0 21 rfl rfl)
theorem dX7_closedFrom_22 : decode cX7_closedFrom 22 = .ok (.iload_n 1, 1) := dk_27 (dk_at dksX7_closedFrom_0 22 rfl rfl)
theorem dX7_closedFrom_23 : decode cX7_closedFrom 23 = .ok (.iconst 1, 1) := dk_4 (dk_at dksX7_closedFrom_0 23 rfl rfl)
theorem dX7_closedFrom_24 : decode cX7_closedFrom 24 = .ok (.iadd, 1) := dk_96 (dk_at dksX7_closedFrom_1 0 rfl rfl)
theorem dX7_closedFrom_25 : decode cX7_closedFrom 25 = .ok (.lload_n 2, 1) := dk_32 (dk_at dksX7_closedFrom_1 1 rfl rfl)
theorem dX7_closedFrom_26 : decode cX7_closedFrom 26 = .ok (.lload 4, 2) := dk_22 4 (dk_at dksX7_closedFrom_1 2 rfl rfl)
theorem dX7_closedFrom_28 : decode cX7_closedFrom 28 = .ok (.invokevirtual 373, 3) := dk_182 1 117 (dk_at dksX7_closedFrom_1 4 rfl rfl)
theorem dX7_closedFrom_31 : decode cX7_closedFrom 31 = .ok (.ireturn, 1) := dk_172 (dk_at dksX7_closedFrom_1 7 rfl rfl)
theorem dX7_closedFrom_32 : decode cX7_closedFrom 32 = .ok (.aload_n 0, 1) := dk_42 (dk_at dksX7_closedFrom_1 8 rfl rfl)
theorem dX7_closedFrom_33 : decode cX7_closedFrom 33 = .ok (.iload_n 1, 1) := dk_27 (dk_at dksX7_closedFrom_1 9 rfl rfl)
theorem dX7_closedFrom_34 : decode cX7_closedFrom 34 = .ok (.iconst 1, 1) := dk_4 (dk_at dksX7_closedFrom_1 10 rfl rfl)
theorem dX7_closedFrom_35 : decode cX7_closedFrom 35 = .ok (.iadd, 1) := dk_96 (dk_at dksX7_closedFrom_1 11 rfl rfl)
theorem dX7_closedFrom_36 : decode cX7_closedFrom 36 = .ok (.lload_n 2, 1) := dk_32 (dk_at dksX7_closedFrom_1 12 rfl rfl)
theorem dX7_closedFrom_37 : decode cX7_closedFrom 37 = .ok (.aload_n 0, 1) := dk_42 (dk_at dksX7_closedFrom_1 13 rfl rfl)
theorem dX7_closedFrom_38 : decode cX7_closedFrom 38 = .ok (.getfield 38, 3) := dk_180 0 38 (dk_at dksX7_closedFrom_1 14 rfl rfl)
theorem dX7_closedFrom_41 : decode cX7_closedFrom 41 = .ok (.iload_n 1, 1) := dk_27 (dk_at dksX7_closedFrom_1 17 rfl rfl)
theorem dX7_closedFrom_42 : decode cX7_closedFrom 42 = .ok (.laload, 1) := dk_47 (dk_at dksX7_closedFrom_1 18 rfl rfl)
theorem dX7_closedFrom_43 : decode cX7_closedFrom 43 = .ok (.lor, 1) := dk_129 (dk_at dksX7_closedFrom_1 19 rfl rfl)
theorem dX7_closedFrom_44 : decode cX7_closedFrom 44 = .ok (.lload 4, 2) := dk_22 4 (dk_at dksX7_closedFrom_1 20 rfl rfl)
theorem dX7_closedFrom_46 : decode cX7_closedFrom 46 = .ok (.invokevirtual 373, 3) := dk_182 1 117 (dk_at dksX7_closedFrom_2 0 rfl rfl)
theorem dX7_closedFrom_49 : decode cX7_closedFrom 49 = .ok (.aload_n 0, 1) := dk_42 (dk_at dksX7_closedFrom_2 3 rfl rfl)
theorem dX7_closedFrom_50 : decode cX7_closedFrom 50 = .ok (.iload_n 1, 1) := dk_27 (dk_at dksX7_closedFrom_2 4 rfl rfl)
theorem dX7_closedFrom_51 : decode cX7_closedFrom 51 = .ok (.iconst 1, 1) := dk_4 (dk_at dksX7_closedFrom_2 5 rfl rfl)
theorem dX7_closedFrom_52 : decode cX7_closedFrom 52 = .ok (.iadd, 1) := dk_96 (dk_at dksX7_closedFrom_2 6 rfl rfl)
theorem dX7_closedFrom_53 : decode cX7_closedFrom 53 = .ok (.lload_n 2, 1) := dk_32 (dk_at dksX7_closedFrom_2 7 rfl rfl)
theorem dX7_closedFrom_54 : decode cX7_closedFrom 54 = .ok (.lload 4, 2) := dk_22 4 (dk_at dksX7_closedFrom_2 8 rfl rfl)
theorem dX7_closedFrom_56 : decode cX7_closedFrom 56 = .ok (.aload_n 0, 1) := dk_42 (dk_at dksX7_closedFrom_2 10 rfl rfl)
theorem dX7_closedFrom_57 : decode cX7_closedFrom 57 = .ok (.iload_n 1, 1) := dk_27 (dk_at dksX7_closedFrom_2 11 rfl rfl)
theorem dX7_closedFrom_58 : decode cX7_closedFrom 58 = .ok (.invokevirtual 197, 3) := dk_182 0 197 (dk_at dksX7_closedFrom_2 12 rfl rfl)
theorem dX7_closedFrom_61 : decode cX7_closedFrom 61 = .ok (.lor, 1) := dk_129 (dk_at dksX7_closedFrom_2 15 rfl rfl)
theorem dX7_closedFrom_62 : decode cX7_closedFrom 62 = .ok (.invokevirtual 373, 3) := dk_182 1 117 (dk_at dksX7_closedFrom_2 16 rfl rfl)
theorem dX7_closedFrom_65 : decode cX7_closedFrom 65 = .ok (.iadd, 1) := dk_96 (dk_at dksX7_closedFrom_2 19 rfl rfl)
theorem dX7_closedFrom_66 : decode cX7_closedFrom 66 = .ok (.ireturn, 1) := dk_172 (dk_at dksX7_closedFrom_2 20 rfl rfl)
abbrev cX7_whatIs : ByteArray := prog_32_method_95_code
def yX7_whatIs : MethodName := ⟨RX7, "whatIs", "(II)I"⟩
def dkwX7_whatIs_4 : List UInt8 := [132, 3, 1, 21, 5, 54, 4, 132, 5, 255, 167, 255, 207, 28, 154, 0, 7, 29, 167, 0, 5, 21, 4, 172]
abbrev dktX7_whatIs_4 : List UInt8 := dkwX7_whatIs_4 ++ []
def dkwX7_whatIs_3 : List UInt8 := [42, 21, 5, 16, 16, 108, 21, 5, 16, 16, 112, 182, 0, 228, 182, 0, 215, 182, 1, 127, 153, 0, 10]
abbrev dktX7_whatIs_3 : List UInt8 := dkwX7_whatIs_3 ++ dktX7_whatIs_4
def dkwX7_whatIs_2 : List UInt8 := [16, 253, 54, 4, 16, 95, 54, 5, 21, 5, 155, 0, 50, 42, 27, 182, 1, 124, 153, 0, 42, 42, 27, 42]
abbrev dktX7_whatIs_2 : List UInt8 := dkwX7_whatIs_2 ++ dktX7_whatIs_3
def dkwX7_whatIs_1 : List UInt8 := [46, 5, 159, 0, 20, 42, 180, 0, 81, 27, 46, 156, 0, 8, 16, 245, 167, 0, 5, 16, 243, 172, 3, 62]
abbrev dktX7_whatIs_1 : List UInt8 := dkwX7_whatIs_1 ++ dktX7_whatIs_2
def dkwX7_whatIs_0 : List UInt8 := [27, 184, 1, 121, 153, 0, 13, 28, 133, 9, 10, 184, 0, 133, 154, 0, 5, 2, 172, 42, 180, 0, 81, 27]
abbrev dktX7_whatIs_0 : List UInt8 := dkwX7_whatIs_0 ++ dktX7_whatIs_1
theorem dksX7_whatIs_0 : cX7_whatIs.data.toList.drop 0 = dktX7_whatIs_0 := by decide +kernel
theorem dksX7_whatIs_1 : cX7_whatIs.data.toList.drop 24 = dktX7_whatIs_1 := dk_seg dksX7_whatIs_0 24 rfl rfl
theorem dksX7_whatIs_2 : cX7_whatIs.data.toList.drop 48 = dktX7_whatIs_2 := dk_seg dksX7_whatIs_1 24 rfl rfl
theorem dksX7_whatIs_3 : cX7_whatIs.data.toList.drop 72 = dktX7_whatIs_3 := dk_seg dksX7_whatIs_2 24 rfl rfl
theorem dksX7_whatIs_4 : cX7_whatIs.data.toList.drop 95 = dktX7_whatIs_4 := dk_seg dksX7_whatIs_3 23 rfl rfl
theorem dX7_whatIs_0 : decode cX7_whatIs 0 = .ok (.iload_n 1, 1) := dk_27 (dk_at dksX7_whatIs_0 0 rfl rfl)
theorem dX7_whatIs_1 : decode cX7_whatIs 1 = .ok (.invokestatic 377, 3) := dk_184 1 121 (dk_at dksX7_whatIs_0 1 rfl rfl)
theorem dX7_whatIs_4 : decode cX7_whatIs 4 = .ok (.ifCond .eq 13, 3) := dk_153 0 13 (dk_at dksX7_whatIs_0 4 rfl rfl)
theorem dX7_whatIs_7 : decode cX7_whatIs 7 = .ok (.iload_n 2, 1) := dk_28 (dk_at dksX7_whatIs_0 7 rfl rfl)
theorem dX7_whatIs_8 : decode cX7_whatIs 8 = .ok (.i2l, 1) := dk_133 (dk_at dksX7_whatIs_0 8 rfl rfl)
theorem dX7_whatIs_9 : decode cX7_whatIs 9 = .ok (.lconst 0, 1) := dk_9 (dk_at dksX7_whatIs_0 9 rfl rfl)
theorem dX7_whatIs_10 : decode cX7_whatIs 10 = .ok (.lconst 1, 1) := dk_10 (dk_at dksX7_whatIs_0 10 rfl rfl)
theorem dX7_whatIs_11 : decode cX7_whatIs 11 = .ok (.invokestatic 133, 3) := dk_184 0 133 (dk_at dksX7_whatIs_0 11 rfl rfl)
theorem dX7_whatIs_14 : decode cX7_whatIs 14 = .ok (.ifCond .ne 5, 3) := dk_154 0 5 (dk_at dksX7_whatIs_0 14 rfl rfl)
theorem dX7_whatIs_17 : decode cX7_whatIs 17 = .ok (.iconst (-1), 1) := dk_2 (dk_at dksX7_whatIs_0 17 rfl rfl)
theorem dX7_whatIs_18 : decode cX7_whatIs 18 = .ok (.ireturn, 1) := dk_172 (dk_at dksX7_whatIs_0 18 rfl rfl)
theorem dX7_whatIs_19 : decode cX7_whatIs 19 = .ok (.aload_n 0, 1) := dk_42 (dk_at dksX7_whatIs_0 19 rfl rfl)
theorem dX7_whatIs_20 : decode cX7_whatIs 20 = .ok (.getfield 81, 3) := dk_180 0 81 (dk_at dksX7_whatIs_0 20 rfl rfl)
theorem dX7_whatIs_23 : decode cX7_whatIs 23 = .ok (.iload_n 1, 1) := dk_27 (dk_at dksX7_whatIs_0 23 rfl rfl)
theorem dX7_whatIs_24 : decode cX7_whatIs 24 = .ok (.iaload, 1) := dk_46 (dk_at dksX7_whatIs_1 0 rfl rfl)
theorem dX7_whatIs_25 : decode cX7_whatIs 25 = .ok (.iconst 2, 1) := dk_5 (dk_at dksX7_whatIs_1 1 rfl rfl)
theorem dX7_whatIs_26 : decode cX7_whatIs 26 = .ok (.if_icmp .eq 20, 3) := dk_159 0 20 (dk_at dksX7_whatIs_1 2 rfl rfl)
theorem dX7_whatIs_29 : decode cX7_whatIs 29 = .ok (.aload_n 0, 1) := dk_42 (dk_at dksX7_whatIs_1 5 rfl rfl)
theorem dX7_whatIs_30 : decode cX7_whatIs 30 = .ok (.getfield 81, 3) := dk_180 0 81 (dk_at dksX7_whatIs_1 6 rfl rfl)
theorem dX7_whatIs_33 : decode cX7_whatIs 33 = .ok (.iload_n 1, 1) := dk_27 (dk_at dksX7_whatIs_1 9 rfl rfl)
theorem dX7_whatIs_34 : decode cX7_whatIs 34 = .ok (.iaload, 1) := dk_46 (dk_at dksX7_whatIs_1 10 rfl rfl)
theorem dX7_whatIs_35 : decode cX7_whatIs 35 = .ok (.ifCond .ge 8, 3) := dk_156 0 8 (dk_at dksX7_whatIs_1 11 rfl rfl)
theorem dX7_whatIs_38 : decode cX7_whatIs 38 = .ok (.bipush (-11), 2) := dk_16 245 (dk_at dksX7_whatIs_1 14 rfl rfl)
theorem dX7_whatIs_40 : decode cX7_whatIs 40 = .ok (.goto 5, 3) := dk_167 0 5 (dk_at dksX7_whatIs_1 16 rfl rfl)
theorem dX7_whatIs_43 : decode cX7_whatIs 43 = .ok (.bipush (-13), 2) := dk_16 243 (dk_at dksX7_whatIs_1 19 rfl rfl)
theorem dX7_whatIs_45 : decode cX7_whatIs 45 = .ok (.ireturn, 1) := dk_172 (dk_at dksX7_whatIs_1 21 rfl rfl)
theorem dX7_whatIs_46 : decode cX7_whatIs 46 = .ok (.iconst 0, 1) := dk_3 (dk_at dksX7_whatIs_1 22 rfl rfl)
theorem dX7_whatIs_47 : decode cX7_whatIs 47 = .ok (.istore_n 3, 1) := dk_62 (dk_at dksX7_whatIs_1 23 rfl rfl)
theorem dX7_whatIs_48 : decode cX7_whatIs 48 = .ok (.bipush (-3), 2) := dk_16 253 (dk_at dksX7_whatIs_2 0 rfl rfl)
theorem dX7_whatIs_50 : decode cX7_whatIs 50 = .ok (.istore 4, 2) := dk_54 4 (dk_at dksX7_whatIs_2 2 rfl rfl)
theorem dX7_whatIs_52 : decode cX7_whatIs 52 = .ok (.bipush 95, 2) := dk_16 95 (dk_at dksX7_whatIs_2 4 rfl rfl)
theorem dX7_whatIs_54 : decode cX7_whatIs 54 = .ok (.istore 5, 2) := dk_54 5 (dk_at dksX7_whatIs_2 6 rfl rfl)
theorem dX7_whatIs_56 : decode cX7_whatIs 56 = .ok (.iload 5, 2) := dk_21 5 (dk_at dksX7_whatIs_2 8 rfl rfl)
theorem dX7_whatIs_58 : decode cX7_whatIs 58 = .ok (.ifCond .lt 50, 3) := dk_155 0 50 (dk_at dksX7_whatIs_2 10 rfl rfl)
theorem dX7_whatIs_61 : decode cX7_whatIs 61 = .ok (.aload_n 0, 1) := dk_42 (dk_at dksX7_whatIs_2 13 rfl rfl)
theorem dX7_whatIs_62 : decode cX7_whatIs 62 = .ok (.iload_n 1, 1) := dk_27 (dk_at dksX7_whatIs_2 14 rfl rfl)
theorem dX7_whatIs_63 : decode cX7_whatIs 63 = .ok (.invokevirtual 380, 3) := dk_182 1 124 (dk_at dksX7_whatIs_2 15 rfl rfl)
theorem dX7_whatIs_66 : decode cX7_whatIs 66 = .ok (.ifCond .eq 42, 3) := dk_153 0 42 (dk_at dksX7_whatIs_2 18 rfl rfl)
theorem dX7_whatIs_69 : decode cX7_whatIs 69 = .ok (.aload_n 0, 1) := dk_42 (dk_at dksX7_whatIs_2 21 rfl rfl)
theorem dX7_whatIs_70 : decode cX7_whatIs 70 = .ok (.iload_n 1, 1) := dk_27 (dk_at dksX7_whatIs_2 22 rfl rfl)
theorem dX7_whatIs_71 : decode cX7_whatIs 71 = .ok (.aload_n 0, 1) := dk_42 (dk_at dksX7_whatIs_2 23 rfl rfl)
theorem dX7_whatIs_72 : decode cX7_whatIs 72 = .ok (.aload_n 0, 1) := dk_42 (dk_at dksX7_whatIs_3 0 rfl rfl)
theorem dX7_whatIs_73 : decode cX7_whatIs 73 = .ok (.iload 5, 2) := dk_21 5 (dk_at dksX7_whatIs_3 1 rfl rfl)
theorem dX7_whatIs_75 : decode cX7_whatIs 75 = .ok (.bipush 16, 2) := dk_16 16 (dk_at dksX7_whatIs_3 3 rfl rfl)
theorem dX7_whatIs_77 : decode cX7_whatIs 77 = .ok (.idiv, 1) := dk_108 (dk_at dksX7_whatIs_3 5 rfl rfl)
theorem dX7_whatIs_78 : decode cX7_whatIs 78 = .ok (.iload 5, 2) := dk_21 5 (dk_at dksX7_whatIs_3 6 rfl rfl)
theorem dX7_whatIs_80 : decode cX7_whatIs 80 = .ok (.bipush 16, 2) := dk_16 16 (dk_at dksX7_whatIs_3 8 rfl rfl)
theorem dX7_whatIs_82 : decode cX7_whatIs 82 = .ok (.irem, 1) := dk_112 (dk_at dksX7_whatIs_3 10 rfl rfl)
theorem dX7_whatIs_83 : decode cX7_whatIs 83 = .ok (.invokevirtual 228, 3) := dk_182 0 228 (dk_at dksX7_whatIs_3 11 rfl rfl)
theorem dX7_whatIs_86 : decode cX7_whatIs 86 = .ok (.invokevirtual 215, 3) := dk_182 0 215 (dk_at dksX7_whatIs_3 14 rfl rfl)
theorem dX7_whatIs_89 : decode cX7_whatIs 89 = .ok (.invokevirtual 383, 3) := dk_182 1 127 (dk_at dksX7_whatIs_3 17 rfl rfl)
theorem dX7_whatIs_92 : decode cX7_whatIs 92 = .ok (.ifCond .eq 10, 3) := dk_153 0 10 (dk_at dksX7_whatIs_3 20 rfl rfl)
theorem dX7_whatIs_95 : decode cX7_whatIs 95 = .ok (.iinc 3 1, 3) := dk_132 3 1 (dk_at dksX7_whatIs_4 0 rfl rfl)
theorem dX7_whatIs_98 : decode cX7_whatIs 98 = .ok (.iload 5, 2) := dk_21 5 (dk_at dksX7_whatIs_4 3 rfl rfl)
theorem dX7_whatIs_100 : decode cX7_whatIs 100 = .ok (.istore 4, 2) := dk_54 4 (dk_at dksX7_whatIs_4 5 rfl rfl)
theorem dX7_whatIs_102 : decode cX7_whatIs 102 = .ok (.iinc 5 (-1), 3) := dk_132 5 255 (dk_at dksX7_whatIs_4 7 rfl rfl)
theorem dX7_whatIs_105 : decode cX7_whatIs 105 = .ok (.goto (-49), 3) := dk_167 255 207 (dk_at dksX7_whatIs_4 10 rfl rfl)
theorem dX7_whatIs_108 : decode cX7_whatIs 108 = .ok (.iload_n 2, 1) := dk_28 (dk_at dksX7_whatIs_4 13 rfl rfl)
theorem dX7_whatIs_109 : decode cX7_whatIs 109 = .ok (.ifCond .ne 7, 3) := dk_154 0 7 (dk_at dksX7_whatIs_4 14 rfl rfl)
theorem dX7_whatIs_112 : decode cX7_whatIs 112 = .ok (.iload_n 3, 1) := dk_29 (dk_at dksX7_whatIs_4 17 rfl rfl)
theorem dX7_whatIs_113 : decode cX7_whatIs 113 = .ok (.goto 5, 3) := dk_167 0 5 (dk_at dksX7_whatIs_4 18 rfl rfl)
theorem dX7_whatIs_116 : decode cX7_whatIs 116 = .ok (.iload 4, 2) := dk_21 4 (dk_at dksX7_whatIs_4 21 rfl rfl)
theorem dX7_whatIs_118 : decode cX7_whatIs 118 = .ok (.ireturn, 1) := dk_172 (dk_at dksX7_whatIs_4 23 rfl rfl)
abbrev cX7_isSheet : ByteArray := prog_32_method_105_code
def yX7_isSheet : MethodName := ⟨RX7, "isSheet", "(I)Z"⟩
def dkwX7_isSheet_0 : List UInt8 := [26, 133, 9, 20, 0, 157, 184, 0, 133, 172]
abbrev dktX7_isSheet_0 : List UInt8 := dkwX7_isSheet_0 ++ []
theorem dksX7_isSheet_0 : cX7_isSheet.data.toList.drop 0 = dktX7_isSheet_0 := by decide +kernel
theorem dX7_isSheet_0 : decode cX7_isSheet 0 = .ok (.iload_n 0, 1) := dk_26 (dk_at dksX7_isSheet_0 0 rfl rfl)
theorem dX7_isSheet_1 : decode cX7_isSheet 1 = .ok (.i2l, 1) := dk_133 (dk_at dksX7_isSheet_0 1 rfl rfl)
theorem dX7_isSheet_2 : decode cX7_isSheet 2 = .ok (.lconst 0, 1) := dk_9 (dk_at dksX7_isSheet_0 2 rfl rfl)
theorem dX7_isSheet_3 : decode cX7_isSheet 3 = .ok (.ldc2_w 157, 3) := dk_20 0 157 (dk_at dksX7_isSheet_0 3 rfl rfl)
theorem dX7_isSheet_6 : decode cX7_isSheet 6 = .ok (.invokestatic 133, 3) := dk_184 0 133 (dk_at dksX7_isSheet_0 6 rfl rfl)
theorem dX7_isSheet_9 : decode cX7_isSheet 9 = .ok (.ireturn, 1) := dk_172 (dk_at dksX7_isSheet_0 9 rfl rfl)
abbrev cX7_areThrees : ByteArray := prog_32_method_93_code
def yX7_areThrees : MethodName := ⟨RX7, "areThrees", "(I)Z"⟩
def dkwX7_areThrees_4 : List UInt8 := [153, 0, 7, 4, 167, 0, 4, 3, 61, 132, 3, 3, 167, 255, 170, 28, 172]
abbrev dktX7_areThrees_4 : List UInt8 := dkwX7_areThrees_4 ++ []
def dkwX7_areThrees_3 : List UInt8 := [182, 0, 116, 153, 0, 28, 42, 180, 0, 87, 16, 40, 27, 104, 29, 96, 5, 96, 47, 9, 10, 184, 0, 133]
abbrev dktX7_areThrees_3 : List UInt8 := dkwX7_areThrees_3 ++ dktX7_areThrees_4
def dkwX7_areThrees_2 : List UInt8 := [136, 182, 0, 116, 153, 0, 49, 42, 42, 180, 0, 87, 16, 40, 27, 104, 29, 96, 4, 96, 47, 136]
abbrev dktX7_areThrees_2 : List UInt8 := dkwX7_areThrees_2 ++ dktX7_areThrees_3
def dkwX7_areThrees_1 : List UInt8 := [180, 0, 84, 27, 46, 162, 0, 80, 28, 153, 0, 76, 42, 42, 180, 0, 87, 16, 40, 27, 104, 29, 96, 47]
abbrev dktX7_areThrees_1 : List UInt8 := dkwX7_areThrees_1 ++ dktX7_areThrees_2
def dkwX7_areThrees_0 : List UInt8 := [42, 180, 0, 84, 27, 46, 6, 112, 154, 0, 7, 4, 167, 0, 4, 3, 61, 3, 62, 29, 5, 96, 42]
abbrev dktX7_areThrees_0 : List UInt8 := dkwX7_areThrees_0 ++ dktX7_areThrees_1
theorem dksX7_areThrees_0 : cX7_areThrees.data.toList.drop 0 = dktX7_areThrees_0 := by decide +kernel
theorem dksX7_areThrees_1 : cX7_areThrees.data.toList.drop 23 = dktX7_areThrees_1 := dk_seg dksX7_areThrees_0 23 rfl rfl
theorem dksX7_areThrees_2 : cX7_areThrees.data.toList.drop 47 = dktX7_areThrees_2 := dk_seg dksX7_areThrees_1 24 rfl rfl
theorem dksX7_areThrees_3 : cX7_areThrees.data.toList.drop 69 = dktX7_areThrees_3 := dk_seg dksX7_areThrees_2 22 rfl rfl
theorem dksX7_areThrees_4 : cX7_areThrees.data.toList.drop 93 = dktX7_areThrees_4 := dk_seg dksX7_areThrees_3 24 rfl rfl
theorem dX7_areThrees_0 : decode cX7_areThrees 0 = .ok (.aload_n 0, 1) := dk_42 (dk_at dksX7_areThrees_0 0 rfl rfl)
theorem dX7_areThrees_1 : decode cX7_areThrees 1 = .ok (.getfield 84, 3) := dk_180 0 84 (dk_at dksX7_areThrees_0 1 rfl rfl)
theorem dX7_areThrees_4 : decode cX7_areThrees 4 = .ok (.iload_n 1, 1) := dk_27 (dk_at dksX7_areThrees_0 4 rfl rfl)
theorem dX7_areThrees_5 : decode cX7_areThrees 5 = .ok (.iaload, 1) := dk_46 (dk_at dksX7_areThrees_0 5 rfl rfl)
theorem dX7_areThrees_6 : decode cX7_areThrees 6 = .ok (.iconst 3, 1) := dk_6 (dk_at dksX7_areThrees_0 6 rfl rfl)
theorem dX7_areThrees_7 : decode cX7_areThrees 7 = .ok (.irem, 1) := dk_112 (dk_at dksX7_areThrees_0 7 rfl rfl)
theorem dX7_areThrees_8 : decode cX7_areThrees 8 = .ok (.ifCond .ne 7, 3) := dk_154 0 7 (dk_at dksX7_areThrees_0 8 rfl rfl)
theorem dX7_areThrees_11 : decode cX7_areThrees 11 = .ok (.iconst 1, 1) := dk_4 (dk_at dksX7_areThrees_0 11 rfl rfl)
theorem dX7_areThrees_12 : decode cX7_areThrees 12 = .ok (.goto 4, 3) := dk_167 0 4 (dk_at dksX7_areThrees_0 12 rfl rfl)
theorem dX7_areThrees_15 : decode cX7_areThrees 15 = .ok (.iconst 0, 1) := dk_3 (dk_at dksX7_areThrees_0 15 rfl rfl)
theorem dX7_areThrees_16 : decode cX7_areThrees 16 = .ok (.istore_n 2, 1) := dk_61 (dk_at dksX7_areThrees_0 16 rfl rfl)
theorem dX7_areThrees_17 : decode cX7_areThrees 17 = .ok (.iconst 0, 1) := dk_3 (dk_at dksX7_areThrees_0 17 rfl rfl)
theorem dX7_areThrees_18 : decode cX7_areThrees 18 = .ok (.istore_n 3, 1) := dk_62 (dk_at dksX7_areThrees_0 18 rfl rfl)
theorem dX7_areThrees_19 : decode cX7_areThrees 19 = .ok (.iload_n 3, 1) := dk_29 (dk_at dksX7_areThrees_0 19 rfl rfl)
theorem dX7_areThrees_20 : decode cX7_areThrees 20 = .ok (.iconst 2, 1) := dk_5 (dk_at dksX7_areThrees_0 20 rfl rfl)
theorem dX7_areThrees_21 : decode cX7_areThrees 21 = .ok (.iadd, 1) := dk_96 (dk_at dksX7_areThrees_0 21 rfl rfl)
theorem dX7_areThrees_22 : decode cX7_areThrees 22 = .ok (.aload_n 0, 1) := dk_42 (dk_at dksX7_areThrees_0 22 rfl rfl)
theorem dX7_areThrees_23 : decode cX7_areThrees 23 = .ok (.getfield 84, 3) := dk_180 0 84 (dk_at dksX7_areThrees_1 0 rfl rfl)
theorem dX7_areThrees_26 : decode cX7_areThrees 26 = .ok (.iload_n 1, 1) := dk_27 (dk_at dksX7_areThrees_1 3 rfl rfl)
theorem dX7_areThrees_27 : decode cX7_areThrees 27 = .ok (.iaload, 1) := dk_46 (dk_at dksX7_areThrees_1 4 rfl rfl)
theorem dX7_areThrees_28 : decode cX7_areThrees 28 = .ok (.if_icmp .ge 80, 3) := dk_162 0 80 (dk_at dksX7_areThrees_1 5 rfl rfl)
theorem dX7_areThrees_31 : decode cX7_areThrees 31 = .ok (.iload_n 2, 1) := dk_28 (dk_at dksX7_areThrees_1 8 rfl rfl)
theorem dX7_areThrees_32 : decode cX7_areThrees 32 = .ok (.ifCond .eq 76, 3) := dk_153 0 76 (dk_at dksX7_areThrees_1 9 rfl rfl)
theorem dX7_areThrees_35 : decode cX7_areThrees 35 = .ok (.aload_n 0, 1) := dk_42 (dk_at dksX7_areThrees_1 12 rfl rfl)
theorem dX7_areThrees_36 : decode cX7_areThrees 36 = .ok (.aload_n 0, 1) := dk_42 (dk_at dksX7_areThrees_1 13 rfl rfl)
theorem dX7_areThrees_37 : decode cX7_areThrees 37 = .ok (.getfield 87, 3) := dk_180 0 87 (dk_at dksX7_areThrees_1 14 rfl rfl)
theorem dX7_areThrees_40 : decode cX7_areThrees 40 = .ok (.bipush 40, 2) := dk_16 40 (dk_at dksX7_areThrees_1 17 rfl rfl)
theorem dX7_areThrees_42 : decode cX7_areThrees 42 = .ok (.iload_n 1, 1) := dk_27 (dk_at dksX7_areThrees_1 19 rfl rfl)
theorem dX7_areThrees_43 : decode cX7_areThrees 43 = .ok (.imul, 1) := dk_104 (dk_at dksX7_areThrees_1 20 rfl rfl)
theorem dX7_areThrees_44 : decode cX7_areThrees 44 = .ok (.iload_n 3, 1) := dk_29 (dk_at dksX7_areThrees_1 21 rfl rfl)
theorem dX7_areThrees_45 : decode cX7_areThrees 45 = .ok (.iadd, 1) := dk_96 (dk_at dksX7_areThrees_1 22 rfl rfl)
theorem dX7_areThrees_46 : decode cX7_areThrees 46 = .ok (.laload, 1) := dk_47 (dk_at dksX7_areThrees_1 23 rfl rfl)
theorem dX7_areThrees_47 : decode cX7_areThrees 47 = .ok (.l2i, 1) := dk_136 (dk_at dksX7_areThrees_2 0 rfl rfl)
theorem dX7_areThrees_48 : decode cX7_areThrees 48 = .ok (.invokevirtual 116, 3) := dk_182 0 116 (dk_at dksX7_areThrees_2 1 rfl rfl)
theorem dX7_areThrees_51 : decode cX7_areThrees 51 = .ok (.ifCond .eq 49, 3) := dk_153 0 49 (dk_at dksX7_areThrees_2 4 rfl rfl)
theorem dX7_areThrees_54 : decode cX7_areThrees 54 = .ok (.aload_n 0, 1) := dk_42 (dk_at dksX7_areThrees_2 7 rfl rfl)
theorem dX7_areThrees_55 : decode cX7_areThrees 55 = .ok (.aload_n 0, 1) := dk_42 (dk_at dksX7_areThrees_2 8 rfl rfl)
theorem dX7_areThrees_56 : decode cX7_areThrees 56 = .ok (.getfield 87, 3) := dk_180 0 87 (dk_at dksX7_areThrees_2 9 rfl rfl)
theorem dX7_areThrees_59 : decode cX7_areThrees 59 = .ok (.bipush 40, 2) := dk_16 40 (dk_at dksX7_areThrees_2 12 rfl rfl)
theorem dX7_areThrees_61 : decode cX7_areThrees 61 = .ok (.iload_n 1, 1) := dk_27 (dk_at dksX7_areThrees_2 14 rfl rfl)
theorem dX7_areThrees_62 : decode cX7_areThrees 62 = .ok (.imul, 1) := dk_104 (dk_at dksX7_areThrees_2 15 rfl rfl)
theorem dX7_areThrees_63 : decode cX7_areThrees 63 = .ok (.iload_n 3, 1) := dk_29 (dk_at dksX7_areThrees_2 16 rfl rfl)
theorem dX7_areThrees_64 : decode cX7_areThrees 64 = .ok (.iadd, 1) := dk_96 (dk_at dksX7_areThrees_2 17 rfl rfl)
theorem dX7_areThrees_65 : decode cX7_areThrees 65 = .ok (.iconst 1, 1) := dk_4 (dk_at dksX7_areThrees_2 18 rfl rfl)
theorem dX7_areThrees_66 : decode cX7_areThrees 66 = .ok (.iadd, 1) := dk_96 (dk_at dksX7_areThrees_2 19 rfl rfl)
theorem dX7_areThrees_67 : decode cX7_areThrees 67 = .ok (.laload, 1) := dk_47 (dk_at dksX7_areThrees_2 20 rfl rfl)
theorem dX7_areThrees_68 : decode cX7_areThrees 68 = .ok (.l2i, 1) := dk_136 (dk_at dksX7_areThrees_2 21 rfl rfl)
theorem dX7_areThrees_69 : decode cX7_areThrees 69 = .ok (.invokevirtual 116, 3) := dk_182 0 116 (dk_at dksX7_areThrees_3 0 rfl rfl)
theorem dX7_areThrees_72 : decode cX7_areThrees 72 = .ok (.ifCond .eq 28, 3) := dk_153 0 28 (dk_at dksX7_areThrees_3 3 rfl rfl)
theorem dX7_areThrees_75 : decode cX7_areThrees 75 = .ok (.aload_n 0, 1) := dk_42 (dk_at dksX7_areThrees_3 6 rfl rfl)
theorem dX7_areThrees_76 : decode cX7_areThrees 76 = .ok (.getfield 87, 3) := dk_180 0 87 (dk_at dksX7_areThrees_3 7 rfl rfl)
theorem dX7_areThrees_79 : decode cX7_areThrees 79 = .ok (.bipush 40, 2) := dk_16 40 (dk_at dksX7_areThrees_3 10 rfl rfl)
theorem dX7_areThrees_81 : decode cX7_areThrees 81 = .ok (.iload_n 1, 1) := dk_27 (dk_at dksX7_areThrees_3 12 rfl rfl)
theorem dX7_areThrees_82 : decode cX7_areThrees 82 = .ok (.imul, 1) := dk_104 (dk_at dksX7_areThrees_3 13 rfl rfl)
theorem dX7_areThrees_83 : decode cX7_areThrees 83 = .ok (.iload_n 3, 1) := dk_29 (dk_at dksX7_areThrees_3 14 rfl rfl)
theorem dX7_areThrees_84 : decode cX7_areThrees 84 = .ok (.iadd, 1) := dk_96 (dk_at dksX7_areThrees_3 15 rfl rfl)
theorem dX7_areThrees_85 : decode cX7_areThrees 85 = .ok (.iconst 2, 1) := dk_5 (dk_at dksX7_areThrees_3 16 rfl rfl)
theorem dX7_areThrees_86 : decode cX7_areThrees 86 = .ok (.iadd, 1) := dk_96 (dk_at dksX7_areThrees_3 17 rfl rfl)
theorem dX7_areThrees_87 : decode cX7_areThrees 87 = .ok (.laload, 1) := dk_47 (dk_at dksX7_areThrees_3 18 rfl rfl)
theorem dX7_areThrees_88 : decode cX7_areThrees 88 = .ok (.lconst 0, 1) := dk_9 (dk_at dksX7_areThrees_3 19 rfl rfl)
theorem dX7_areThrees_89 : decode cX7_areThrees 89 = .ok (.lconst 1, 1) := dk_10 (dk_at dksX7_areThrees_3 20 rfl rfl)
theorem dX7_areThrees_90 : decode cX7_areThrees 90 = .ok (.invokestatic 133, 3) := dk_184 0 133 (dk_at dksX7_areThrees_3 21 rfl rfl)
theorem dX7_areThrees_93 : decode cX7_areThrees 93 = .ok (.ifCond .eq 7, 3) := dk_153 0 7 (dk_at dksX7_areThrees_4 0 rfl rfl)
theorem dX7_areThrees_96 : decode cX7_areThrees 96 = .ok (.iconst 1, 1) := dk_4 (dk_at dksX7_areThrees_4 3 rfl rfl)
theorem dX7_areThrees_97 : decode cX7_areThrees 97 = .ok (.goto 4, 3) := dk_167 0 4 (dk_at dksX7_areThrees_4 4 rfl rfl)
theorem dX7_areThrees_100 : decode cX7_areThrees 100 = .ok (.iconst 0, 1) := dk_3 (dk_at dksX7_areThrees_4 7 rfl rfl)
theorem dX7_areThrees_101 : decode cX7_areThrees 101 = .ok (.istore_n 2, 1) := dk_61 (dk_at dksX7_areThrees_4 8 rfl rfl)
theorem dX7_areThrees_102 : decode cX7_areThrees 102 = .ok (.iinc 3 3, 3) := dk_132 3 3 (dk_at dksX7_areThrees_4 9 rfl rfl)
theorem dX7_areThrees_105 : decode cX7_areThrees 105 = .ok (.goto (-86), 3) := dk_167 255 170 (dk_at dksX7_areThrees_4 12 rfl rfl)
theorem dX7_areThrees_108 : decode cX7_areThrees 108 = .ok (.iload_n 2, 1) := dk_28 (dk_at dksX7_areThrees_4 15 rfl rfl)
theorem dX7_areThrees_109 : decode cX7_areThrees 109 = .ok (.ireturn, 1) := dk_172 (dk_at dksX7_areThrees_4 16 rfl rfl)
abbrev cX7_fits : ByteArray := prog_32_method_94_code
def yX7_fits : MethodName := ⟨RX7, "fits", "(IJ)Z"⟩
def dkwX7_fits_4 : List UInt8 := [167, 255, 163, 4, 172]
abbrev dktX7_fits_4 : List UInt8 := dkwX7_fits_4 ++ []
def dkwX7_fits_3 : List UInt8 := [133, 42, 180, 0, 87, 16, 40, 27, 104, 21, 4, 96, 5, 96, 47, 148, 153, 0, 5, 3, 172, 132, 4, 3]
abbrev dktX7_fits_3 : List UInt8 := dkwX7_fits_3 ++ dktX7_fits_4
def dkwX7_fits_2 : List UInt8 := [96, 4, 96, 47, 136, 4, 32, 182, 1, 84, 54, 6, 21, 5, 21, 6, 160, 0, 7, 4, 167, 0, 4, 3]
abbrev dktX7_fits_2 : List UInt8 := dkwX7_fits_2 ++ dktX7_fits_3
def dkwX7_fits_1 : List UInt8 := [104, 21, 4, 96, 47, 136, 4, 32, 182, 1, 84, 54, 5, 42, 42, 180, 0, 87, 16, 40, 27, 104, 21, 4]
abbrev dktX7_fits_1 : List UInt8 := dkwX7_fits_1 ++ dktX7_fits_2
def dkwX7_fits_0 : List UInt8 := [3, 54, 4, 21, 4, 5, 96, 42, 180, 0, 84, 27, 46, 162, 0, 86, 42, 42, 180, 0, 87, 16, 40, 27]
abbrev dktX7_fits_0 : List UInt8 := dkwX7_fits_0 ++ dktX7_fits_1
theorem dksX7_fits_0 : cX7_fits.data.toList.drop 0 = dktX7_fits_0 := by decide +kernel
theorem dksX7_fits_1 : cX7_fits.data.toList.drop 24 = dktX7_fits_1 := dk_seg dksX7_fits_0 24 rfl rfl
theorem dksX7_fits_2 : cX7_fits.data.toList.drop 48 = dktX7_fits_2 := dk_seg dksX7_fits_1 24 rfl rfl
theorem dksX7_fits_3 : cX7_fits.data.toList.drop 72 = dktX7_fits_3 := dk_seg dksX7_fits_2 24 rfl rfl
theorem dksX7_fits_4 : cX7_fits.data.toList.drop 96 = dktX7_fits_4 := dk_seg dksX7_fits_3 24 rfl rfl
theorem dX7_fits_0 : decode cX7_fits 0 = .ok (.iconst 0, 1) := dk_3 (dk_at dksX7_fits_0 0 rfl rfl)
theorem dX7_fits_1 : decode cX7_fits 1 = .ok (.istore 4, 2) := dk_54 4 (dk_at dksX7_fits_0 1 rfl rfl)
theorem dX7_fits_3 : decode cX7_fits 3 = .ok (.iload 4, 2) := dk_21 4 (dk_at dksX7_fits_0 3 rfl rfl)
theorem dX7_fits_5 : decode cX7_fits 5 = .ok (.iconst 2, 1) := dk_5 (dk_at dksX7_fits_0 5 rfl rfl)
theorem dX7_fits_6 : decode cX7_fits 6 = .ok (.iadd, 1) := dk_96 (dk_at dksX7_fits_0 6 rfl rfl)
theorem dX7_fits_7 : decode cX7_fits 7 = .ok (.aload_n 0, 1) := dk_42 (dk_at dksX7_fits_0 7 rfl rfl)
theorem dX7_fits_8 : decode cX7_fits 8 = .ok (.getfield 84, 3) := dk_180 0 84 (dk_at dksX7_fits_0 8 rfl rfl)
theorem dX7_fits_11 : decode cX7_fits 11 = .ok (.iload_n 1, 1) := dk_27 (dk_at dksX7_fits_0 11 rfl rfl)
theorem dX7_fits_12 : decode cX7_fits 12 = .ok (.iaload, 1) := dk_46 (dk_at dksX7_fits_0 12 rfl rfl)
theorem dX7_fits_13 : decode cX7_fits 13 = .ok (.if_icmp .ge 86, 3) := dk_162 0 86 (dk_at dksX7_fits_0 13 rfl rfl)
theorem dX7_fits_16 : decode cX7_fits 16 = .ok (.aload_n 0, 1) := dk_42 (dk_at dksX7_fits_0 16 rfl rfl)
theorem dX7_fits_17 : decode cX7_fits 17 = .ok (.aload_n 0, 1) := dk_42 (dk_at dksX7_fits_0 17 rfl rfl)
theorem dX7_fits_18 : decode cX7_fits 18 = .ok (.getfield 87, 3) := dk_180 0 87 (dk_at dksX7_fits_0 18 rfl rfl)
theorem dX7_fits_21 : decode cX7_fits 21 = .ok (.bipush 40, 2) := dk_16 40 (dk_at dksX7_fits_0 21 rfl rfl)
theorem dX7_fits_23 : decode cX7_fits 23 = .ok (.iload_n 1, 1) := dk_27 (dk_at dksX7_fits_0 23 rfl rfl)
theorem dX7_fits_24 : decode cX7_fits 24 = .ok (.imul, 1) := dk_104 (dk_at dksX7_fits_1 0 rfl rfl)
theorem dX7_fits_25 : decode cX7_fits 25 = .ok (.iload 4, 2) := dk_21 4 (dk_at dksX7_fits_1 1 rfl rfl)
theorem dX7_fits_27 : decode cX7_fits 27 = .ok (.iadd, 1) := dk_96 (dk_at dksX7_fits_1 3 rfl rfl)
theorem dX7_fits_28 : decode cX7_fits 28 = .ok (.laload, 1) := dk_47 (dk_at dksX7_fits_1 4 rfl rfl)
theorem dX7_fits_29 : decode cX7_fits 29 = .ok (.l2i, 1) := dk_136 (dk_at dksX7_fits_1 5 rfl rfl)
theorem dX7_fits_30 : decode cX7_fits 30 = .ok (.iconst 1, 1) := dk_4 (dk_at dksX7_fits_1 6 rfl rfl)
theorem dX7_fits_31 : decode cX7_fits 31 = .ok (.lload_n 2, 1) := dk_32 (dk_at dksX7_fits_1 7 rfl rfl)
theorem dX7_fits_32 : decode cX7_fits 32 = .ok (.invokevirtual 340, 3) := dk_182 1 84 (dk_at dksX7_fits_1 8 rfl rfl)
theorem dX7_fits_35 : decode cX7_fits 35 = .ok (.istore 5, 2) := dk_54 5 (dk_at dksX7_fits_1 11 rfl rfl)
theorem dX7_fits_37 : decode cX7_fits 37 = .ok (.aload_n 0, 1) := dk_42 (dk_at dksX7_fits_1 13 rfl rfl)
theorem dX7_fits_38 : decode cX7_fits 38 = .ok (.aload_n 0, 1) := dk_42 (dk_at dksX7_fits_1 14 rfl rfl)
theorem dX7_fits_39 : decode cX7_fits 39 = .ok (.getfield 87, 3) := dk_180 0 87 (dk_at dksX7_fits_1 15 rfl rfl)
theorem dX7_fits_42 : decode cX7_fits 42 = .ok (.bipush 40, 2) := dk_16 40 (dk_at dksX7_fits_1 18 rfl rfl)
theorem dX7_fits_44 : decode cX7_fits 44 = .ok (.iload_n 1, 1) := dk_27 (dk_at dksX7_fits_1 20 rfl rfl)
theorem dX7_fits_45 : decode cX7_fits 45 = .ok (.imul, 1) := dk_104 (dk_at dksX7_fits_1 21 rfl rfl)
theorem dX7_fits_46 : decode cX7_fits 46 = .ok (.iload 4, 2) := dk_21 4 (dk_at dksX7_fits_1 22 rfl rfl)
theorem dX7_fits_48 : decode cX7_fits 48 = .ok (.iadd, 1) := dk_96 (dk_at dksX7_fits_2 0 rfl rfl)
theorem dX7_fits_49 : decode cX7_fits 49 = .ok (.iconst 1, 1) := dk_4 (dk_at dksX7_fits_2 1 rfl rfl)
theorem dX7_fits_50 : decode cX7_fits 50 = .ok (.iadd, 1) := dk_96 (dk_at dksX7_fits_2 2 rfl rfl)
theorem dX7_fits_51 : decode cX7_fits 51 = .ok (.laload, 1) := dk_47 (dk_at dksX7_fits_2 3 rfl rfl)
theorem dX7_fits_52 : decode cX7_fits 52 = .ok (.l2i, 1) := dk_136 (dk_at dksX7_fits_2 4 rfl rfl)
theorem dX7_fits_53 : decode cX7_fits 53 = .ok (.iconst 1, 1) := dk_4 (dk_at dksX7_fits_2 5 rfl rfl)
theorem dX7_fits_54 : decode cX7_fits 54 = .ok (.lload_n 2, 1) := dk_32 (dk_at dksX7_fits_2 6 rfl rfl)
theorem dX7_fits_55 : decode cX7_fits 55 = .ok (.invokevirtual 340, 3) := dk_182 1 84 (dk_at dksX7_fits_2 7 rfl rfl)
theorem dX7_fits_58 : decode cX7_fits 58 = .ok (.istore 6, 2) := dk_54 6 (dk_at dksX7_fits_2 10 rfl rfl)
theorem dX7_fits_60 : decode cX7_fits 60 = .ok (.iload 5, 2) := dk_21 5 (dk_at dksX7_fits_2 12 rfl rfl)
theorem dX7_fits_62 : decode cX7_fits 62 = .ok (.iload 6, 2) := dk_21 6 (dk_at dksX7_fits_2 14 rfl rfl)
theorem dX7_fits_64 : decode cX7_fits 64 = .ok (.if_icmp .ne 7, 3) := dk_160 0 7 (dk_at dksX7_fits_2 16 rfl rfl)
theorem dX7_fits_67 : decode cX7_fits 67 = .ok (.iconst 1, 1) := dk_4 (dk_at dksX7_fits_2 19 rfl rfl)
theorem dX7_fits_68 : decode cX7_fits 68 = .ok (.goto 4, 3) := dk_167 0 4 (dk_at dksX7_fits_2 20 rfl rfl)
theorem dX7_fits_71 : decode cX7_fits 71 = .ok (.iconst 0, 1) := dk_3 (dk_at dksX7_fits_2 23 rfl rfl)
theorem dX7_fits_72 : decode cX7_fits 72 = .ok (.i2l, 1) := dk_133 (dk_at dksX7_fits_3 0 rfl rfl)
theorem dX7_fits_73 : decode cX7_fits 73 = .ok (.aload_n 0, 1) := dk_42 (dk_at dksX7_fits_3 1 rfl rfl)
theorem dX7_fits_74 : decode cX7_fits 74 = .ok (.getfield 87, 3) := dk_180 0 87 (dk_at dksX7_fits_3 2 rfl rfl)
theorem dX7_fits_77 : decode cX7_fits 77 = .ok (.bipush 40, 2) := dk_16 40 (dk_at dksX7_fits_3 5 rfl rfl)
theorem dX7_fits_79 : decode cX7_fits 79 = .ok (.iload_n 1, 1) := dk_27 (dk_at dksX7_fits_3 7 rfl rfl)
theorem dX7_fits_80 : decode cX7_fits 80 = .ok (.imul, 1) := dk_104 (dk_at dksX7_fits_3 8 rfl rfl)
theorem dX7_fits_81 : decode cX7_fits 81 = .ok (.iload 4, 2) := dk_21 4 (dk_at dksX7_fits_3 9 rfl rfl)
theorem dX7_fits_83 : decode cX7_fits 83 = .ok (.iadd, 1) := dk_96 (dk_at dksX7_fits_3 11 rfl rfl)
theorem dX7_fits_84 : decode cX7_fits 84 = .ok (.iconst 2, 1) := dk_5 (dk_at dksX7_fits_3 12 rfl rfl)
theorem dX7_fits_85 : decode cX7_fits 85 = .ok (.iadd, 1) := dk_96 (dk_at dksX7_fits_3 13 rfl rfl)
theorem dX7_fits_86 : decode cX7_fits 86 = .ok (.laload, 1) := dk_47 (dk_at dksX7_fits_3 14 rfl rfl)
theorem dX7_fits_87 : decode cX7_fits 87 = .ok (.lcmp, 1) := dk_148 (dk_at dksX7_fits_3 15 rfl rfl)
theorem dX7_fits_88 : decode cX7_fits 88 = .ok (.ifCond .eq 5, 3) := dk_153 0 5 (dk_at dksX7_fits_3 16 rfl rfl)
theorem dX7_fits_91 : decode cX7_fits 91 = .ok (.iconst 0, 1) := dk_3 (dk_at dksX7_fits_3 19 rfl rfl)
theorem dX7_fits_92 : decode cX7_fits 92 = .ok (.ireturn, 1) := dk_172 (dk_at dksX7_fits_3 20 rfl rfl)
theorem dX7_fits_93 : decode cX7_fits 93 = .ok (.iinc 4 3, 3) := dk_132 4 3 (dk_at dksX7_fits_3 21 rfl rfl)
theorem dX7_fits_96 : decode cX7_fits 96 = .ok (.goto (-93), 3) := dk_167 255 163 (dk_at dksX7_fits_4 0 rfl rfl)
theorem dX7_fits_99 : decode cX7_fits 99 = .ok (.iconst 1, 1) := dk_4 (dk_at dksX7_fits_4 3 rfl rfl)
theorem dX7_fits_100 : decode cX7_fits 100 = .ok (.ireturn, 1) := dk_172 (dk_at dksX7_fits_4 4 rfl rfl)
abbrev cX7_seed : ByteArray := prog_32_method_96_code
def yX7_seed : MethodName := ⟨RX7, "seed", "(I)I"⟩
def dkwX7_seed_0 : List UInt8 := [42, 180, 0, 13, 61, 42, 27, 181, 0, 13, 28, 172]
abbrev dktX7_seed_0 : List UInt8 := dkwX7_seed_0 ++ []
theorem dksX7_seed_0 : cX7_seed.data.toList.drop 0 = dktX7_seed_0 := by decide +kernel
theorem dX7_seed_0 : decode cX7_seed 0 = .ok (.aload_n 0, 1) := dk_42 (dk_at dksX7_seed_0 0 rfl rfl)
theorem dX7_seed_1 : decode cX7_seed 1 = .ok (.getfield 13, 3) := dk_180 0 13 (dk_at dksX7_seed_0 1 rfl rfl)
theorem dX7_seed_4 : decode cX7_seed 4 = .ok (.istore_n 2, 1) := dk_61 (dk_at dksX7_seed_0 4 rfl rfl)
theorem dX7_seed_5 : decode cX7_seed 5 = .ok (.aload_n 0, 1) := dk_42 (dk_at dksX7_seed_0 5 rfl rfl)
theorem dX7_seed_6 : decode cX7_seed 6 = .ok (.iload_n 1, 1) := dk_27 (dk_at dksX7_seed_0 6 rfl rfl)
theorem dX7_seed_7 : decode cX7_seed 7 = .ok (.putfield 13, 3) := dk_181 0 13 (dk_at dksX7_seed_0 7 rfl rfl)
theorem dX7_seed_10 : decode cX7_seed 10 = .ok (.iload_n 2, 1) := dk_28 (dk_at dksX7_seed_0 10 rfl rfl)
theorem dX7_seed_11 : decode cX7_seed 11 = .ok (.ireturn, 1) := dk_172 (dk_at dksX7_seed_0 11 rfl rfl)
abbrev cX7_drawn : ByteArray := prog_32_method_98_code
def yX7_drawn : MethodName := ⟨RX7, "drawn", "(I)I"⟩
def dkwX7_drawn_2 : List UInt8 := [28, 172]
abbrev dktX7_drawn_2 : List UInt8 := dkwX7_drawn_2 ++ []
def dkwX7_drawn_1 : List UInt8 := [42, 42, 182, 1, 134, 182, 1, 96, 153, 0, 7, 4, 167, 0, 4, 3, 96, 61, 132, 3, 1, 167, 255, 229]
abbrev dktX7_drawn_1 : List UInt8 := dkwX7_drawn_1 ++ dktX7_drawn_2
def dkwX7_drawn_0 : List UInt8 := [27, 133, 10, 20, 1, 132, 184, 0, 133, 154, 0, 5, 2, 172, 3, 61, 3, 62, 29, 27, 162, 0, 28, 28]
abbrev dktX7_drawn_0 : List UInt8 := dkwX7_drawn_0 ++ dktX7_drawn_1
theorem dksX7_drawn_0 : cX7_drawn.data.toList.drop 0 = dktX7_drawn_0 := by decide +kernel
theorem dksX7_drawn_1 : cX7_drawn.data.toList.drop 24 = dktX7_drawn_1 := dk_seg dksX7_drawn_0 24 rfl rfl
theorem dksX7_drawn_2 : cX7_drawn.data.toList.drop 48 = dktX7_drawn_2 := dk_seg dksX7_drawn_1 24 rfl rfl
theorem dX7_drawn_0 : decode cX7_drawn 0 = .ok (.iload_n 1, 1) := dk_27 (dk_at dksX7_drawn_0 0 rfl rfl)
theorem dX7_drawn_1 : decode cX7_drawn 1 = .ok (.i2l, 1) := dk_133 (dk_at dksX7_drawn_0 1 rfl rfl)
theorem dX7_drawn_2 : decode cX7_drawn 2 = .ok (.lconst 1, 1) := dk_10 (dk_at dksX7_drawn_0 2 rfl rfl)
theorem dX7_drawn_3 : decode cX7_drawn 3 = .ok (.ldc2_w 388, 3) := dk_20 1 132 (dk_at dksX7_drawn_0 3 rfl rfl)
theorem dX7_drawn_6 : decode cX7_drawn 6 = .ok (.invokestatic 133, 3) := dk_184 0 133 (dk_at dksX7_drawn_0 6 rfl rfl)
theorem dX7_drawn_9 : decode cX7_drawn 9 = .ok (.ifCond .ne 5, 3) := dk_154 0 5 (dk_at dksX7_drawn_0 9 rfl rfl)
theorem dX7_drawn_12 : decode cX7_drawn 12 = .ok (.iconst (-1), 1) := dk_2 (dk_at dksX7_drawn_0 12 rfl rfl)
theorem dX7_drawn_13 : decode cX7_drawn 13 = .ok (.ireturn, 1) := dk_172 (dk_at dksX7_drawn_0 13 rfl rfl)
theorem dX7_drawn_14 : decode cX7_drawn 14 = .ok (.iconst 0, 1) := dk_3 (dk_at dksX7_drawn_0 14 rfl rfl)
theorem dX7_drawn_15 : decode cX7_drawn 15 = .ok (.istore_n 2, 1) := dk_61 (dk_at dksX7_drawn_0 15 rfl rfl)
theorem dX7_drawn_16 : decode cX7_drawn 16 = .ok (.iconst 0, 1) := dk_3 (dk_at dksX7_drawn_0 16 rfl rfl)
theorem dX7_drawn_17 : decode cX7_drawn 17 = .ok (.istore_n 3, 1) := dk_62 (dk_at dksX7_drawn_0 17 rfl rfl)
theorem dX7_drawn_18 : decode cX7_drawn 18 = .ok (.iload_n 3, 1) := dk_29 (dk_at dksX7_drawn_0 18 rfl rfl)
theorem dX7_drawn_19 : decode cX7_drawn 19 = .ok (.iload_n 1, 1) := dk_27 (dk_at dksX7_drawn_0 19 rfl rfl)
theorem dX7_drawn_20 : decode cX7_drawn 20 = .ok (.if_icmp .ge 28, 3) := dk_162 0 28 (dk_at dksX7_drawn_0 20 rfl rfl)
theorem dX7_drawn_23 : decode cX7_drawn 23 = .ok (.iload_n 2, 1) := dk_28 (dk_at dksX7_drawn_0 23 rfl rfl)
theorem dX7_drawn_24 : decode cX7_drawn 24 = .ok (.aload_n 0, 1) := dk_42 (dk_at dksX7_drawn_1 0 rfl rfl)
theorem dX7_drawn_25 : decode cX7_drawn 25 = .ok (.aload_n 0, 1) := dk_42 (dk_at dksX7_drawn_1 1 rfl rfl)
theorem dX7_drawn_26 : decode cX7_drawn 26 = .ok (.invokevirtual 390, 3) := dk_182 1 134 (dk_at dksX7_drawn_1 2 rfl rfl)
theorem dX7_drawn_29 : decode cX7_drawn 29 = .ok (.invokevirtual 352, 3) := dk_182 1 96 (dk_at dksX7_drawn_1 5 rfl rfl)
theorem dX7_drawn_32 : decode cX7_drawn 32 = .ok (.ifCond .eq 7, 3) := dk_153 0 7 (dk_at dksX7_drawn_1 8 rfl rfl)
theorem dX7_drawn_35 : decode cX7_drawn 35 = .ok (.iconst 1, 1) := dk_4 (dk_at dksX7_drawn_1 11 rfl rfl)
theorem dX7_drawn_36 : decode cX7_drawn 36 = .ok (.goto 4, 3) := dk_167 0 4 (dk_at dksX7_drawn_1 12 rfl rfl)
theorem dX7_drawn_39 : decode cX7_drawn 39 = .ok (.iconst 0, 1) := dk_3 (dk_at dksX7_drawn_1 15 rfl rfl)
theorem dX7_drawn_40 : decode cX7_drawn 40 = .ok (.iadd, 1) := dk_96 (dk_at dksX7_drawn_1 16 rfl rfl)
theorem dX7_drawn_41 : decode cX7_drawn 41 = .ok (.istore_n 2, 1) := dk_61 (dk_at dksX7_drawn_1 17 rfl rfl)
theorem dX7_drawn_42 : decode cX7_drawn 42 = .ok (.iinc 3 1, 3) := dk_132 3 1 (dk_at dksX7_drawn_1 18 rfl rfl)
theorem dX7_drawn_45 : decode cX7_drawn 45 = .ok (.goto (-27), 3) := dk_167 255 229 (dk_at dksX7_drawn_1 21 rfl rfl)
theorem dX7_drawn_48 : decode cX7_drawn 48 = .ok (.iload_n 2, 1) := dk_28 (dk_at dksX7_drawn_2 0 rfl rfl)
theorem dX7_drawn_49 : decode cX7_drawn 49 = .ok (.ireturn, 1) := dk_172 (dk_at dksX7_drawn_2 1 rfl rfl)
abbrev cX7_rowByLot : ByteArray := prog_32_method_97_code
def yX7_rowByLot : MethodName := ⟨RX7, "rowByLot", "()I"⟩
def dkwX7_rowByLot_4 : List UInt8 := [167, 255, 177, 27, 172]
abbrev dktX7_rowByLot_4 : List UInt8 := dkwX7_rowByLot_4 ++ []
def dkwX7_rowByLot_3 : List UInt8 := [100, 46, 42, 180, 0, 44, 42, 180, 0, 7, 4, 100, 29, 100, 46, 100, 104, 96, 60, 132, 2, 255]
abbrev dktX7_rowByLot_3 : List UInt8 := dkwX7_rowByLot_3 ++ dktX7_rowByLot_4
def dkwX7_rowByLot_2 : List UInt8 := [42, 27, 29, 182, 0, 112, 42, 27, 28, 182, 0, 112, 100, 42, 180, 0, 44, 42, 180, 0, 7, 4, 100, 28]
abbrev dktX7_rowByLot_2 : List UInt8 := dkwX7_rowByLot_2 ++ dktX7_rowByLot_3
def dkwX7_rowByLot_1 : List UInt8 := [19, 1, 131, 104, 17, 48, 57, 96, 181, 0, 13, 42, 180, 0, 13, 16, 16, 124, 28, 4, 96, 112, 62, 27]
abbrev dktX7_rowByLot_1 : List UInt8 := dkwX7_rowByLot_1 ++ dktX7_rowByLot_2
def dkwX7_rowByLot_0 : List UInt8 := [42, 3, 182, 0, 124, 60, 42, 180, 0, 7, 4, 100, 61, 28, 158, 0, 81, 42, 42, 180, 0, 13]
abbrev dktX7_rowByLot_0 : List UInt8 := dkwX7_rowByLot_0 ++ dktX7_rowByLot_1
theorem dksX7_rowByLot_0 : cX7_rowByLot.data.toList.drop 0 = dktX7_rowByLot_0 := by decide +kernel
theorem dksX7_rowByLot_1 : cX7_rowByLot.data.toList.drop 22 = dktX7_rowByLot_1 := dk_seg dksX7_rowByLot_0 22 rfl rfl
theorem dksX7_rowByLot_2 : cX7_rowByLot.data.toList.drop 46 = dktX7_rowByLot_2 := dk_seg dksX7_rowByLot_1 24 rfl rfl
theorem dksX7_rowByLot_3 : cX7_rowByLot.data.toList.drop 70 = dktX7_rowByLot_3 := dk_seg dksX7_rowByLot_2 24 rfl rfl
theorem dksX7_rowByLot_4 : cX7_rowByLot.data.toList.drop 92 = dktX7_rowByLot_4 := dk_seg dksX7_rowByLot_3 22 rfl rfl
theorem dX7_rowByLot_0 : decode cX7_rowByLot 0 = .ok (.aload_n 0, 1) := dk_42 (dk_at dksX7_rowByLot_0 0 rfl rfl)
theorem dX7_rowByLot_1 : decode cX7_rowByLot 1 = .ok (.iconst 0, 1) := dk_3 (dk_at dksX7_rowByLot_0 1 rfl rfl)
theorem dX7_rowByLot_2 : decode cX7_rowByLot 2 = .ok (.invokevirtual 124, 3) := dk_182 0 124 (dk_at dksX7_rowByLot_0 2 rfl rfl)
theorem dX7_rowByLot_5 : decode cX7_rowByLot 5 = .ok (.istore_n 1, 1) := dk_60 (dk_at dksX7_rowByLot_0 5 rfl rfl)
theorem dX7_rowByLot_6 : decode cX7_rowByLot 6 = .ok (.aload_n 0, 1) := dk_42 (dk_at dksX7_rowByLot_0 6 rfl rfl)
theorem dX7_rowByLot_7 : decode cX7_rowByLot 7 = .ok (.getfield 7, 3) := dk_180 0 7 (dk_at dksX7_rowByLot_0 7 rfl rfl)
theorem dX7_rowByLot_10 : decode cX7_rowByLot 10 = .ok (.iconst 1, 1) := dk_4 (dk_at dksX7_rowByLot_0 10 rfl rfl)
theorem dX7_rowByLot_11 : decode cX7_rowByLot 11 = .ok (.isub, 1) := dk_100 (dk_at dksX7_rowByLot_0 11 rfl rfl)
theorem dX7_rowByLot_12 : decode cX7_rowByLot 12 = .ok (.istore_n 2, 1) := dk_61 (dk_at dksX7_rowByLot_0 12 rfl rfl)
theorem dX7_rowByLot_13 : decode cX7_rowByLot 13 = .ok (.iload_n 2, 1) := dk_28 (dk_at dksX7_rowByLot_0 13 rfl rfl)
theorem dX7_rowByLot_14 : decode cX7_rowByLot 14 = .ok (.ifCond .le 81, 3) := dk_158 0 81 (dk_at dksX7_rowByLot_0 14 rfl rfl)
theorem dX7_rowByLot_17 : decode cX7_rowByLot 17 = .ok (.aload_n 0, 1) := dk_42 (dk_at dksX7_rowByLot_0 17 rfl rfl)
theorem dX7_rowByLot_18 : decode cX7_rowByLot 18 = .ok (.aload_n 0, 1) := dk_42 (dk_at dksX7_rowByLot_0 18 rfl rfl)
theorem dX7_rowByLot_19 : decode cX7_rowByLot 19 = .ok (.getfield 13, 3) := dk_180 0 13 (dk_at dksX7_rowByLot_0 19 rfl rfl)
theorem dX7_rowByLot_22 : decode cX7_rowByLot 22 = .ok (.ldc_w 387, 3) := dk_19 1 131 (dk_at dksX7_rowByLot_1 0 rfl rfl)
theorem dX7_rowByLot_25 : decode cX7_rowByLot 25 = .ok (.imul, 1) := dk_104 (dk_at dksX7_rowByLot_1 3 rfl rfl)
theorem dX7_rowByLot_26 : decode cX7_rowByLot 26 = .ok (.sipush 12345, 3) := dk_17 48 57 (dk_at dksX7_rowByLot_1 4 rfl rfl)
theorem dX7_rowByLot_29 : decode cX7_rowByLot 29 = .ok (.iadd, 1) := dk_96 (dk_at dksX7_rowByLot_1 7 rfl rfl)
theorem dX7_rowByLot_30 : decode cX7_rowByLot 30 = .ok (.putfield 13, 3) := dk_181 0 13 (dk_at dksX7_rowByLot_1 8 rfl rfl)
theorem dX7_rowByLot_33 : decode cX7_rowByLot 33 = .ok (.aload_n 0, 1) := dk_42 (dk_at dksX7_rowByLot_1 11 rfl rfl)
theorem dX7_rowByLot_34 : decode cX7_rowByLot 34 = .ok (.getfield 13, 3) := dk_180 0 13 (dk_at dksX7_rowByLot_1 12 rfl rfl)
theorem dX7_rowByLot_37 : decode cX7_rowByLot 37 = .ok (.bipush 16, 2) := dk_16 16 (dk_at dksX7_rowByLot_1 15 rfl rfl)
theorem dX7_rowByLot_39 : decode cX7_rowByLot 39 = .ok (.iushr, 1) := dk_124 (dk_at dksX7_rowByLot_1 17 rfl rfl)
theorem dX7_rowByLot_40 : decode cX7_rowByLot 40 = .ok (.iload_n 2, 1) := dk_28 (dk_at dksX7_rowByLot_1 18 rfl rfl)
theorem dX7_rowByLot_41 : decode cX7_rowByLot 41 = .ok (.iconst 1, 1) := dk_4 (dk_at dksX7_rowByLot_1 19 rfl rfl)
theorem dX7_rowByLot_42 : decode cX7_rowByLot 42 = .ok (.iadd, 1) := dk_96 (dk_at dksX7_rowByLot_1 20 rfl rfl)
theorem dX7_rowByLot_43 : decode cX7_rowByLot 43 = .ok (.irem, 1) := dk_112 (dk_at dksX7_rowByLot_1 21 rfl rfl)
theorem dX7_rowByLot_44 : decode cX7_rowByLot 44 = .ok (.istore_n 3, 1) := dk_62 (dk_at dksX7_rowByLot_1 22 rfl rfl)
theorem dX7_rowByLot_45 : decode cX7_rowByLot 45 = .ok (.iload_n 1, 1) := dk_27 (dk_at dksX7_rowByLot_1 23 rfl rfl)
theorem dX7_rowByLot_46 : decode cX7_rowByLot 46 = .ok (.aload_n 0, 1) := dk_42 (dk_at dksX7_rowByLot_2 0 rfl rfl)
theorem dX7_rowByLot_47 : decode cX7_rowByLot 47 = .ok (.iload_n 1, 1) := dk_27 (dk_at dksX7_rowByLot_2 1 rfl rfl)
theorem dX7_rowByLot_48 : decode cX7_rowByLot 48 = .ok (.iload_n 3, 1) := dk_29 (dk_at dksX7_rowByLot_2 2 rfl rfl)
theorem dX7_rowByLot_49 : decode cX7_rowByLot 49 = .ok (.invokevirtual 112, 3) := dk_182 0 112 (dk_at dksX7_rowByLot_2 3 rfl rfl)
theorem dX7_rowByLot_52 : decode cX7_rowByLot 52 = .ok (.aload_n 0, 1) := dk_42 (dk_at dksX7_rowByLot_2 6 rfl rfl)
theorem dX7_rowByLot_53 : decode cX7_rowByLot 53 = .ok (.iload_n 1, 1) := dk_27 (dk_at dksX7_rowByLot_2 7 rfl rfl)
theorem dX7_rowByLot_54 : decode cX7_rowByLot 54 = .ok (.iload_n 2, 1) := dk_28 (dk_at dksX7_rowByLot_2 8 rfl rfl)
theorem dX7_rowByLot_55 : decode cX7_rowByLot 55 = .ok (.invokevirtual 112, 3) := dk_182 0 112 (dk_at dksX7_rowByLot_2 9 rfl rfl)
theorem dX7_rowByLot_58 : decode cX7_rowByLot 58 = .ok (.isub, 1) := dk_100 (dk_at dksX7_rowByLot_2 12 rfl rfl)
theorem dX7_rowByLot_59 : decode cX7_rowByLot 59 = .ok (.aload_n 0, 1) := dk_42 (dk_at dksX7_rowByLot_2 13 rfl rfl)
theorem dX7_rowByLot_60 : decode cX7_rowByLot 60 = .ok (.getfield 44, 3) := dk_180 0 44 (dk_at dksX7_rowByLot_2 14 rfl rfl)
theorem dX7_rowByLot_63 : decode cX7_rowByLot 63 = .ok (.aload_n 0, 1) := dk_42 (dk_at dksX7_rowByLot_2 17 rfl rfl)
theorem dX7_rowByLot_64 : decode cX7_rowByLot 64 = .ok (.getfield 7, 3) := dk_180 0 7 (dk_at dksX7_rowByLot_2 18 rfl rfl)
theorem dX7_rowByLot_67 : decode cX7_rowByLot 67 = .ok (.iconst 1, 1) := dk_4 (dk_at dksX7_rowByLot_2 21 rfl rfl)
theorem dX7_rowByLot_68 : decode cX7_rowByLot 68 = .ok (.isub, 1) := dk_100 (dk_at dksX7_rowByLot_2 22 rfl rfl)
theorem dX7_rowByLot_69 : decode cX7_rowByLot 69 = .ok (.iload_n 2, 1) := dk_28 (dk_at dksX7_rowByLot_2 23 rfl rfl)
theorem dX7_rowByLot_70 : decode cX7_rowByLot 70 = .ok (.isub, 1) := dk_100 (dk_at dksX7_rowByLot_3 0 rfl rfl)
theorem dX7_rowByLot_71 : decode cX7_rowByLot 71 = .ok (.iaload, 1) := dk_46 (dk_at dksX7_rowByLot_3 1 rfl rfl)
theorem dX7_rowByLot_72 : decode cX7_rowByLot 72 = .ok (.aload_n 0, 1) := dk_42 (dk_at dksX7_rowByLot_3 2 rfl rfl)
theorem dX7_rowByLot_73 : decode cX7_rowByLot 73 = .ok (.getfield 44, 3) := dk_180 0 44 (dk_at dksX7_rowByLot_3 3 rfl rfl)
theorem dX7_rowByLot_76 : decode cX7_rowByLot 76 = .ok (.aload_n 0, 1) := dk_42 (dk_at dksX7_rowByLot_3 6 rfl rfl)
theorem dX7_rowByLot_77 : decode cX7_rowByLot 77 = .ok (.getfield 7, 3) := dk_180 0 7 (dk_at dksX7_rowByLot_3 7 rfl rfl)
theorem dX7_rowByLot_80 : decode cX7_rowByLot 80 = .ok (.iconst 1, 1) := dk_4 (dk_at dksX7_rowByLot_3 10 rfl rfl)
theorem dX7_rowByLot_81 : decode cX7_rowByLot 81 = .ok (.isub, 1) := dk_100 (dk_at dksX7_rowByLot_3 11 rfl rfl)
theorem dX7_rowByLot_82 : decode cX7_rowByLot 82 = .ok (.iload_n 3, 1) := dk_29 (dk_at dksX7_rowByLot_3 12 rfl rfl)
theorem dX7_rowByLot_83 : decode cX7_rowByLot 83 = .ok (.isub, 1) := dk_100 (dk_at dksX7_rowByLot_3 13 rfl rfl)
theorem dX7_rowByLot_84 : decode cX7_rowByLot 84 = .ok (.iaload, 1) := dk_46 (dk_at dksX7_rowByLot_3 14 rfl rfl)
theorem dX7_rowByLot_85 : decode cX7_rowByLot 85 = .ok (.isub, 1) := dk_100 (dk_at dksX7_rowByLot_3 15 rfl rfl)
theorem dX7_rowByLot_86 : decode cX7_rowByLot 86 = .ok (.imul, 1) := dk_104 (dk_at dksX7_rowByLot_3 16 rfl rfl)
theorem dX7_rowByLot_87 : decode cX7_rowByLot 87 = .ok (.iadd, 1) := dk_96 (dk_at dksX7_rowByLot_3 17 rfl rfl)
theorem dX7_rowByLot_88 : decode cX7_rowByLot 88 = .ok (.istore_n 1, 1) := dk_60 (dk_at dksX7_rowByLot_3 18 rfl rfl)
theorem dX7_rowByLot_89 : decode cX7_rowByLot 89 = .ok (.iinc 2 (-1), 3) := dk_132 2 255 (dk_at dksX7_rowByLot_3 19 rfl rfl)
theorem dX7_rowByLot_92 : decode cX7_rowByLot 92 = .ok (.goto (-79), 3) := dk_167 255 177 (dk_at dksX7_rowByLot_4 0 rfl rfl)
theorem dX7_rowByLot_95 : decode cX7_rowByLot 95 = .ok (.iload_n 1, 1) := dk_27 (dk_at dksX7_rowByLot_4 3 rfl rfl)
theorem dX7_rowByLot_96 : decode cX7_rowByLot 96 = .ok (.ireturn, 1) := dk_172 (dk_at dksX7_rowByLot_4 4 rfl rfl)
abbrev cX7_prove : ByteArray := prog_32_method_99_code
def yX7_prove : MethodName := ⟨RX7, "prove", "(I)I"⟩
def dkwX7_prove_4 : List UInt8 := [180, 1, 137, 172]
abbrev dktX7_prove_4 : List UInt8 := dkwX7_prove_4 ++ []
def dkwX7_prove_3 : List UInt8 := [89, 180, 1, 137, 4, 96, 181, 1, 137, 42, 28, 4, 42, 180, 0, 137, 182, 1, 80, 62, 167, 255, 193, 42]
abbrev dktX7_prove_3 : List UInt8 := dkwX7_prove_3 ++ dktX7_prove_4
def dkwX7_prove_2 : List UInt8 := [182, 0, 187, 79, 42, 28, 29, 182, 0, 171, 61, 42, 180, 0, 78, 5, 42, 180, 1, 137, 104, 28, 79, 42]
abbrev dktX7_prove_2 : List UInt8 := dkwX7_prove_2 ++ dktX7_prove_3
def dkwX7_prove_1 : List UInt8 := [182, 1, 80, 62, 29, 155, 0, 65, 42, 180, 0, 78, 5, 42, 180, 1, 137, 104, 4, 96, 42, 28, 29]
abbrev dktX7_prove_1 : List UInt8 := dkwX7_prove_1 ++ dktX7_prove_2
def dkwX7_prove_0 : List UInt8 := [42, 27, 182, 0, 116, 154, 0, 5, 2, 172, 27, 61, 42, 3, 181, 1, 137, 42, 28, 4, 42, 180, 0, 137]
abbrev dktX7_prove_0 : List UInt8 := dkwX7_prove_0 ++ dktX7_prove_1
theorem dksX7_prove_0 : cX7_prove.data.toList.drop 0 = dktX7_prove_0 := by decide +kernel
theorem dksX7_prove_1 : cX7_prove.data.toList.drop 24 = dktX7_prove_1 := dk_seg dksX7_prove_0 24 rfl rfl
theorem dksX7_prove_2 : cX7_prove.data.toList.drop 47 = dktX7_prove_2 := dk_seg dksX7_prove_1 23 rfl rfl
theorem dksX7_prove_3 : cX7_prove.data.toList.drop 71 = dktX7_prove_3 := dk_seg dksX7_prove_2 24 rfl rfl
theorem dksX7_prove_4 : cX7_prove.data.toList.drop 95 = dktX7_prove_4 := dk_seg dksX7_prove_3 24 rfl rfl
theorem dX7_prove_0 : decode cX7_prove 0 = .ok (.aload_n 0, 1) := dk_42 (dk_at dksX7_prove_0 0 rfl rfl)
theorem dX7_prove_1 : decode cX7_prove 1 = .ok (.iload_n 1, 1) := dk_27 (dk_at dksX7_prove_0 1 rfl rfl)
theorem dX7_prove_2 : decode cX7_prove 2 = .ok (.invokevirtual 116, 3) := dk_182 0 116 (dk_at dksX7_prove_0 2 rfl rfl)
theorem dX7_prove_5 : decode cX7_prove 5 = .ok (.ifCond .ne 5, 3) := dk_154 0 5 (dk_at dksX7_prove_0 5 rfl rfl)
theorem dX7_prove_8 : decode cX7_prove 8 = .ok (.iconst (-1), 1) := dk_2 (dk_at dksX7_prove_0 8 rfl rfl)
theorem dX7_prove_9 : decode cX7_prove 9 = .ok (.ireturn, 1) := dk_172 (dk_at dksX7_prove_0 9 rfl rfl)
theorem dX7_prove_10 : decode cX7_prove 10 = .ok (.iload_n 1, 1) := dk_27 (dk_at dksX7_prove_0 10 rfl rfl)
theorem dX7_prove_11 : decode cX7_prove 11 = .ok (.istore_n 2, 1) := dk_61 (dk_at dksX7_prove_0 11 rfl rfl)
theorem dX7_prove_12 : decode cX7_prove 12 = .ok (.aload_n 0, 1) := dk_42 (dk_at dksX7_prove_0 12 rfl rfl)
theorem dX7_prove_13 : decode cX7_prove 13 = .ok (.iconst 0, 1) := dk_3 (dk_at dksX7_prove_0 13 rfl rfl)
theorem dX7_prove_14 : decode cX7_prove 14 = .ok (.putfield 393, 3) := dk_181 1 137 (dk_at dksX7_prove_0 14 rfl rfl)
theorem dX7_prove_17 : decode cX7_prove 17 = .ok (.aload_n 0, 1) := dk_42 (dk_at dksX7_prove_0 17 rfl rfl)
theorem dX7_prove_18 : decode cX7_prove 18 = .ok (.iload_n 2, 1) := dk_28 (dk_at dksX7_prove_0 18 rfl rfl)
theorem dX7_prove_19 : decode cX7_prove 19 = .ok (.iconst 1, 1) := dk_4 (dk_at dksX7_prove_0 19 rfl rfl)
theorem dX7_prove_20 : decode cX7_prove 20 = .ok (.aload_n 0, 1) := dk_42 (dk_at dksX7_prove_0 20 rfl rfl)
theorem dX7_prove_21 : decode cX7_prove 21 = .ok (.getfield 137, 3) := dk_180 0 137 (dk_at dksX7_prove_0 21 rfl rfl)
theorem dX7_prove_24 : decode cX7_prove 24 = .ok (.invokevirtual 336, 3) := dk_182 1 80 (dk_at dksX7_prove_1 0 rfl rfl)
theorem dX7_prove_27 : decode cX7_prove 27 = .ok (.istore_n 3, 1) := dk_62 (dk_at dksX7_prove_1 3 rfl rfl)
theorem dX7_prove_28 : decode cX7_prove 28 = .ok (.iload_n 3, 1) := dk_29 (dk_at dksX7_prove_1 4 rfl rfl)
theorem dX7_prove_29 : decode cX7_prove 29 = .ok (.ifCond .lt 65, 3) := dk_155 0 65 (dk_at dksX7_prove_1 5 rfl rfl)
theorem dX7_prove_32 : decode cX7_prove 32 = .ok (.aload_n 0, 1) := dk_42 (dk_at dksX7_prove_1 8 rfl rfl)
theorem dX7_prove_33 : decode cX7_prove 33 = .ok (.getfield 78, 3) := dk_180 0 78 (dk_at dksX7_prove_1 9 rfl rfl)
theorem dX7_prove_36 : decode cX7_prove 36 = .ok (.iconst 2, 1) := dk_5 (dk_at dksX7_prove_1 12 rfl rfl)
theorem dX7_prove_37 : decode cX7_prove 37 = .ok (.aload_n 0, 1) := dk_42 (dk_at dksX7_prove_1 13 rfl rfl)
theorem dX7_prove_38 : decode cX7_prove 38 = .ok (.getfield 393, 3) := dk_180 1 137 (dk_at dksX7_prove_1 14 rfl rfl)
theorem dX7_prove_41 : decode cX7_prove 41 = .ok (.imul, 1) := dk_104 (dk_at dksX7_prove_1 17 rfl rfl)
theorem dX7_prove_42 : decode cX7_prove 42 = .ok (.iconst 1, 1) := dk_4 (dk_at dksX7_prove_1 18 rfl rfl)
theorem dX7_prove_43 : decode cX7_prove 43 = .ok (.iadd, 1) := dk_96 (dk_at dksX7_prove_1 19 rfl rfl)
theorem dX7_prove_44 : decode cX7_prove 44 = .ok (.aload_n 0, 1) := dk_42 (dk_at dksX7_prove_1 20 rfl rfl)
theorem dX7_prove_45 : decode cX7_prove 45 = .ok (.iload_n 2, 1) := dk_28 (dk_at dksX7_prove_1 21 rfl rfl)
theorem dX7_prove_46 : decode cX7_prove 46 = .ok (.iload_n 3, 1) := dk_29 (dk_at dksX7_prove_1 22 rfl rfl)
theorem dX7_prove_47 : decode cX7_prove 47 = .ok (.invokevirtual 187, 3) := dk_182 0 187 (dk_at dksX7_prove_2 0 rfl rfl)
theorem dX7_prove_50 : decode cX7_prove 50 = .ok (.iastore, 1) := dk_79 (dk_at dksX7_prove_2 3 rfl rfl)
theorem dX7_prove_51 : decode cX7_prove 51 = .ok (.aload_n 0, 1) := dk_42 (dk_at dksX7_prove_2 4 rfl rfl)
theorem dX7_prove_52 : decode cX7_prove 52 = .ok (.iload_n 2, 1) := dk_28 (dk_at dksX7_prove_2 5 rfl rfl)
theorem dX7_prove_53 : decode cX7_prove 53 = .ok (.iload_n 3, 1) := dk_29 (dk_at dksX7_prove_2 6 rfl rfl)
theorem dX7_prove_54 : decode cX7_prove 54 = .ok (.invokevirtual 171, 3) := dk_182 0 171 (dk_at dksX7_prove_2 7 rfl rfl)
theorem dX7_prove_57 : decode cX7_prove 57 = .ok (.istore_n 2, 1) := dk_61 (dk_at dksX7_prove_2 10 rfl rfl)
theorem dX7_prove_58 : decode cX7_prove 58 = .ok (.aload_n 0, 1) := dk_42 (dk_at dksX7_prove_2 11 rfl rfl)
theorem dX7_prove_59 : decode cX7_prove 59 = .ok (.getfield 78, 3) := dk_180 0 78 (dk_at dksX7_prove_2 12 rfl rfl)
theorem dX7_prove_62 : decode cX7_prove 62 = .ok (.iconst 2, 1) := dk_5 (dk_at dksX7_prove_2 15 rfl rfl)
theorem dX7_prove_63 : decode cX7_prove 63 = .ok (.aload_n 0, 1) := dk_42 (dk_at dksX7_prove_2 16 rfl rfl)
theorem dX7_prove_64 : decode cX7_prove 64 = .ok (.getfield 393, 3) := dk_180 1 137 (dk_at dksX7_prove_2 17 rfl rfl)
theorem dX7_prove_67 : decode cX7_prove 67 = .ok (.imul, 1) := dk_104 (dk_at dksX7_prove_2 20 rfl rfl)
theorem dX7_prove_68 : decode cX7_prove 68 = .ok (.iload_n 2, 1) := dk_28 (dk_at dksX7_prove_2 21 rfl rfl)
theorem dX7_prove_69 : decode cX7_prove 69 = .ok (.iastore, 1) := dk_79 (dk_at dksX7_prove_2 22 rfl rfl)
theorem dX7_prove_70 : decode cX7_prove 70 = .ok (.aload_n 0, 1) := dk_42 (dk_at dksX7_prove_2 23 rfl rfl)
theorem dX7_prove_71 : decode cX7_prove 71 = .ok (.dup, 1) := dk_89 (dk_at dksX7_prove_3 0 rfl rfl)
theorem dX7_prove_72 : decode cX7_prove 72 = .ok (.getfield 393, 3) := dk_180 1 137 (dk_at dksX7_prove_3 1 rfl rfl)
theorem dX7_prove_75 : decode cX7_prove 75 = .ok (.iconst 1, 1) := dk_4 (dk_at dksX7_prove_3 4 rfl rfl)
theorem dX7_prove_76 : decode cX7_prove 76 = .ok (.iadd, 1) := dk_96 (dk_at dksX7_prove_3 5 rfl rfl)
theorem dX7_prove_77 : decode cX7_prove 77 = .ok (.putfield 393, 3) := dk_181 1 137 (dk_at dksX7_prove_3 6 rfl rfl)
theorem dX7_prove_80 : decode cX7_prove 80 = .ok (.aload_n 0, 1) := dk_42 (dk_at dksX7_prove_3 9 rfl rfl)
theorem dX7_prove_81 : decode cX7_prove 81 = .ok (.iload_n 2, 1) := dk_28 (dk_at dksX7_prove_3 10 rfl rfl)
theorem dX7_prove_82 : decode cX7_prove 82 = .ok (.iconst 1, 1) := dk_4 (dk_at dksX7_prove_3 11 rfl rfl)
theorem dX7_prove_83 : decode cX7_prove 83 = .ok (.aload_n 0, 1) := dk_42 (dk_at dksX7_prove_3 12 rfl rfl)
theorem dX7_prove_84 : decode cX7_prove 84 = .ok (.getfield 137, 3) := dk_180 0 137 (dk_at dksX7_prove_3 13 rfl rfl)
theorem dX7_prove_87 : decode cX7_prove 87 = .ok (.invokevirtual 336, 3) := dk_182 1 80 (dk_at dksX7_prove_3 16 rfl rfl)
theorem dX7_prove_90 : decode cX7_prove 90 = .ok (.istore_n 3, 1) := dk_62 (dk_at dksX7_prove_3 19 rfl rfl)
theorem dX7_prove_91 : decode cX7_prove 91 = .ok (.goto (-63), 3) := dk_167 255 193 (dk_at dksX7_prove_3 20 rfl rfl)
theorem dX7_prove_94 : decode cX7_prove 94 = .ok (.aload_n 0, 1) := dk_42 (dk_at dksX7_prove_3 23 rfl rfl)
theorem dX7_prove_95 : decode cX7_prove 95 = .ok (.getfield 393, 3) := dk_180 1 137 (dk_at dksX7_prove_4 0 rfl rfl)
theorem dX7_prove_98 : decode cX7_prove 98 = .ok (.ireturn, 1) := dk_172 (dk_at dksX7_prove_4 3 rfl rfl)
abbrev cX7_step : ByteArray := prog_32_method_101_code
def yX7_step : MethodName := ⟨RX7, "step", "(II)I"⟩
def dkwX7_step_1 : List UInt8 := [172]
abbrev dktX7_step_1 : List UInt8 := dkwX7_step_1 ++ []
def dkwX7_step_0 : List UInt8 := [42, 27, 28, 182, 1, 140, 153, 0, 16, 42, 180, 0, 78, 5, 27, 104, 28, 96, 46, 167, 0, 5, 16, 247]
abbrev dktX7_step_0 : List UInt8 := dkwX7_step_0 ++ dktX7_step_1
theorem dksX7_step_0 : cX7_step.data.toList.drop 0 = dktX7_step_0 := by decide +kernel
theorem dksX7_step_1 : cX7_step.data.toList.drop 24 = dktX7_step_1 := dk_seg dksX7_step_0 24 rfl rfl
theorem dX7_step_0 : decode cX7_step 0 = .ok (.aload_n 0, 1) := dk_42 (dk_at dksX7_step_0 0 rfl rfl)
theorem dX7_step_1 : decode cX7_step 1 = .ok (.iload_n 1, 1) := dk_27 (dk_at dksX7_step_0 1 rfl rfl)
theorem dX7_step_2 : decode cX7_step 2 = .ok (.iload_n 2, 1) := dk_28 (dk_at dksX7_step_0 2 rfl rfl)
theorem dX7_step_3 : decode cX7_step 3 = .ok (.invokevirtual 396, 3) := dk_182 1 140 (dk_at dksX7_step_0 3 rfl rfl)
theorem dX7_step_6 : decode cX7_step 6 = .ok (.ifCond .eq 16, 3) := dk_153 0 16 (dk_at dksX7_step_0 6 rfl rfl)
theorem dX7_step_9 : decode cX7_step 9 = .ok (.aload_n 0, 1) := dk_42 (dk_at dksX7_step_0 9 rfl rfl)
theorem dX7_step_10 : decode cX7_step 10 = .ok (.getfield 78, 3) := dk_180 0 78 (dk_at dksX7_step_0 10 rfl rfl)
theorem dX7_step_13 : decode cX7_step 13 = .ok (.iconst 2, 1) := dk_5 (dk_at dksX7_step_0 13 rfl rfl)
theorem dX7_step_14 : decode cX7_step 14 = .ok (.iload_n 1, 1) := dk_27 (dk_at dksX7_step_0 14 rfl rfl)
theorem dX7_step_15 : decode cX7_step 15 = .ok (.imul, 1) := dk_104 (dk_at dksX7_step_0 15 rfl rfl)
theorem dX7_step_16 : decode cX7_step 16 = .ok (.iload_n 2, 1) := dk_28 (dk_at dksX7_step_0 16 rfl rfl)
theorem dX7_step_17 : decode cX7_step 17 = .ok (.iadd, 1) := dk_96 (dk_at dksX7_step_0 17 rfl rfl)
theorem dX7_step_18 : decode cX7_step 18 = .ok (.iaload, 1) := dk_46 (dk_at dksX7_step_0 18 rfl rfl)
theorem dX7_step_19 : decode cX7_step 19 = .ok (.goto 5, 3) := dk_167 0 5 (dk_at dksX7_step_0 19 rfl rfl)
theorem dX7_step_22 : decode cX7_step 22 = .ok (.bipush (-9), 2) := dk_16 247 (dk_at dksX7_step_0 22 rfl rfl)
theorem dX7_step_24 : decode cX7_step 24 = .ok (.ireturn, 1) := dk_172 (dk_at dksX7_step_1 0 rfl rfl)
abbrev cX7_isStep : ByteArray := prog_32_method_100_code
def yX7_isStep : MethodName := ⟨RX7, "isStep", "(II)Z"⟩
def dkwX7_isStep_1 : List UInt8 := [153, 0, 7, 4, 167, 0, 4, 3, 172]
abbrev dktX7_isStep_1 : List UInt8 := dkwX7_isStep_1 ++ []
def dkwX7_isStep_0 : List UInt8 := [27, 133, 9, 42, 180, 1, 137, 4, 100, 133, 184, 0, 133, 153, 0, 17, 28, 133, 9, 10, 184, 0, 133]
abbrev dktX7_isStep_0 : List UInt8 := dkwX7_isStep_0 ++ dktX7_isStep_1
theorem dksX7_isStep_0 : cX7_isStep.data.toList.drop 0 = dktX7_isStep_0 := by decide +kernel
theorem dksX7_isStep_1 : cX7_isStep.data.toList.drop 23 = dktX7_isStep_1 := dk_seg dksX7_isStep_0 23 rfl rfl
theorem dX7_isStep_0 : decode cX7_isStep 0 = .ok (.iload_n 1, 1) := dk_27 (dk_at dksX7_isStep_0 0 rfl rfl)
theorem dX7_isStep_1 : decode cX7_isStep 1 = .ok (.i2l, 1) := dk_133 (dk_at dksX7_isStep_0 1 rfl rfl)
theorem dX7_isStep_2 : decode cX7_isStep 2 = .ok (.lconst 0, 1) := dk_9 (dk_at dksX7_isStep_0 2 rfl rfl)
theorem dX7_isStep_3 : decode cX7_isStep 3 = .ok (.aload_n 0, 1) := dk_42 (dk_at dksX7_isStep_0 3 rfl rfl)
theorem dX7_isStep_4 : decode cX7_isStep 4 = .ok (.getfield 393, 3) := dk_180 1 137 (dk_at dksX7_isStep_0 4 rfl rfl)
theorem dX7_isStep_7 : decode cX7_isStep 7 = .ok (.iconst 1, 1) := dk_4 (dk_at dksX7_isStep_0 7 rfl rfl)
theorem dX7_isStep_8 : decode cX7_isStep 8 = .ok (.isub, 1) := dk_100 (dk_at dksX7_isStep_0 8 rfl rfl)
theorem dX7_isStep_9 : decode cX7_isStep 9 = .ok (.i2l, 1) := dk_133 (dk_at dksX7_isStep_0 9 rfl rfl)
theorem dX7_isStep_10 : decode cX7_isStep 10 = .ok (.invokestatic 133, 3) := dk_184 0 133 (dk_at dksX7_isStep_0 10 rfl rfl)
theorem dX7_isStep_13 : decode cX7_isStep 13 = .ok (.ifCond .eq 17, 3) := dk_153 0 17 (dk_at dksX7_isStep_0 13 rfl rfl)
theorem dX7_isStep_16 : decode cX7_isStep 16 = .ok (.iload_n 2, 1) := dk_28 (dk_at dksX7_isStep_0 16 rfl rfl)
theorem dX7_isStep_17 : decode cX7_isStep 17 = .ok (.i2l, 1) := dk_133 (dk_at dksX7_isStep_0 17 rfl rfl)
theorem dX7_isStep_18 : decode cX7_isStep 18 = .ok (.lconst 0, 1) := dk_9 (dk_at dksX7_isStep_0 18 rfl rfl)
theorem dX7_isStep_19 : decode cX7_isStep 19 = .ok (.lconst 1, 1) := dk_10 (dk_at dksX7_isStep_0 19 rfl rfl)
theorem dX7_isStep_20 : decode cX7_isStep 20 = .ok (.invokestatic 133, 3) := dk_184 0 133 (dk_at dksX7_isStep_0 20 rfl rfl)
theorem dX7_isStep_23 : decode cX7_isStep 23 = .ok (.ifCond .eq 7, 3) := dk_153 0 7 (dk_at dksX7_isStep_1 0 rfl rfl)
theorem dX7_isStep_26 : decode cX7_isStep 26 = .ok (.iconst 1, 1) := dk_4 (dk_at dksX7_isStep_1 3 rfl rfl)
theorem dX7_isStep_27 : decode cX7_isStep 27 = .ok (.goto 4, 3) := dk_167 0 4 (dk_at dksX7_isStep_1 4 rfl rfl)
theorem dX7_isStep_30 : decode cX7_isStep 30 = .ok (.iconst 0, 1) := dk_3 (dk_at dksX7_isStep_1 7 rfl rfl)
theorem dX7_isStep_31 : decode cX7_isStep 31 = .ok (.ireturn, 1) := dk_172 (dk_at dksX7_isStep_1 8 rfl rfl)
abbrev cX7_alterStep : ByteArray := prog_32_method_102_code
def yX7_alterStep : MethodName := ⟨RX7, "alterStep", "(III)I"⟩
def dkwX7_alterStep_1 : List UInt8 := [42, 180, 0, 78, 5, 27, 104, 28, 96, 29, 79, 21, 4, 172]
abbrev dktX7_alterStep_1 : List UInt8 := dkwX7_alterStep_1 ++ []
def dkwX7_alterStep_0 : List UInt8 := [42, 27, 28, 182, 1, 140, 154, 0, 6, 16, 247, 172, 42, 180, 0, 78, 5, 27, 104, 28, 96, 46, 54, 4]
abbrev dktX7_alterStep_0 : List UInt8 := dkwX7_alterStep_0 ++ dktX7_alterStep_1
theorem dksX7_alterStep_0 : cX7_alterStep.data.toList.drop 0 = dktX7_alterStep_0 := by decide +kernel
theorem dksX7_alterStep_1 : cX7_alterStep.data.toList.drop 24 = dktX7_alterStep_1 := dk_seg dksX7_alterStep_0 24 rfl rfl
theorem dX7_alterStep_0 : decode cX7_alterStep 0 = .ok (.aload_n 0, 1) := dk_42 (dk_at dksX7_alterStep_0 0 rfl rfl)
theorem dX7_alterStep_1 : decode cX7_alterStep 1 = .ok (.iload_n 1, 1) := dk_27 (dk_at dksX7_alterStep_0 1 rfl rfl)
theorem dX7_alterStep_2 : decode cX7_alterStep 2 = .ok (.iload_n 2, 1) := dk_28 (dk_at dksX7_alterStep_0 2 rfl rfl)
theorem dX7_alterStep_3 : decode cX7_alterStep 3 = .ok (.invokevirtual 396, 3) := dk_182 1 140 (dk_at dksX7_alterStep_0 3 rfl rfl)
theorem dX7_alterStep_6 : decode cX7_alterStep 6 = .ok (.ifCond .ne 6, 3) := dk_154 0 6 (dk_at dksX7_alterStep_0 6 rfl rfl)
theorem dX7_alterStep_9 : decode cX7_alterStep 9 = .ok (.bipush (-9), 2) := dk_16 247 (dk_at dksX7_alterStep_0 9 rfl rfl)
theorem dX7_alterStep_11 : decode cX7_alterStep 11 = .ok (.ireturn, 1) := dk_172 (dk_at dksX7_alterStep_0 11 rfl rfl)
theorem dX7_alterStep_12 : decode cX7_alterStep 12 = .ok (.aload_n 0, 1) := dk_42 (dk_at dksX7_alterStep_0 12 rfl rfl)
theorem dX7_alterStep_13 : decode cX7_alterStep 13 = .ok (.getfield 78, 3) := dk_180 0 78 (dk_at dksX7_alterStep_0 13 rfl rfl)
theorem dX7_alterStep_16 : decode cX7_alterStep 16 = .ok (.iconst 2, 1) := dk_5 (dk_at dksX7_alterStep_0 16 rfl rfl)
theorem dX7_alterStep_17 : decode cX7_alterStep 17 = .ok (.iload_n 1, 1) := dk_27 (dk_at dksX7_alterStep_0 17 rfl rfl)
theorem dX7_alterStep_18 : decode cX7_alterStep 18 = .ok (.imul, 1) := dk_104 (dk_at dksX7_alterStep_0 18 rfl rfl)
theorem dX7_alterStep_19 : decode cX7_alterStep 19 = .ok (.iload_n 2, 1) := dk_28 (dk_at dksX7_alterStep_0 19 rfl rfl)
theorem dX7_alterStep_20 : decode cX7_alterStep 20 = .ok (.iadd, 1) := dk_96 (dk_at dksX7_alterStep_0 20 rfl rfl)
theorem dX7_alterStep_21 : decode cX7_alterStep 21 = .ok (.iaload, 1) := dk_46 (dk_at dksX7_alterStep_0 21 rfl rfl)
theorem dX7_alterStep_22 : decode cX7_alterStep 22 = .ok (.istore 4, 2) := dk_54 4 (dk_at dksX7_alterStep_0 22 rfl rfl)
theorem dX7_alterStep_24 : decode cX7_alterStep 24 = .ok (.aload_n 0, 1) := dk_42 (dk_at dksX7_alterStep_1 0 rfl rfl)
theorem dX7_alterStep_25 : decode cX7_alterStep 25 = .ok (.getfield 78, 3) := dk_180 0 78 (dk_at dksX7_alterStep_1 1 rfl rfl)
theorem dX7_alterStep_28 : decode cX7_alterStep 28 = .ok (.iconst 2, 1) := dk_5 (dk_at dksX7_alterStep_1 4 rfl rfl)
theorem dX7_alterStep_29 : decode cX7_alterStep 29 = .ok (.iload_n 1, 1) := dk_27 (dk_at dksX7_alterStep_1 5 rfl rfl)
theorem dX7_alterStep_30 : decode cX7_alterStep 30 = .ok (.imul, 1) := dk_104 (dk_at dksX7_alterStep_1 6 rfl rfl)
theorem dX7_alterStep_31 : decode cX7_alterStep 31 = .ok (.iload_n 2, 1) := dk_28 (dk_at dksX7_alterStep_1 7 rfl rfl)
theorem dX7_alterStep_32 : decode cX7_alterStep 32 = .ok (.iadd, 1) := dk_96 (dk_at dksX7_alterStep_1 8 rfl rfl)
theorem dX7_alterStep_33 : decode cX7_alterStep 33 = .ok (.iload_n 3, 1) := dk_29 (dk_at dksX7_alterStep_1 9 rfl rfl)
theorem dX7_alterStep_34 : decode cX7_alterStep 34 = .ok (.iastore, 1) := dk_79 (dk_at dksX7_alterStep_1 10 rfl rfl)
theorem dX7_alterStep_35 : decode cX7_alterStep 35 = .ok (.iload 4, 2) := dk_21 4 (dk_at dksX7_alterStep_1 11 rfl rfl)
theorem dX7_alterStep_37 : decode cX7_alterStep 37 = .ok (.ireturn, 1) := dk_172 (dk_at dksX7_alterStep_1 13 rfl rfl)
abbrev cX7_judge : ByteArray := prog_32_method_104_code
def yX7_judge : MethodName := ⟨RX7, "judge", "(I)I"⟩
def dkwX7_judge_2 : List UInt8 := [167, 255, 223, 3, 172]
abbrev dktX7_judge_2 : List UInt8 := dkwX7_judge_2 ++ []
def dkwX7_judge_1 : List UInt8 := [29, 182, 1, 143, 154, 0, 7, 29, 4, 96, 172, 42, 180, 0, 78, 5, 29, 104, 46, 61, 132, 3, 1]
abbrev dktX7_judge_1 : List UInt8 := dkwX7_judge_1 ++ dktX7_judge_2
def dkwX7_judge_0 : List UInt8 := [42, 27, 182, 0, 116, 154, 0, 5, 2, 172, 27, 61, 3, 62, 29, 42, 180, 1, 137, 162, 0, 31, 42, 28]
abbrev dktX7_judge_0 : List UInt8 := dkwX7_judge_0 ++ dktX7_judge_1
theorem dksX7_judge_0 : cX7_judge.data.toList.drop 0 = dktX7_judge_0 := by decide +kernel
theorem dksX7_judge_1 : cX7_judge.data.toList.drop 24 = dktX7_judge_1 := dk_seg dksX7_judge_0 24 rfl rfl
theorem dksX7_judge_2 : cX7_judge.data.toList.drop 47 = dktX7_judge_2 := dk_seg dksX7_judge_1 23 rfl rfl
theorem dX7_judge_0 : decode cX7_judge 0 = .ok (.aload_n 0, 1) := dk_42 (dk_at dksX7_judge_0 0 rfl rfl)
theorem dX7_judge_1 : decode cX7_judge 1 = .ok (.iload_n 1, 1) := dk_27 (dk_at dksX7_judge_0 1 rfl rfl)
theorem dX7_judge_2 : decode cX7_judge 2 = .ok (.invokevirtual 116, 3) := dk_182 0 116 (dk_at dksX7_judge_0 2 rfl rfl)
theorem dX7_judge_5 : decode cX7_judge 5 = .ok (.ifCond .ne 5, 3) := dk_154 0 5 (dk_at dksX7_judge_0 5 rfl rfl)
theorem dX7_judge_8 : decode cX7_judge 8 = .ok (.iconst (-1), 1) := dk_2 (dk_at dksX7_judge_0 8 rfl rfl)
theorem dX7_judge_9 : decode cX7_judge 9 = .ok (.ireturn, 1) := dk_172 (dk_at dksX7_judge_0 9 rfl rfl)
theorem dX7_judge_10 : decode cX7_judge 10 = .ok (.iload_n 1, 1) := dk_27 (dk_at dksX7_judge_0 10 rfl rfl)
theorem dX7_judge_11 : decode cX7_judge 11 = .ok (.istore_n 2, 1) := dk_61 (dk_at dksX7_judge_0 11 rfl rfl)
theorem dX7_judge_12 : decode cX7_judge 12 = .ok (.iconst 0, 1) := dk_3 (dk_at dksX7_judge_0 12 rfl rfl)
theorem dX7_judge_13 : decode cX7_judge 13 = .ok (.istore_n 3, 1) := dk_62 (dk_at dksX7_judge_0 13 rfl rfl)
theorem dX7_judge_14 : decode cX7_judge 14 = .ok (.iload_n 3, 1) := dk_29 (dk_at dksX7_judge_0 14 rfl rfl)
theorem dX7_judge_15 : decode cX7_judge 15 = .ok (.aload_n 0, 1) := dk_42 (dk_at dksX7_judge_0 15 rfl rfl)
theorem dX7_judge_16 : decode cX7_judge 16 = .ok (.getfield 393, 3) := dk_180 1 137 (dk_at dksX7_judge_0 16 rfl rfl)
theorem dX7_judge_19 : decode cX7_judge 19 = .ok (.if_icmp .ge 31, 3) := dk_162 0 31 (dk_at dksX7_judge_0 19 rfl rfl)
theorem dX7_judge_22 : decode cX7_judge 22 = .ok (.aload_n 0, 1) := dk_42 (dk_at dksX7_judge_0 22 rfl rfl)
theorem dX7_judge_23 : decode cX7_judge 23 = .ok (.iload_n 2, 1) := dk_28 (dk_at dksX7_judge_0 23 rfl rfl)
theorem dX7_judge_24 : decode cX7_judge 24 = .ok (.iload_n 3, 1) := dk_29 (dk_at dksX7_judge_1 0 rfl rfl)
theorem dX7_judge_25 : decode cX7_judge 25 = .ok (.invokevirtual 399, 3) := dk_182 1 143 (dk_at dksX7_judge_1 1 rfl rfl)
theorem dX7_judge_28 : decode cX7_judge 28 = .ok (.ifCond .ne 7, 3) := dk_154 0 7 (dk_at dksX7_judge_1 4 rfl rfl)
theorem dX7_judge_31 : decode cX7_judge 31 = .ok (.iload_n 3, 1) := dk_29 (dk_at dksX7_judge_1 7 rfl rfl)
theorem dX7_judge_32 : decode cX7_judge 32 = .ok (.iconst 1, 1) := dk_4 (dk_at dksX7_judge_1 8 rfl rfl)
theorem dX7_judge_33 : decode cX7_judge 33 = .ok (.iadd, 1) := dk_96 (dk_at dksX7_judge_1 9 rfl rfl)
theorem dX7_judge_34 : decode cX7_judge 34 = .ok (.ireturn, 1) := dk_172 (dk_at dksX7_judge_1 10 rfl rfl)
theorem dX7_judge_35 : decode cX7_judge 35 = .ok (.aload_n 0, 1) := dk_42 (dk_at dksX7_judge_1 11 rfl rfl)
theorem dX7_judge_36 : decode cX7_judge 36 = .ok (.getfield 78, 3) := dk_180 0 78 (dk_at dksX7_judge_1 12 rfl rfl)
theorem dX7_judge_39 : decode cX7_judge 39 = .ok (.iconst 2, 1) := dk_5 (dk_at dksX7_judge_1 15 rfl rfl)
theorem dX7_judge_40 : decode cX7_judge 40 = .ok (.iload_n 3, 1) := dk_29 (dk_at dksX7_judge_1 16 rfl rfl)
theorem dX7_judge_41 : decode cX7_judge 41 = .ok (.imul, 1) := dk_104 (dk_at dksX7_judge_1 17 rfl rfl)
theorem dX7_judge_42 : decode cX7_judge 42 = .ok (.iaload, 1) := dk_46 (dk_at dksX7_judge_1 18 rfl rfl)
theorem dX7_judge_43 : decode cX7_judge 43 = .ok (.istore_n 2, 1) := dk_61 (dk_at dksX7_judge_1 19 rfl rfl)
theorem dX7_judge_44 : decode cX7_judge 44 = .ok (.iinc 3 1, 3) := dk_132 3 1 (dk_at dksX7_judge_1 20 rfl rfl)
theorem dX7_judge_47 : decode cX7_judge 47 = .ok (.goto (-33), 3) := dk_167 255 223 (dk_at dksX7_judge_2 0 rfl rfl)
theorem dX7_judge_50 : decode cX7_judge 50 = .ok (.iconst 0, 1) := dk_3 (dk_at dksX7_judge_2 3 rfl rfl)
theorem dX7_judge_51 : decode cX7_judge 51 = .ok (.ireturn, 1) := dk_172 (dk_at dksX7_judge_2 4 rfl rfl)
abbrev cX7_isRight : ByteArray := prog_32_method_103_code
def yX7_isRight : MethodName := ⟨RX7, "isRight", "(II)Z"⟩
def dkwX7_isRight_3 : List UInt8 := [153, 0, 5, 4, 172, 132, 3, 1, 167, 255, 180, 3, 172]
abbrev dktX7_isRight_3 : List UInt8 := dkwX7_isRight_3 ++ []
def dkwX7_isRight_2 : List UInt8 := [5, 28, 104, 4, 96, 46, 160, 0, 21, 42, 180, 0, 137, 42, 27, 29, 182, 0, 187, 184, 0, 108]
abbrev dktX7_isRight_2 : List UInt8 := dkwX7_isRight_2 ++ dktX7_isRight_3
def dkwX7_isRight_1 : List UInt8 := [182, 0, 171, 42, 180, 0, 78, 5, 28, 104, 46, 160, 0, 40, 42, 27, 29, 182, 0, 187, 42, 180, 0, 78]
abbrev dktX7_isRight_1 : List UInt8 := dkwX7_isRight_1 ++ dktX7_isRight_2
def dkwX7_isRight_0 : List UInt8 := [3, 62, 29, 42, 180, 0, 7, 4, 100, 162, 0, 72, 42, 27, 29, 182, 0, 154, 153, 0, 57, 42, 27, 29]
abbrev dktX7_isRight_0 : List UInt8 := dkwX7_isRight_0 ++ dktX7_isRight_1
theorem dksX7_isRight_0 : cX7_isRight.data.toList.drop 0 = dktX7_isRight_0 := by decide +kernel
theorem dksX7_isRight_1 : cX7_isRight.data.toList.drop 24 = dktX7_isRight_1 := dk_seg dksX7_isRight_0 24 rfl rfl
theorem dksX7_isRight_2 : cX7_isRight.data.toList.drop 48 = dktX7_isRight_2 := dk_seg dksX7_isRight_1 24 rfl rfl
theorem dksX7_isRight_3 : cX7_isRight.data.toList.drop 70 = dktX7_isRight_3 := dk_seg dksX7_isRight_2 22 rfl rfl
theorem dX7_isRight_0 : decode cX7_isRight 0 = .ok (.iconst 0, 1) := dk_3 (dk_at dksX7_isRight_0 0 rfl rfl)
theorem dX7_isRight_1 : decode cX7_isRight 1 = .ok (.istore_n 3, 1) := dk_62 (dk_at dksX7_isRight_0 1 rfl rfl)
theorem dX7_isRight_2 : decode cX7_isRight 2 = .ok (.iload_n 3, 1) := dk_29 (dk_at dksX7_isRight_0 2 rfl rfl)
theorem dX7_isRight_3 : decode cX7_isRight 3 = .ok (.aload_n 0, 1) := dk_42 (dk_at dksX7_isRight_0 3 rfl rfl)
theorem dX7_isRight_4 : decode cX7_isRight 4 = .ok (.getfield 7, 3) := dk_180 0 7 (dk_at dksX7_isRight_0 4 rfl rfl)
theorem dX7_isRight_7 : decode cX7_isRight 7 = .ok (.iconst 1, 1) := dk_4 (dk_at dksX7_isRight_0 7 rfl rfl)
theorem dX7_isRight_8 : decode cX7_isRight 8 = .ok (.isub, 1) := dk_100 (dk_at dksX7_isRight_0 8 rfl rfl)
theorem dX7_isRight_9 : decode cX7_isRight 9 = .ok (.if_icmp .ge 72, 3) := dk_162 0 72 (dk_at dksX7_isRight_0 9 rfl rfl)
theorem dX7_isRight_12 : decode cX7_isRight 12 = .ok (.aload_n 0, 1) := dk_42 (dk_at dksX7_isRight_0 12 rfl rfl)
theorem dX7_isRight_13 : decode cX7_isRight 13 = .ok (.iload_n 1, 1) := dk_27 (dk_at dksX7_isRight_0 13 rfl rfl)
theorem dX7_isRight_14 : decode cX7_isRight 14 = .ok (.iload_n 3, 1) := dk_29 (dk_at dksX7_isRight_0 14 rfl rfl)
theorem dX7_isRight_15 : decode cX7_isRight 15 = .ok (.invokevirtual 154, 3) := dk_182 0 154 (dk_at dksX7_isRight_0 15 rfl rfl)
theorem dX7_isRight_18 : decode cX7_isRight 18 = .ok (.ifCond .eq 57, 3) := dk_153 0 57 (dk_at dksX7_isRight_0 18 rfl rfl)
theorem dX7_isRight_21 : decode cX7_isRight 21 = .ok (.aload_n 0, 1) := dk_42 (dk_at dksX7_isRight_0 21 rfl rfl)
theorem dX7_isRight_22 : decode cX7_isRight 22 = .ok (.iload_n 1, 1) := dk_27 (dk_at dksX7_isRight_0 22 rfl rfl)
theorem dX7_isRight_23 : decode cX7_isRight 23 = .ok (.iload_n 3, 1) := dk_29 (dk_at dksX7_isRight_0 23 rfl rfl)
theorem dX7_isRight_24 : decode cX7_isRight 24 = .ok (.invokevirtual 171, 3) := dk_182 0 171 (dk_at dksX7_isRight_1 0 rfl rfl)
theorem dX7_isRight_27 : decode cX7_isRight 27 = .ok (.aload_n 0, 1) := dk_42 (dk_at dksX7_isRight_1 3 rfl rfl)
theorem dX7_isRight_28 : decode cX7_isRight 28 = .ok (.getfield 78, 3) := dk_180 0 78 (dk_at dksX7_isRight_1 4 rfl rfl)
theorem dX7_isRight_31 : decode cX7_isRight 31 = .ok (.iconst 2, 1) := dk_5 (dk_at dksX7_isRight_1 7 rfl rfl)
theorem dX7_isRight_32 : decode cX7_isRight 32 = .ok (.iload_n 2, 1) := dk_28 (dk_at dksX7_isRight_1 8 rfl rfl)
theorem dX7_isRight_33 : decode cX7_isRight 33 = .ok (.imul, 1) := dk_104 (dk_at dksX7_isRight_1 9 rfl rfl)
theorem dX7_isRight_34 : decode cX7_isRight 34 = .ok (.iaload, 1) := dk_46 (dk_at dksX7_isRight_1 10 rfl rfl)
theorem dX7_isRight_35 : decode cX7_isRight 35 = .ok (.if_icmp .ne 40, 3) := dk_160 0 40 (dk_at dksX7_isRight_1 11 rfl rfl)
theorem dX7_isRight_38 : decode cX7_isRight 38 = .ok (.aload_n 0, 1) := dk_42 (dk_at dksX7_isRight_1 14 rfl rfl)
theorem dX7_isRight_39 : decode cX7_isRight 39 = .ok (.iload_n 1, 1) := dk_27 (dk_at dksX7_isRight_1 15 rfl rfl)
theorem dX7_isRight_40 : decode cX7_isRight 40 = .ok (.iload_n 3, 1) := dk_29 (dk_at dksX7_isRight_1 16 rfl rfl)
theorem dX7_isRight_41 : decode cX7_isRight 41 = .ok (.invokevirtual 187, 3) := dk_182 0 187 (dk_at dksX7_isRight_1 17 rfl rfl)
theorem dX7_isRight_44 : decode cX7_isRight 44 = .ok (.aload_n 0, 1) := dk_42 (dk_at dksX7_isRight_1 20 rfl rfl)
theorem dX7_isRight_45 : decode cX7_isRight 45 = .ok (.getfield 78, 3) := dk_180 0 78 (dk_at dksX7_isRight_1 21 rfl rfl)
theorem dX7_isRight_48 : decode cX7_isRight 48 = .ok (.iconst 2, 1) := dk_5 (dk_at dksX7_isRight_2 0 rfl rfl)
theorem dX7_isRight_49 : decode cX7_isRight 49 = .ok (.iload_n 2, 1) := dk_28 (dk_at dksX7_isRight_2 1 rfl rfl)
theorem dX7_isRight_50 : decode cX7_isRight 50 = .ok (.imul, 1) := dk_104 (dk_at dksX7_isRight_2 2 rfl rfl)
theorem dX7_isRight_51 : decode cX7_isRight 51 = .ok (.iconst 1, 1) := dk_4 (dk_at dksX7_isRight_2 3 rfl rfl)
theorem dX7_isRight_52 : decode cX7_isRight 52 = .ok (.iadd, 1) := dk_96 (dk_at dksX7_isRight_2 4 rfl rfl)
theorem dX7_isRight_53 : decode cX7_isRight 53 = .ok (.iaload, 1) := dk_46 (dk_at dksX7_isRight_2 5 rfl rfl)
theorem dX7_isRight_54 : decode cX7_isRight 54 = .ok (.if_icmp .ne 21, 3) := dk_160 0 21 (dk_at dksX7_isRight_2 6 rfl rfl)
theorem dX7_isRight_57 : decode cX7_isRight 57 = .ok (.aload_n 0, 1) := dk_42 (dk_at dksX7_isRight_2 9 rfl rfl)
theorem dX7_isRight_58 : decode cX7_isRight 58 = .ok (.getfield 137, 3) := dk_180 0 137 (dk_at dksX7_isRight_2 10 rfl rfl)
theorem dX7_isRight_61 : decode cX7_isRight 61 = .ok (.aload_n 0, 1) := dk_42 (dk_at dksX7_isRight_2 13 rfl rfl)
theorem dX7_isRight_62 : decode cX7_isRight 62 = .ok (.iload_n 1, 1) := dk_27 (dk_at dksX7_isRight_2 14 rfl rfl)
theorem dX7_isRight_63 : decode cX7_isRight 63 = .ok (.iload_n 3, 1) := dk_29 (dk_at dksX7_isRight_2 15 rfl rfl)
theorem dX7_isRight_64 : decode cX7_isRight 64 = .ok (.invokevirtual 187, 3) := dk_182 0 187 (dk_at dksX7_isRight_2 16 rfl rfl)
theorem dX7_isRight_67 : decode cX7_isRight 67 = .ok (.invokestatic 108, 3) := dk_184 0 108 (dk_at dksX7_isRight_2 19 rfl rfl)
theorem dX7_isRight_70 : decode cX7_isRight 70 = .ok (.ifCond .eq 5, 3) := dk_153 0 5 (dk_at dksX7_isRight_3 0 rfl rfl)
theorem dX7_isRight_73 : decode cX7_isRight 73 = .ok (.iconst 1, 1) := dk_4 (dk_at dksX7_isRight_3 3 rfl rfl)
theorem dX7_isRight_74 : decode cX7_isRight 74 = .ok (.ireturn, 1) := dk_172 (dk_at dksX7_isRight_3 4 rfl rfl)
theorem dX7_isRight_75 : decode cX7_isRight 75 = .ok (.iinc 3 1, 3) := dk_132 3 1 (dk_at dksX7_isRight_3 5 rfl rfl)
theorem dX7_isRight_78 : decode cX7_isRight 78 = .ok (.goto (-76), 3) := dk_167 255 180 (dk_at dksX7_isRight_3 8 rfl rfl)
theorem dX7_isRight_81 : decode cX7_isRight 81 = .ok (.iconst 0, 1) := dk_3 (dk_at dksX7_isRight_3 11 rfl rfl)
theorem dX7_isRight_82 : decode cX7_isRight 82 = .ok (.ireturn, 1) := dk_172 (dk_at dksX7_isRight_3 12 rfl rfl)
abbrev cX7_sheet : ByteArray := prog_32_method_106_code
def yX7_sheet : MethodName := ⟨RX7, "sheet", "(III)I"⟩
def dkwX7_sheet_4 : List UInt8 := [167, 255, 233, 4, 172]
abbrev dktX7_sheet_4 : List UInt8 := dkwX7_sheet_4 ++ []
def dkwX7_sheet_3 : List UInt8 := [21, 4, 16, 40, 162, 0, 22, 42, 180, 0, 87, 16, 40, 27, 104, 21, 4, 96, 9, 80, 132, 4, 1]
abbrev dktX7_sheet_3 : List UInt8 := dkwX7_sheet_3 ++ dktX7_sheet_4
def dkwX7_sheet_2 : List UInt8 := [180, 0, 81, 27, 28, 79, 42, 180, 0, 84, 27, 28, 156, 0, 7, 3, 167, 0, 4, 29, 79, 3, 54, 4]
abbrev dktX7_sheet_2 : List UInt8 := dkwX7_sheet_2 ++ dktX7_sheet_3
def dkwX7_sheet_1 : List UInt8 := [155, 0, 11, 29, 16, 40, 164, 0, 5, 2, 172, 28, 155, 0, 10, 29, 156, 0, 6, 16, 242, 172, 42]
abbrev dktX7_sheet_1 : List UInt8 := dkwX7_sheet_1 ++ dktX7_sheet_2
def dkwX7_sheet_0 : List UInt8 := [27, 184, 1, 121, 153, 0, 27, 28, 133, 20, 0, 203, 20, 0, 157, 184, 0, 133, 153, 0, 13, 28]
abbrev dktX7_sheet_0 : List UInt8 := dkwX7_sheet_0 ++ dktX7_sheet_1
theorem dksX7_sheet_0 : cX7_sheet.data.toList.drop 0 = dktX7_sheet_0 := by decide +kernel
theorem dksX7_sheet_1 : cX7_sheet.data.toList.drop 22 = dktX7_sheet_1 := dk_seg dksX7_sheet_0 22 rfl rfl
theorem dksX7_sheet_2 : cX7_sheet.data.toList.drop 45 = dktX7_sheet_2 := dk_seg dksX7_sheet_1 23 rfl rfl
theorem dksX7_sheet_3 : cX7_sheet.data.toList.drop 69 = dktX7_sheet_3 := dk_seg dksX7_sheet_2 24 rfl rfl
theorem dksX7_sheet_4 : cX7_sheet.data.toList.drop 92 = dktX7_sheet_4 := dk_seg dksX7_sheet_3 23 rfl rfl
theorem dX7_sheet_0 : decode cX7_sheet 0 = .ok (.iload_n 1, 1) := dk_27 (dk_at dksX7_sheet_0 0 rfl rfl)
theorem dX7_sheet_1 : decode cX7_sheet 1 = .ok (.invokestatic 377, 3) := dk_184 1 121 (dk_at dksX7_sheet_0 1 rfl rfl)
theorem dX7_sheet_4 : decode cX7_sheet 4 = .ok (.ifCond .eq 27, 3) := dk_153 0 27 (dk_at dksX7_sheet_0 4 rfl rfl)
theorem dX7_sheet_7 : decode cX7_sheet 7 = .ok (.iload_n 2, 1) := dk_28 (dk_at dksX7_sheet_0 7 rfl rfl)
theorem dX7_sheet_8 : decode cX7_sheet 8 = .ok (.i2l, 1) := dk_133 (dk_at dksX7_sheet_0 8 rfl rfl)
theorem dX7_sheet_9 : decode cX7_sheet 9 = .ok (.ldc2_w 203, 3) := dk_20 0 203 (dk_at dksX7_sheet_0 9 rfl rfl)
theorem dX7_sheet_12 : decode cX7_sheet 12 = .ok (.ldc2_w 157, 3) := dk_20 0 157 (dk_at dksX7_sheet_0 12 rfl rfl)
theorem dX7_sheet_15 : decode cX7_sheet 15 = .ok (.invokestatic 133, 3) := dk_184 0 133 (dk_at dksX7_sheet_0 15 rfl rfl)
theorem dX7_sheet_18 : decode cX7_sheet 18 = .ok (.ifCond .eq 13, 3) := dk_153 0 13 (dk_at dksX7_sheet_0 18 rfl rfl)
theorem dX7_sheet_21 : decode cX7_sheet 21 = .ok (.iload_n 2, 1) := dk_28 (dk_at dksX7_sheet_0 21 rfl rfl)
theorem dX7_sheet_22 : decode cX7_sheet 22 = .ok (.ifCond .lt 11, 3) := dk_155 0 11 (dk_at dksX7_sheet_1 0 rfl rfl)
theorem dX7_sheet_25 : decode cX7_sheet 25 = .ok (.iload_n 3, 1) := dk_29 (dk_at dksX7_sheet_1 3 rfl rfl)
theorem dX7_sheet_26 : decode cX7_sheet 26 = .ok (.bipush 40, 2) := dk_16 40 (dk_at dksX7_sheet_1 4 rfl rfl)
theorem dX7_sheet_28 : decode cX7_sheet 28 = .ok (.if_icmp .le 5, 3) := dk_164 0 5 (dk_at dksX7_sheet_1 6 rfl rfl)
theorem dX7_sheet_31 : decode cX7_sheet 31 = .ok (.iconst (-1), 1) := dk_2 (dk_at dksX7_sheet_1 9 rfl rfl)
theorem dX7_sheet_32 : decode cX7_sheet 32 = .ok (.ireturn, 1) := dk_172 (dk_at dksX7_sheet_1 10 rfl rfl)
theorem dX7_sheet_33 : decode cX7_sheet 33 = .ok (.iload_n 2, 1) := dk_28 (dk_at dksX7_sheet_1 11 rfl rfl)
theorem dX7_sheet_34 : decode cX7_sheet 34 = .ok (.ifCond .lt 10, 3) := dk_155 0 10 (dk_at dksX7_sheet_1 12 rfl rfl)
theorem dX7_sheet_37 : decode cX7_sheet 37 = .ok (.iload_n 3, 1) := dk_29 (dk_at dksX7_sheet_1 15 rfl rfl)
theorem dX7_sheet_38 : decode cX7_sheet 38 = .ok (.ifCond .ge 6, 3) := dk_156 0 6 (dk_at dksX7_sheet_1 16 rfl rfl)
theorem dX7_sheet_41 : decode cX7_sheet 41 = .ok (.bipush (-14), 2) := dk_16 242 (dk_at dksX7_sheet_1 19 rfl rfl)
theorem dX7_sheet_43 : decode cX7_sheet 43 = .ok (.ireturn, 1) := dk_172 (dk_at dksX7_sheet_1 21 rfl rfl)
theorem dX7_sheet_44 : decode cX7_sheet 44 = .ok (.aload_n 0, 1) := dk_42 (dk_at dksX7_sheet_1 22 rfl rfl)
theorem dX7_sheet_45 : decode cX7_sheet 45 = .ok (.getfield 81, 3) := dk_180 0 81 (dk_at dksX7_sheet_2 0 rfl rfl)
theorem dX7_sheet_48 : decode cX7_sheet 48 = .ok (.iload_n 1, 1) := dk_27 (dk_at dksX7_sheet_2 3 rfl rfl)
theorem dX7_sheet_49 : decode cX7_sheet 49 = .ok (.iload_n 2, 1) := dk_28 (dk_at dksX7_sheet_2 4 rfl rfl)
theorem dX7_sheet_50 : decode cX7_sheet 50 = .ok (.iastore, 1) := dk_79 (dk_at dksX7_sheet_2 5 rfl rfl)
theorem dX7_sheet_51 : decode cX7_sheet 51 = .ok (.aload_n 0, 1) := dk_42 (dk_at dksX7_sheet_2 6 rfl rfl)
theorem dX7_sheet_52 : decode cX7_sheet 52 = .ok (.getfield 84, 3) := dk_180 0 84 (dk_at dksX7_sheet_2 7 rfl rfl)
theorem dX7_sheet_55 : decode cX7_sheet 55 = .ok (.iload_n 1, 1) := dk_27 (dk_at dksX7_sheet_2 10 rfl rfl)
theorem dX7_sheet_56 : decode cX7_sheet 56 = .ok (.iload_n 2, 1) := dk_28 (dk_at dksX7_sheet_2 11 rfl rfl)
theorem dX7_sheet_57 : decode cX7_sheet 57 = .ok (.ifCond .ge 7, 3) := dk_156 0 7 (dk_at dksX7_sheet_2 12 rfl rfl)
theorem dX7_sheet_60 : decode cX7_sheet 60 = .ok (.iconst 0, 1) := dk_3 (dk_at dksX7_sheet_2 15 rfl rfl)
theorem dX7_sheet_61 : decode cX7_sheet 61 = .ok (.goto 4, 3) := dk_167 0 4 (dk_at dksX7_sheet_2 16 rfl rfl)
theorem dX7_sheet_64 : decode cX7_sheet 64 = .ok (.iload_n 3, 1) := dk_29 (dk_at dksX7_sheet_2 19 rfl rfl)
theorem dX7_sheet_65 : decode cX7_sheet 65 = .ok (.iastore, 1) := dk_79 (dk_at dksX7_sheet_2 20 rfl rfl)
theorem dX7_sheet_66 : decode cX7_sheet 66 = .ok (.iconst 0, 1) := dk_3 (dk_at dksX7_sheet_2 21 rfl rfl)
theorem dX7_sheet_67 : decode cX7_sheet 67 = .ok (.istore 4, 2) := dk_54 4 (dk_at dksX7_sheet_2 22 rfl rfl)
theorem dX7_sheet_69 : decode cX7_sheet 69 = .ok (.iload 4, 2) := dk_21 4 (dk_at dksX7_sheet_3 0 rfl rfl)
theorem dX7_sheet_71 : decode cX7_sheet 71 = .ok (.bipush 40, 2) := dk_16 40 (dk_at dksX7_sheet_3 2 rfl rfl)
theorem dX7_sheet_73 : decode cX7_sheet 73 = .ok (.if_icmp .ge 22, 3) := dk_162 0 22 (dk_at dksX7_sheet_3 4 rfl rfl)
theorem dX7_sheet_76 : decode cX7_sheet 76 = .ok (.aload_n 0, 1) := dk_42 (dk_at dksX7_sheet_3 7 rfl rfl)
theorem dX7_sheet_77 : decode cX7_sheet 77 = .ok (.getfield 87, 3) := dk_180 0 87 (dk_at dksX7_sheet_3 8 rfl rfl)
theorem dX7_sheet_80 : decode cX7_sheet 80 = .ok (.bipush 40, 2) := dk_16 40 (dk_at dksX7_sheet_3 11 rfl rfl)
theorem dX7_sheet_82 : decode cX7_sheet 82 = .ok (.iload_n 1, 1) := dk_27 (dk_at dksX7_sheet_3 13 rfl rfl)
theorem dX7_sheet_83 : decode cX7_sheet 83 = .ok (.imul, 1) := dk_104 (dk_at dksX7_sheet_3 14 rfl rfl)
theorem dX7_sheet_84 : decode cX7_sheet 84 = .ok (.iload 4, 2) := dk_21 4 (dk_at dksX7_sheet_3 15 rfl rfl)
theorem dX7_sheet_86 : decode cX7_sheet 86 = .ok (.iadd, 1) := dk_96 (dk_at dksX7_sheet_3 17 rfl rfl)
theorem dX7_sheet_87 : decode cX7_sheet 87 = .ok (.lconst 0, 1) := dk_9 (dk_at dksX7_sheet_3 18 rfl rfl)
theorem dX7_sheet_88 : decode cX7_sheet 88 = .ok (.lastore, 1) := dk_80 (dk_at dksX7_sheet_3 19 rfl rfl)
theorem dX7_sheet_89 : decode cX7_sheet 89 = .ok (.iinc 4 1, 3) := dk_132 4 1 (dk_at dksX7_sheet_3 20 rfl rfl)
theorem dX7_sheet_92 : decode cX7_sheet 92 = .ok (.goto (-23), 3) := dk_167 255 233 (dk_at dksX7_sheet_4 0 rfl rfl)
theorem dX7_sheet_95 : decode cX7_sheet 95 = .ok (.iconst 1, 1) := dk_4 (dk_at dksX7_sheet_4 3 rfl rfl)
theorem dX7_sheet_96 : decode cX7_sheet 96 = .ok (.ireturn, 1) := dk_172 (dk_at dksX7_sheet_4 4 rfl rfl)
abbrev cX7_put : ByteArray := prog_32_method_108_code
def yX7_put : MethodName := ⟨RX7, "put", "(IIJ)I"⟩
def dkwX7_put_2 : List UInt8 := [27, 104, 28, 96, 42, 180, 0, 81, 27, 46, 33, 184, 1, 146, 80, 4, 172]
abbrev dktX7_put_2 : List UInt8 := dkwX7_put_2 ++ []
def dkwX7_put_1 : List UInt8 := [42, 180, 0, 84, 27, 46, 4, 100, 133, 184, 0, 133, 154, 0, 6, 16, 244, 172, 42, 180, 0, 87, 16, 40]
abbrev dktX7_put_1 : List UInt8 := dkwX7_put_1 ++ dktX7_put_2
def dkwX7_put_0 : List UInt8 := [27, 184, 1, 121, 154, 0, 5, 2, 172, 42, 180, 0, 81, 27, 46, 156, 0, 6, 16, 245, 172, 28, 133, 9]
abbrev dktX7_put_0 : List UInt8 := dkwX7_put_0 ++ dktX7_put_1
theorem dksX7_put_0 : cX7_put.data.toList.drop 0 = dktX7_put_0 := by decide +kernel
theorem dksX7_put_1 : cX7_put.data.toList.drop 24 = dktX7_put_1 := dk_seg dksX7_put_0 24 rfl rfl
theorem dksX7_put_2 : cX7_put.data.toList.drop 48 = dktX7_put_2 := dk_seg dksX7_put_1 24 rfl rfl
theorem dX7_put_0 : decode cX7_put 0 = .ok (.iload_n 1, 1) := dk_27 (dk_at dksX7_put_0 0 rfl rfl)
theorem dX7_put_1 : decode cX7_put 1 = .ok (.invokestatic 377, 3) := dk_184 1 121 (dk_at dksX7_put_0 1 rfl rfl)
theorem dX7_put_4 : decode cX7_put 4 = .ok (.ifCond .ne 5, 3) := dk_154 0 5 (dk_at dksX7_put_0 4 rfl rfl)
theorem dX7_put_7 : decode cX7_put 7 = .ok (.iconst (-1), 1) := dk_2 (dk_at dksX7_put_0 7 rfl rfl)
theorem dX7_put_8 : decode cX7_put 8 = .ok (.ireturn, 1) := dk_172 (dk_at dksX7_put_0 8 rfl rfl)
theorem dX7_put_9 : decode cX7_put 9 = .ok (.aload_n 0, 1) := dk_42 (dk_at dksX7_put_0 9 rfl rfl)
theorem dX7_put_10 : decode cX7_put 10 = .ok (.getfield 81, 3) := dk_180 0 81 (dk_at dksX7_put_0 10 rfl rfl)
theorem dX7_put_13 : decode cX7_put 13 = .ok (.iload_n 1, 1) := dk_27 (dk_at dksX7_put_0 13 rfl rfl)
theorem dX7_put_14 : decode cX7_put 14 = .ok (.iaload, 1) := dk_46 (dk_at dksX7_put_0 14 rfl rfl)
theorem dX7_put_15 : decode cX7_put 15 = .ok (.ifCond .ge 6, 3) := dk_156 0 6 (dk_at dksX7_put_0 15 rfl rfl)
theorem dX7_put_18 : decode cX7_put 18 = .ok (.bipush (-11), 2) := dk_16 245 (dk_at dksX7_put_0 18 rfl rfl)
theorem dX7_put_20 : decode cX7_put 20 = .ok (.ireturn, 1) := dk_172 (dk_at dksX7_put_0 20 rfl rfl)
theorem dX7_put_21 : decode cX7_put 21 = .ok (.iload_n 2, 1) := dk_28 (dk_at dksX7_put_0 21 rfl rfl)
theorem dX7_put_22 : decode cX7_put 22 = .ok (.i2l, 1) := dk_133 (dk_at dksX7_put_0 22 rfl rfl)
theorem dX7_put_23 : decode cX7_put 23 = .ok (.lconst 0, 1) := dk_9 (dk_at dksX7_put_0 23 rfl rfl)
theorem dX7_put_24 : decode cX7_put 24 = .ok (.aload_n 0, 1) := dk_42 (dk_at dksX7_put_1 0 rfl rfl)
theorem dX7_put_25 : decode cX7_put 25 = .ok (.getfield 84, 3) := dk_180 0 84 (dk_at dksX7_put_1 1 rfl rfl)
theorem dX7_put_28 : decode cX7_put 28 = .ok (.iload_n 1, 1) := dk_27 (dk_at dksX7_put_1 4 rfl rfl)
theorem dX7_put_29 : decode cX7_put 29 = .ok (.iaload, 1) := dk_46 (dk_at dksX7_put_1 5 rfl rfl)
theorem dX7_put_30 : decode cX7_put 30 = .ok (.iconst 1, 1) := dk_4 (dk_at dksX7_put_1 6 rfl rfl)
theorem dX7_put_31 : decode cX7_put 31 = .ok (.isub, 1) := dk_100 (dk_at dksX7_put_1 7 rfl rfl)
theorem dX7_put_32 : decode cX7_put 32 = .ok (.i2l, 1) := dk_133 (dk_at dksX7_put_1 8 rfl rfl)
theorem dX7_put_33 : decode cX7_put 33 = .ok (.invokestatic 133, 3) := dk_184 0 133 (dk_at dksX7_put_1 9 rfl rfl)
theorem dX7_put_36 : decode cX7_put 36 = .ok (.ifCond .ne 6, 3) := dk_154 0 6 (dk_at dksX7_put_1 12 rfl rfl)
theorem dX7_put_39 : decode cX7_put 39 = .ok (.bipush (-12), 2) := dk_16 244 (dk_at dksX7_put_1 15 rfl rfl)
theorem dX7_put_41 : decode cX7_put 41 = .ok (.ireturn, 1) := dk_172 (dk_at dksX7_put_1 17 rfl rfl)
theorem dX7_put_42 : decode cX7_put 42 = .ok (.aload_n 0, 1) := dk_42 (dk_at dksX7_put_1 18 rfl rfl)
theorem dX7_put_43 : decode cX7_put 43 = .ok (.getfield 87, 3) := dk_180 0 87 (dk_at dksX7_put_1 19 rfl rfl)
theorem dX7_put_46 : decode cX7_put 46 = .ok (.bipush 40, 2) := dk_16 40 (dk_at dksX7_put_1 22 rfl rfl)
theorem dX7_put_48 : decode cX7_put 48 = .ok (.iload_n 1, 1) := dk_27 (dk_at dksX7_put_2 0 rfl rfl)
theorem dX7_put_49 : decode cX7_put 49 = .ok (.imul, 1) := dk_104 (dk_at dksX7_put_2 1 rfl rfl)
theorem dX7_put_50 : decode cX7_put 50 = .ok (.iload_n 2, 1) := dk_28 (dk_at dksX7_put_2 2 rfl rfl)
theorem dX7_put_51 : decode cX7_put 51 = .ok (.iadd, 1) := dk_96 (dk_at dksX7_put_2 3 rfl rfl)
theorem dX7_put_52 : decode cX7_put 52 = .ok (.aload_n 0, 1) := dk_42 (dk_at dksX7_put_2 4 rfl rfl)
theorem dX7_put_53 : decode cX7_put 53 = .ok (.getfield 81, 3) := dk_180 0 81 (dk_at dksX7_put_2 5 rfl rfl)
theorem dX7_put_56 : decode cX7_put 56 = .ok (.iload_n 1, 1) := dk_27 (dk_at dksX7_put_2 8 rfl rfl)
theorem dX7_put_57 : decode cX7_put 57 = .ok (.iaload, 1) := dk_46 (dk_at dksX7_put_2 9 rfl rfl)
theorem dX7_put_58 : decode cX7_put 58 = .ok (.lload_n 3, 1) := dk_33 (dk_at dksX7_put_2 10 rfl rfl)
theorem dX7_put_59 : decode cX7_put 59 = .ok (.invokestatic 402, 3) := dk_184 1 146 (dk_at dksX7_put_2 11 rfl rfl)
theorem dX7_put_62 : decode cX7_put 62 = .ok (.lastore, 1) := dk_80 (dk_at dksX7_put_2 14 rfl rfl)
theorem dX7_put_63 : decode cX7_put 63 = .ok (.iconst 1, 1) := dk_4 (dk_at dksX7_put_2 15 rfl rfl)
theorem dX7_put_64 : decode cX7_put 64 = .ok (.ireturn, 1) := dk_172 (dk_at dksX7_put_2 16 rfl rfl)
abbrev cX7_narrowed : ByteArray := prog_32_method_107_code
def yX7_narrowed : MethodName := ⟨RX7, "narrowed", "(IJ)J"⟩
def dkwX7_narrowed_1 : List UInt8 := [5, 160, 0, 9, 31, 136, 133, 167, 0, 4, 31, 173]
abbrev dktX7_narrowed_1 : List UInt8 := dkwX7_narrowed_1 ++ []
def dkwX7_narrowed_0 : List UInt8 := [26, 154, 0, 10, 31, 136, 145, 133, 167, 0, 27, 26, 4, 160, 0, 10, 31, 136, 147, 133, 167, 0, 15, 26]
abbrev dktX7_narrowed_0 : List UInt8 := dkwX7_narrowed_0 ++ dktX7_narrowed_1
theorem dksX7_narrowed_0 : cX7_narrowed.data.toList.drop 0 = dktX7_narrowed_0 := by decide +kernel
theorem dksX7_narrowed_1 : cX7_narrowed.data.toList.drop 24 = dktX7_narrowed_1 := dk_seg dksX7_narrowed_0 24 rfl rfl
theorem dX7_narrowed_0 : decode cX7_narrowed 0 = .ok (.iload_n 0, 1) := dk_26 (dk_at dksX7_narrowed_0 0 rfl rfl)
theorem dX7_narrowed_1 : decode cX7_narrowed 1 = .ok (.ifCond .ne 10, 3) := dk_154 0 10 (dk_at dksX7_narrowed_0 1 rfl rfl)
theorem dX7_narrowed_4 : decode cX7_narrowed 4 = .ok (.lload_n 1, 1) := dk_31 (dk_at dksX7_narrowed_0 4 rfl rfl)
theorem dX7_narrowed_5 : decode cX7_narrowed 5 = .ok (.l2i, 1) := dk_136 (dk_at dksX7_narrowed_0 5 rfl rfl)
theorem dX7_narrowed_6 : decode cX7_narrowed 6 = .ok (.i2b, 1) := dk_145 (dk_at dksX7_narrowed_0 6 rfl rfl)
theorem dX7_narrowed_7 : decode cX7_narrowed 7 = .ok (.i2l, 1) := dk_133 (dk_at dksX7_narrowed_0 7 rfl rfl)
theorem dX7_narrowed_8 : decode cX7_narrowed 8 = .ok (.goto 27, 3) := dk_167 0 27 (dk_at dksX7_narrowed_0 8 rfl rfl)
theorem dX7_narrowed_11 : decode cX7_narrowed 11 = .ok (.iload_n 0, 1) := dk_26 (dk_at dksX7_narrowed_0 11 rfl rfl)
theorem dX7_narrowed_12 : decode cX7_narrowed 12 = .ok (.iconst 1, 1) := dk_4 (dk_at dksX7_narrowed_0 12 rfl rfl)
theorem dX7_narrowed_13 : decode cX7_narrowed 13 = .ok (.if_icmp .ne 10, 3) := dk_160 0 10 (dk_at dksX7_narrowed_0 13 rfl rfl)
theorem dX7_narrowed_16 : decode cX7_narrowed 16 = .ok (.lload_n 1, 1) := dk_31 (dk_at dksX7_narrowed_0 16 rfl rfl)
theorem dX7_narrowed_17 : decode cX7_narrowed 17 = .ok (.l2i, 1) := dk_136 (dk_at dksX7_narrowed_0 17 rfl rfl)
theorem dX7_narrowed_18 : decode cX7_narrowed 18 = .ok (.i2s, 1) := dk_147 (dk_at dksX7_narrowed_0 18 rfl rfl)
theorem dX7_narrowed_19 : decode cX7_narrowed 19 = .ok (.i2l, 1) := dk_133 (dk_at dksX7_narrowed_0 19 rfl rfl)
theorem dX7_narrowed_20 : decode cX7_narrowed 20 = .ok (.goto 15, 3) := dk_167 0 15 (dk_at dksX7_narrowed_0 20 rfl rfl)
theorem dX7_narrowed_23 : decode cX7_narrowed 23 = .ok (.iload_n 0, 1) := dk_26 (dk_at dksX7_narrowed_0 23 rfl rfl)
theorem dX7_narrowed_24 : decode cX7_narrowed 24 = .ok (.iconst 2, 1) := dk_5 (dk_at dksX7_narrowed_1 0 rfl rfl)
theorem dX7_narrowed_25 : decode cX7_narrowed 25 = .ok (.if_icmp .ne 9, 3) := dk_160 0 9 (dk_at dksX7_narrowed_1 1 rfl rfl)
theorem dX7_narrowed_28 : decode cX7_narrowed 28 = .ok (.lload_n 1, 1) := dk_31 (dk_at dksX7_narrowed_1 4 rfl rfl)
theorem dX7_narrowed_29 : decode cX7_narrowed 29 = .ok (.l2i, 1) := dk_136 (dk_at dksX7_narrowed_1 5 rfl rfl)
theorem dX7_narrowed_30 : decode cX7_narrowed 30 = .ok (.i2l, 1) := dk_133 (dk_at dksX7_narrowed_1 6 rfl rfl)
theorem dX7_narrowed_31 : decode cX7_narrowed 31 = .ok (.goto 4, 3) := dk_167 0 4 (dk_at dksX7_narrowed_1 7 rfl rfl)
theorem dX7_narrowed_34 : decode cX7_narrowed 34 = .ok (.lload_n 1, 1) := dk_31 (dk_at dksX7_narrowed_1 10 rfl rfl)
theorem dX7_narrowed_35 : decode cX7_narrowed 35 = .ok (.lreturn, 1) := dk_173 (dk_at dksX7_narrowed_1 11 rfl rfl)
abbrev cX7_item : ByteArray := prog_32_method_109_code
def yX7_item : MethodName := ⟨RX7, "item", "(III)I"⟩
def dkwX7_item_3 : List UInt8 := [180, 0, 87, 16, 40, 27, 104, 29, 96, 47, 136, 167, 0, 5, 16, 244, 172]
abbrev dktX7_item_3 : List UInt8 := dkwX7_item_3 ++ []
def dkwX7_item_2 : List UInt8 := [16, 243, 172, 29, 133, 9, 42, 180, 0, 84, 27, 46, 4, 100, 133, 184, 0, 133, 153, 0, 18, 42]
abbrev dktX7_item_2 : List UInt8 := dkwX7_item_2 ++ dktX7_item_3
def dkwX7_item_1 : List UInt8 := [180, 0, 81, 27, 46, 28, 159, 0, 20, 42, 180, 0, 81, 27, 46, 156, 0, 8, 16, 245, 167, 0, 5]
abbrev dktX7_item_1 : List UInt8 := dkwX7_item_1 ++ dktX7_item_2
def dkwX7_item_0 : List UInt8 := [27, 184, 1, 121, 153, 0, 15, 28, 133, 9, 20, 0, 157, 184, 0, 133, 154, 0, 5, 2, 172, 42]
abbrev dktX7_item_0 : List UInt8 := dkwX7_item_0 ++ dktX7_item_1
theorem dksX7_item_0 : cX7_item.data.toList.drop 0 = dktX7_item_0 := by decide +kernel
theorem dksX7_item_1 : cX7_item.data.toList.drop 22 = dktX7_item_1 := dk_seg dksX7_item_0 22 rfl rfl
theorem dksX7_item_2 : cX7_item.data.toList.drop 45 = dktX7_item_2 := dk_seg dksX7_item_1 23 rfl rfl
theorem dksX7_item_3 : cX7_item.data.toList.drop 67 = dktX7_item_3 := dk_seg dksX7_item_2 22 rfl rfl
theorem dX7_item_0 : decode cX7_item 0 = .ok (.iload_n 1, 1) := dk_27 (dk_at dksX7_item_0 0 rfl rfl)
theorem dX7_item_1 : decode cX7_item 1 = .ok (.invokestatic 377, 3) := dk_184 1 121 (dk_at dksX7_item_0 1 rfl rfl)
theorem dX7_item_4 : decode cX7_item 4 = .ok (.ifCond .eq 15, 3) := dk_153 0 15 (dk_at dksX7_item_0 4 rfl rfl)
theorem dX7_item_7 : decode cX7_item 7 = .ok (.iload_n 2, 1) := dk_28 (dk_at dksX7_item_0 7 rfl rfl)
theorem dX7_item_8 : decode cX7_item 8 = .ok (.i2l, 1) := dk_133 (dk_at dksX7_item_0 8 rfl rfl)
theorem dX7_item_9 : decode cX7_item 9 = .ok (.lconst 0, 1) := dk_9 (dk_at dksX7_item_0 9 rfl rfl)
theorem dX7_item_10 : decode cX7_item 10 = .ok (.ldc2_w 157, 3) := dk_20 0 157 (dk_at dksX7_item_0 10 rfl rfl)
theorem dX7_item_13 : decode cX7_item 13 = .ok (.invokestatic 133, 3) := dk_184 0 133 (dk_at dksX7_item_0 13 rfl rfl)
theorem dX7_item_16 : decode cX7_item 16 = .ok (.ifCond .ne 5, 3) := dk_154 0 5 (dk_at dksX7_item_0 16 rfl rfl)
theorem dX7_item_19 : decode cX7_item 19 = .ok (.iconst (-1), 1) := dk_2 (dk_at dksX7_item_0 19 rfl rfl)
theorem dX7_item_20 : decode cX7_item 20 = .ok (.ireturn, 1) := dk_172 (dk_at dksX7_item_0 20 rfl rfl)
theorem dX7_item_21 : decode cX7_item 21 = .ok (.aload_n 0, 1) := dk_42 (dk_at dksX7_item_0 21 rfl rfl)
theorem dX7_item_22 : decode cX7_item 22 = .ok (.getfield 81, 3) := dk_180 0 81 (dk_at dksX7_item_1 0 rfl rfl)
theorem dX7_item_25 : decode cX7_item 25 = .ok (.iload_n 1, 1) := dk_27 (dk_at dksX7_item_1 3 rfl rfl)
theorem dX7_item_26 : decode cX7_item 26 = .ok (.iaload, 1) := dk_46 (dk_at dksX7_item_1 4 rfl rfl)
theorem dX7_item_27 : decode cX7_item 27 = .ok (.iload_n 2, 1) := dk_28 (dk_at dksX7_item_1 5 rfl rfl)
theorem dX7_item_28 : decode cX7_item 28 = .ok (.if_icmp .eq 20, 3) := dk_159 0 20 (dk_at dksX7_item_1 6 rfl rfl)
theorem dX7_item_31 : decode cX7_item 31 = .ok (.aload_n 0, 1) := dk_42 (dk_at dksX7_item_1 9 rfl rfl)
theorem dX7_item_32 : decode cX7_item 32 = .ok (.getfield 81, 3) := dk_180 0 81 (dk_at dksX7_item_1 10 rfl rfl)
theorem dX7_item_35 : decode cX7_item 35 = .ok (.iload_n 1, 1) := dk_27 (dk_at dksX7_item_1 13 rfl rfl)
theorem dX7_item_36 : decode cX7_item 36 = .ok (.iaload, 1) := dk_46 (dk_at dksX7_item_1 14 rfl rfl)
theorem dX7_item_37 : decode cX7_item 37 = .ok (.ifCond .ge 8, 3) := dk_156 0 8 (dk_at dksX7_item_1 15 rfl rfl)
theorem dX7_item_40 : decode cX7_item 40 = .ok (.bipush (-11), 2) := dk_16 245 (dk_at dksX7_item_1 18 rfl rfl)
theorem dX7_item_42 : decode cX7_item 42 = .ok (.goto 5, 3) := dk_167 0 5 (dk_at dksX7_item_1 20 rfl rfl)
theorem dX7_item_45 : decode cX7_item 45 = .ok (.bipush (-13), 2) := dk_16 243 (dk_at dksX7_item_2 0 rfl rfl)
theorem dX7_item_47 : decode cX7_item 47 = .ok (.ireturn, 1) := dk_172 (dk_at dksX7_item_2 2 rfl rfl)
theorem dX7_item_48 : decode cX7_item 48 = .ok (.iload_n 3, 1) := dk_29 (dk_at dksX7_item_2 3 rfl rfl)
theorem dX7_item_49 : decode cX7_item 49 = .ok (.i2l, 1) := dk_133 (dk_at dksX7_item_2 4 rfl rfl)
theorem dX7_item_50 : decode cX7_item 50 = .ok (.lconst 0, 1) := dk_9 (dk_at dksX7_item_2 5 rfl rfl)
theorem dX7_item_51 : decode cX7_item 51 = .ok (.aload_n 0, 1) := dk_42 (dk_at dksX7_item_2 6 rfl rfl)
theorem dX7_item_52 : decode cX7_item 52 = .ok (.getfield 84, 3) := dk_180 0 84 (dk_at dksX7_item_2 7 rfl rfl)
theorem dX7_item_55 : decode cX7_item 55 = .ok (.iload_n 1, 1) := dk_27 (dk_at dksX7_item_2 10 rfl rfl)
theorem dX7_item_56 : decode cX7_item 56 = .ok (.iaload, 1) := dk_46 (dk_at dksX7_item_2 11 rfl rfl)
theorem dX7_item_57 : decode cX7_item 57 = .ok (.iconst 1, 1) := dk_4 (dk_at dksX7_item_2 12 rfl rfl)
theorem dX7_item_58 : decode cX7_item 58 = .ok (.isub, 1) := dk_100 (dk_at dksX7_item_2 13 rfl rfl)
theorem dX7_item_59 : decode cX7_item 59 = .ok (.i2l, 1) := dk_133 (dk_at dksX7_item_2 14 rfl rfl)
theorem dX7_item_60 : decode cX7_item 60 = .ok (.invokestatic 133, 3) := dk_184 0 133 (dk_at dksX7_item_2 15 rfl rfl)
theorem dX7_item_63 : decode cX7_item 63 = .ok (.ifCond .eq 18, 3) := dk_153 0 18 (dk_at dksX7_item_2 18 rfl rfl)
theorem dX7_item_66 : decode cX7_item 66 = .ok (.aload_n 0, 1) := dk_42 (dk_at dksX7_item_2 21 rfl rfl)
theorem dX7_item_67 : decode cX7_item 67 = .ok (.getfield 87, 3) := dk_180 0 87 (dk_at dksX7_item_3 0 rfl rfl)
theorem dX7_item_70 : decode cX7_item 70 = .ok (.bipush 40, 2) := dk_16 40 (dk_at dksX7_item_3 3 rfl rfl)
theorem dX7_item_72 : decode cX7_item 72 = .ok (.iload_n 1, 1) := dk_27 (dk_at dksX7_item_3 5 rfl rfl)
theorem dX7_item_73 : decode cX7_item 73 = .ok (.imul, 1) := dk_104 (dk_at dksX7_item_3 6 rfl rfl)
theorem dX7_item_74 : decode cX7_item 74 = .ok (.iload_n 3, 1) := dk_29 (dk_at dksX7_item_3 7 rfl rfl)
theorem dX7_item_75 : decode cX7_item 75 = .ok (.iadd, 1) := dk_96 (dk_at dksX7_item_3 8 rfl rfl)
theorem dX7_item_76 : decode cX7_item 76 = .ok (.laload, 1) := dk_47 (dk_at dksX7_item_3 9 rfl rfl)
theorem dX7_item_77 : decode cX7_item 77 = .ok (.l2i, 1) := dk_136 (dk_at dksX7_item_3 10 rfl rfl)
theorem dX7_item_78 : decode cX7_item 78 = .ok (.goto 5, 3) := dk_167 0 5 (dk_at dksX7_item_3 11 rfl rfl)
theorem dX7_item_81 : decode cX7_item 81 = .ok (.bipush (-12), 2) := dk_16 244 (dk_at dksX7_item_3 14 rfl rfl)
theorem dX7_item_83 : decode cX7_item 83 = .ok (.ireturn, 1) := dk_172 (dk_at dksX7_item_3 16 rfl rfl)
abbrev cX7_move : ByteArray := prog_32_method_110_code
def yX7_move : MethodName := ⟨RX7, "move", "(IIIII)I"⟩
def dkwX7_move_7 : List UInt8 := [180, 0, 90, 21, 6, 47, 80, 132, 6, 1, 167, 255, 224, 21, 5, 172]
abbrev dktX7_move_7 : List UInt8 := dkwX7_move_7 ++ []
def dkwX7_move_6 : List UInt8 := [54, 6, 21, 6, 21, 5, 162, 0, 31, 42, 180, 0, 87, 16, 40, 29, 104, 21, 4, 96, 21, 6, 96, 42]
abbrev dktX7_move_6 : List UInt8 := dkwX7_move_6 ++ dktX7_move_7
def dkwX7_move_5 : List UInt8 := [21, 6, 42, 180, 0, 87, 16, 40, 27, 104, 28, 96, 21, 6, 96, 47, 80, 132, 6, 1, 167, 255, 225, 3]
abbrev dktX7_move_5 : List UInt8 := dkwX7_move_5 ++ dktX7_move_6
def dkwX7_move_4 : List UInt8 := [21, 5, 100, 164, 0, 6, 16, 244, 172, 3, 54, 6, 21, 6, 21, 5, 162, 0, 30, 42, 180, 0, 90]
abbrev dktX7_move_4 : List UInt8 := dkwX7_move_4 ++ dktX7_move_5
def dkwX7_move_3 : List UInt8 := [155, 0, 30, 28, 42, 180, 0, 84, 27, 46, 21, 5, 100, 163, 0, 17, 21, 4, 42, 180, 0, 84, 29, 46]
abbrev dktX7_move_3 : List UInt8 := dkwX7_move_3 ++ dktX7_move_4
def dkwX7_move_2 : List UInt8 := [180, 0, 81, 29, 46, 159, 0, 6, 16, 243, 172, 21, 5, 155, 0, 39, 28, 155, 0, 35, 21, 4]
abbrev dktX7_move_2 : List UInt8 := dkwX7_move_2 ++ dktX7_move_3
def dkwX7_move_1 : List UInt8 := [155, 0, 12, 42, 180, 0, 81, 29, 46, 156, 0, 6, 16, 245, 172, 42, 180, 0, 81, 27, 46, 42]
abbrev dktX7_move_1 : List UInt8 := dkwX7_move_1 ++ dktX7_move_2
def dkwX7_move_0 : List UInt8 := [27, 184, 1, 121, 153, 0, 10, 29, 184, 1, 121, 154, 0, 5, 2, 172, 42, 180, 0, 81, 27, 46]
abbrev dktX7_move_0 : List UInt8 := dkwX7_move_0 ++ dktX7_move_1
theorem dksX7_move_0 : cX7_move.data.toList.drop 0 = dktX7_move_0 := by decide +kernel
theorem dksX7_move_1 : cX7_move.data.toList.drop 22 = dktX7_move_1 := dk_seg dksX7_move_0 22 rfl rfl
theorem dksX7_move_2 : cX7_move.data.toList.drop 44 = dktX7_move_2 := dk_seg dksX7_move_1 22 rfl rfl
theorem dksX7_move_3 : cX7_move.data.toList.drop 66 = dktX7_move_3 := dk_seg dksX7_move_2 22 rfl rfl
theorem dksX7_move_4 : cX7_move.data.toList.drop 90 = dktX7_move_4 := dk_seg dksX7_move_3 24 rfl rfl
theorem dksX7_move_5 : cX7_move.data.toList.drop 113 = dktX7_move_5 := dk_seg dksX7_move_4 23 rfl rfl
theorem dksX7_move_6 : cX7_move.data.toList.drop 137 = dktX7_move_6 := dk_seg dksX7_move_5 24 rfl rfl
theorem dksX7_move_7 : cX7_move.data.toList.drop 161 = dktX7_move_7 := dk_seg dksX7_move_6 24 rfl rfl
theorem dX7_move_0 : decode cX7_move 0 = .ok (.iload_n 1, 1) := dk_27 (dk_at dksX7_move_0 0 rfl rfl)
theorem dX7_move_1 : decode cX7_move 1 = .ok (.invokestatic 377, 3) := dk_184 1 121 (dk_at dksX7_move_0 1 rfl rfl)
theorem dX7_move_4 : decode cX7_move 4 = .ok (.ifCond .eq 10, 3) := dk_153 0 10 (dk_at dksX7_move_0 4 rfl rfl)
theorem dX7_move_7 : decode cX7_move 7 = .ok (.iload_n 3, 1) := dk_29 (dk_at dksX7_move_0 7 rfl rfl)
theorem dX7_move_8 : decode cX7_move 8 = .ok (.invokestatic 377, 3) := dk_184 1 121 (dk_at dksX7_move_0 8 rfl rfl)
theorem dX7_move_11 : decode cX7_move 11 = .ok (.ifCond .ne 5, 3) := dk_154 0 5 (dk_at dksX7_move_0 11 rfl rfl)
theorem dX7_move_14 : decode cX7_move 14 = .ok (.iconst (-1), 1) := dk_2 (dk_at dksX7_move_0 14 rfl rfl)
theorem dX7_move_15 : decode cX7_move 15 = .ok (.ireturn, 1) := dk_172 (dk_at dksX7_move_0 15 rfl rfl)
theorem dX7_move_16 : decode cX7_move 16 = .ok (.aload_n 0, 1) := dk_42 (dk_at dksX7_move_0 16 rfl rfl)
theorem dX7_move_17 : decode cX7_move 17 = .ok (.getfield 81, 3) := dk_180 0 81 (dk_at dksX7_move_0 17 rfl rfl)
theorem dX7_move_20 : decode cX7_move 20 = .ok (.iload_n 1, 1) := dk_27 (dk_at dksX7_move_0 20 rfl rfl)
theorem dX7_move_21 : decode cX7_move 21 = .ok (.iaload, 1) := dk_46 (dk_at dksX7_move_0 21 rfl rfl)
theorem dX7_move_22 : decode cX7_move 22 = .ok (.ifCond .lt 12, 3) := dk_155 0 12 (dk_at dksX7_move_1 0 rfl rfl)
theorem dX7_move_25 : decode cX7_move 25 = .ok (.aload_n 0, 1) := dk_42 (dk_at dksX7_move_1 3 rfl rfl)
theorem dX7_move_26 : decode cX7_move 26 = .ok (.getfield 81, 3) := dk_180 0 81 (dk_at dksX7_move_1 4 rfl rfl)
theorem dX7_move_29 : decode cX7_move 29 = .ok (.iload_n 3, 1) := dk_29 (dk_at dksX7_move_1 7 rfl rfl)
theorem dX7_move_30 : decode cX7_move 30 = .ok (.iaload, 1) := dk_46 (dk_at dksX7_move_1 8 rfl rfl)
theorem dX7_move_31 : decode cX7_move 31 = .ok (.ifCond .ge 6, 3) := dk_156 0 6 (dk_at dksX7_move_1 9 rfl rfl)
theorem dX7_move_34 : decode cX7_move 34 = .ok (.bipush (-11), 2) := dk_16 245 (dk_at dksX7_move_1 12 rfl rfl)
theorem dX7_move_36 : decode cX7_move 36 = .ok (.ireturn, 1) := dk_172 (dk_at dksX7_move_1 14 rfl rfl)
theorem dX7_move_37 : decode cX7_move 37 = .ok (.aload_n 0, 1) := dk_42 (dk_at dksX7_move_1 15 rfl rfl)
theorem dX7_move_38 : decode cX7_move 38 = .ok (.getfield 81, 3) := dk_180 0 81 (dk_at dksX7_move_1 16 rfl rfl)
theorem dX7_move_41 : decode cX7_move 41 = .ok (.iload_n 1, 1) := dk_27 (dk_at dksX7_move_1 19 rfl rfl)
theorem dX7_move_42 : decode cX7_move 42 = .ok (.iaload, 1) := dk_46 (dk_at dksX7_move_1 20 rfl rfl)
theorem dX7_move_43 : decode cX7_move 43 = .ok (.aload_n 0, 1) := dk_42 (dk_at dksX7_move_1 21 rfl rfl)
theorem dX7_move_44 : decode cX7_move 44 = .ok (.getfield 81, 3) := dk_180 0 81 (dk_at dksX7_move_2 0 rfl rfl)
theorem dX7_move_47 : decode cX7_move 47 = .ok (.iload_n 3, 1) := dk_29 (dk_at dksX7_move_2 3 rfl rfl)
theorem dX7_move_48 : decode cX7_move 48 = .ok (.iaload, 1) := dk_46 (dk_at dksX7_move_2 4 rfl rfl)
theorem dX7_move_49 : decode cX7_move 49 = .ok (.if_icmp .eq 6, 3) := dk_159 0 6 (dk_at dksX7_move_2 5 rfl rfl)
theorem dX7_move_52 : decode cX7_move 52 = .ok (.bipush (-13), 2) := dk_16 243 (dk_at dksX7_move_2 8 rfl rfl)
theorem dX7_move_54 : decode cX7_move 54 = .ok (.ireturn, 1) := dk_172 (dk_at dksX7_move_2 10 rfl rfl)
theorem dX7_move_55 : decode cX7_move 55 = .ok (.iload 5, 2) := dk_21 5 (dk_at dksX7_move_2 11 rfl rfl)
theorem dX7_move_57 : decode cX7_move 57 = .ok (.ifCond .lt 39, 3) := dk_155 0 39 (dk_at dksX7_move_2 13 rfl rfl)
theorem dX7_move_60 : decode cX7_move 60 = .ok (.iload_n 2, 1) := dk_28 (dk_at dksX7_move_2 16 rfl rfl)
theorem dX7_move_61 : decode cX7_move 61 = .ok (.ifCond .lt 35, 3) := dk_155 0 35 (dk_at dksX7_move_2 17 rfl rfl)
theorem dX7_move_64 : decode cX7_move 64 = .ok (.iload 4, 2) := dk_21 4 (dk_at dksX7_move_2 20 rfl rfl)
theorem dX7_move_66 : decode cX7_move 66 = .ok (.ifCond .lt 30, 3) := dk_155 0 30 (dk_at dksX7_move_3 0 rfl rfl)
theorem dX7_move_69 : decode cX7_move 69 = .ok (.iload_n 2, 1) := dk_28 (dk_at dksX7_move_3 3 rfl rfl)
theorem dX7_move_70 : decode cX7_move 70 = .ok (.aload_n 0, 1) := dk_42 (dk_at dksX7_move_3 4 rfl rfl)
theorem dX7_move_71 : decode cX7_move 71 = .ok (.getfield 84, 3) := dk_180 0 84 (dk_at dksX7_move_3 5 rfl rfl)
theorem dX7_move_74 : decode cX7_move 74 = .ok (.iload_n 1, 1) := dk_27 (dk_at dksX7_move_3 8 rfl rfl)
theorem dX7_move_75 : decode cX7_move 75 = .ok (.iaload, 1) := dk_46 (dk_at dksX7_move_3 9 rfl rfl)
theorem dX7_move_76 : decode cX7_move 76 = .ok (.iload 5, 2) := dk_21 5 (dk_at dksX7_move_3 10 rfl rfl)
theorem dX7_move_78 : decode cX7_move 78 = .ok (.isub, 1) := dk_100 (dk_at dksX7_move_3 12 rfl rfl)
theorem dX7_move_79 : decode cX7_move 79 = .ok (.if_icmp .gt 17, 3) := dk_163 0 17 (dk_at dksX7_move_3 13 rfl rfl)
theorem dX7_move_82 : decode cX7_move 82 = .ok (.iload 4, 2) := dk_21 4 (dk_at dksX7_move_3 16 rfl rfl)
theorem dX7_move_84 : decode cX7_move 84 = .ok (.aload_n 0, 1) := dk_42 (dk_at dksX7_move_3 18 rfl rfl)
theorem dX7_move_85 : decode cX7_move 85 = .ok (.getfield 84, 3) := dk_180 0 84 (dk_at dksX7_move_3 19 rfl rfl)
theorem dX7_move_88 : decode cX7_move 88 = .ok (.iload_n 3, 1) := dk_29 (dk_at dksX7_move_3 22 rfl rfl)
theorem dX7_move_89 : decode cX7_move 89 = .ok (.iaload, 1) := dk_46 (dk_at dksX7_move_3 23 rfl rfl)
theorem dX7_move_90 : decode cX7_move 90 = .ok (.iload 5, 2) := dk_21 5 (dk_at dksX7_move_4 0 rfl rfl)
theorem dX7_move_92 : decode cX7_move 92 = .ok (.isub, 1) := dk_100 (dk_at dksX7_move_4 2 rfl rfl)
theorem dX7_move_93 : decode cX7_move 93 = .ok (.if_icmp .le 6, 3) := dk_164 0 6 (dk_at dksX7_move_4 3 rfl rfl)
theorem dX7_move_96 : decode cX7_move 96 = .ok (.bipush (-12), 2) := dk_16 244 (dk_at dksX7_move_4 6 rfl rfl)
theorem dX7_move_98 : decode cX7_move 98 = .ok (.ireturn, 1) := dk_172 (dk_at dksX7_move_4 8 rfl rfl)
theorem dX7_move_99 : decode cX7_move 99 = .ok (.iconst 0, 1) := dk_3 (dk_at dksX7_move_4 9 rfl rfl)
theorem dX7_move_100 : decode cX7_move 100 = .ok (.istore 6, 2) := dk_54 6 (dk_at dksX7_move_4 10 rfl rfl)
theorem dX7_move_102 : decode cX7_move 102 = .ok (.iload 6, 2) := dk_21 6 (dk_at dksX7_move_4 12 rfl rfl)
theorem dX7_move_104 : decode cX7_move 104 = .ok (.iload 5, 2) := dk_21 5 (dk_at dksX7_move_4 14 rfl rfl)
theorem dX7_move_106 : decode cX7_move 106 = .ok (.if_icmp .ge 30, 3) := dk_162 0 30 (dk_at dksX7_move_4 16 rfl rfl)
theorem dX7_move_109 : decode cX7_move 109 = .ok (.aload_n 0, 1) := dk_42 (dk_at dksX7_move_4 19 rfl rfl)
theorem dX7_move_110 : decode cX7_move 110 = .ok (.getfield 90, 3) := dk_180 0 90 (dk_at dksX7_move_4 20 rfl rfl)
theorem dX7_move_113 : decode cX7_move 113 = .ok (.iload 6, 2) := dk_21 6 (dk_at dksX7_move_5 0 rfl rfl)
theorem dX7_move_115 : decode cX7_move 115 = .ok (.aload_n 0, 1) := dk_42 (dk_at dksX7_move_5 2 rfl rfl)
theorem dX7_move_116 : decode cX7_move 116 = .ok (.getfield 87, 3) := dk_180 0 87 (dk_at dksX7_move_5 3 rfl rfl)
theorem dX7_move_119 : decode cX7_move 119 = .ok (.bipush 40, 2) := dk_16 40 (dk_at dksX7_move_5 6 rfl rfl)
theorem dX7_move_121 : decode cX7_move 121 = .ok (.iload_n 1, 1) := dk_27 (dk_at dksX7_move_5 8 rfl rfl)
theorem dX7_move_122 : decode cX7_move 122 = .ok (.imul, 1) := dk_104 (dk_at dksX7_move_5 9 rfl rfl)
theorem dX7_move_123 : decode cX7_move 123 = .ok (.iload_n 2, 1) := dk_28 (dk_at dksX7_move_5 10 rfl rfl)
theorem dX7_move_124 : decode cX7_move 124 = .ok (.iadd, 1) := dk_96 (dk_at dksX7_move_5 11 rfl rfl)
theorem dX7_move_125 : decode cX7_move 125 = .ok (.iload 6, 2) := dk_21 6 (dk_at dksX7_move_5 12 rfl rfl)
theorem dX7_move_127 : decode cX7_move 127 = .ok (.iadd, 1) := dk_96 (dk_at dksX7_move_5 14 rfl rfl)
theorem dX7_move_128 : decode cX7_move 128 = .ok (.laload, 1) := dk_47 (dk_at dksX7_move_5 15 rfl rfl)
theorem dX7_move_129 : decode cX7_move 129 = .ok (.lastore, 1) := dk_80 (dk_at dksX7_move_5 16 rfl rfl)
theorem dX7_move_130 : decode cX7_move 130 = .ok (.iinc 6 1, 3) := dk_132 6 1 (dk_at dksX7_move_5 17 rfl rfl)
theorem dX7_move_133 : decode cX7_move 133 = .ok (.goto (-31), 3) := dk_167 255 225 (dk_at dksX7_move_5 20 rfl rfl)
theorem dX7_move_136 : decode cX7_move 136 = .ok (.iconst 0, 1) := dk_3 (dk_at dksX7_move_5 23 rfl rfl)
theorem dX7_move_137 : decode cX7_move 137 = .ok (.istore 6, 2) := dk_54 6 (dk_at dksX7_move_6 0 rfl rfl)
theorem dX7_move_139 : decode cX7_move 139 = .ok (.iload 6, 2) := dk_21 6 (dk_at dksX7_move_6 2 rfl rfl)
theorem dX7_move_141 : decode cX7_move 141 = .ok (.iload 5, 2) := dk_21 5 (dk_at dksX7_move_6 4 rfl rfl)
theorem dX7_move_143 : decode cX7_move 143 = .ok (.if_icmp .ge 31, 3) := dk_162 0 31 (dk_at dksX7_move_6 6 rfl rfl)
theorem dX7_move_146 : decode cX7_move 146 = .ok (.aload_n 0, 1) := dk_42 (dk_at dksX7_move_6 9 rfl rfl)
theorem dX7_move_147 : decode cX7_move 147 = .ok (.getfield 87, 3) := dk_180 0 87 (dk_at dksX7_move_6 10 rfl rfl)
theorem dX7_move_150 : decode cX7_move 150 = .ok (.bipush 40, 2) := dk_16 40 (dk_at dksX7_move_6 13 rfl rfl)
theorem dX7_move_152 : decode cX7_move 152 = .ok (.iload_n 3, 1) := dk_29 (dk_at dksX7_move_6 15 rfl rfl)
theorem dX7_move_153 : decode cX7_move 153 = .ok (.imul, 1) := dk_104 (dk_at dksX7_move_6 16 rfl rfl)
theorem dX7_move_154 : decode cX7_move 154 = .ok (.iload 4, 2) := dk_21 4 (dk_at dksX7_move_6 17 rfl rfl)
theorem dX7_move_156 : decode cX7_move 156 = .ok (.iadd, 1) := dk_96 (dk_at dksX7_move_6 19 rfl rfl)
theorem dX7_move_157 : decode cX7_move 157 = .ok (.iload 6, 2) := dk_21 6 (dk_at dksX7_move_6 20 rfl rfl)
theorem dX7_move_159 : decode cX7_move 159 = .ok (.iadd, 1) := dk_96 (dk_at dksX7_move_6 22 rfl rfl)
theorem dX7_move_160 : decode cX7_move 160 = .ok (.aload_n 0, 1) := dk_42 (dk_at dksX7_move_6 23 rfl rfl)
theorem dX7_move_161 : decode cX7_move 161 = .ok (.getfield 90, 3) := dk_180 0 90 (dk_at dksX7_move_7 0 rfl rfl)
theorem dX7_move_164 : decode cX7_move 164 = .ok (.iload 6, 2) := dk_21 6 (dk_at dksX7_move_7 3 rfl rfl)
theorem dX7_move_166 : decode cX7_move 166 = .ok (.laload, 1) := dk_47 (dk_at dksX7_move_7 5 rfl rfl)
theorem dX7_move_167 : decode cX7_move 167 = .ok (.lastore, 1) := dk_80 (dk_at dksX7_move_7 6 rfl rfl)
theorem dX7_move_168 : decode cX7_move 168 = .ok (.iinc 6 1, 3) := dk_132 6 1 (dk_at dksX7_move_7 7 rfl rfl)
theorem dX7_move_171 : decode cX7_move 171 = .ok (.goto (-32), 3) := dk_167 255 224 (dk_at dksX7_move_7 10 rfl rfl)
theorem dX7_move_174 : decode cX7_move 174 = .ok (.iload 5, 2) := dk_21 5 (dk_at dksX7_move_7 13 rfl rfl)
theorem dX7_move_176 : decode cX7_move 176 = .ok (.ireturn, 1) := dk_172 (dk_at dksX7_move_7 15 rfl rfl)
abbrev cX7_rowFrom : ByteArray := prog_32_method_111_code
def yX7_rowFrom : MethodName := ⟨RX7, "rowFrom", "(II)I"⟩
def dkwX7_rowFrom_5 : List UInt8 := [42, 29, 182, 0, 116, 153, 0, 7, 29, 167, 0, 5, 16, 253, 172]
abbrev dktX7_rowFrom_5 : List UInt8 := dkwX7_rowFrom_5 ++ []
def dkwX7_rowFrom_4 : List UInt8 := [184, 0, 133, 154, 0, 6, 16, 253, 172, 16, 10, 29, 104, 22, 5, 136, 96, 62, 132, 4, 1, 167, 255, 202]
abbrev dktX7_rowFrom_4 : List UInt8 := dkwX7_rowFrom_4 ++ dktX7_rowFrom_5
def dkwX7_rowFrom_3 : List UInt8 := [42, 180, 0, 87, 16, 40, 27, 104, 28, 96, 21, 4, 96, 47, 55, 5, 22, 5, 10, 42, 180, 0, 7, 133]
abbrev dktX7_rowFrom_3 : List UInt8 := dkwX7_rowFrom_3 ++ dktX7_rowFrom_4
def dkwX7_rowFrom_2 : List UInt8 := [180, 0, 7, 100, 164, 0, 6, 16, 244, 172, 3, 62, 3, 54, 4, 21, 4, 42, 180, 0, 7, 162, 0, 51]
abbrev dktX7_rowFrom_2 : List UInt8 := dkwX7_rowFrom_2 ++ dktX7_rowFrom_3
def dkwX7_rowFrom_1 : List UInt8 := [156, 0, 8, 16, 245, 167, 0, 5, 16, 243, 172, 28, 155, 0, 18, 28, 42, 180, 0, 84, 27, 46, 42]
abbrev dktX7_rowFrom_1 : List UInt8 := dkwX7_rowFrom_1 ++ dktX7_rowFrom_2
def dkwX7_rowFrom_0 : List UInt8 := [27, 184, 1, 121, 154, 0, 5, 2, 172, 42, 180, 0, 81, 27, 46, 153, 0, 20, 42, 180, 0, 81, 27, 46]
abbrev dktX7_rowFrom_0 : List UInt8 := dkwX7_rowFrom_0 ++ dktX7_rowFrom_1
theorem dksX7_rowFrom_0 : cX7_rowFrom.data.toList.drop 0 = dktX7_rowFrom_0 := by decide +kernel
theorem dksX7_rowFrom_1 : cX7_rowFrom.data.toList.drop 24 = dktX7_rowFrom_1 := dk_seg dksX7_rowFrom_0 24 rfl rfl
theorem dksX7_rowFrom_2 : cX7_rowFrom.data.toList.drop 47 = dktX7_rowFrom_2 := dk_seg dksX7_rowFrom_1 23 rfl rfl
theorem dksX7_rowFrom_3 : cX7_rowFrom.data.toList.drop 71 = dktX7_rowFrom_3 := dk_seg dksX7_rowFrom_2 24 rfl rfl
theorem dksX7_rowFrom_4 : cX7_rowFrom.data.toList.drop 95 = dktX7_rowFrom_4 := dk_seg dksX7_rowFrom_3 24 rfl rfl
theorem dksX7_rowFrom_5 : cX7_rowFrom.data.toList.drop 119 = dktX7_rowFrom_5 := dk_seg dksX7_rowFrom_4 24 rfl rfl
theorem dX7_rowFrom_0 : decode cX7_rowFrom 0 = .ok (.iload_n 1, 1) := dk_27 (dk_at dksX7_rowFrom_0 0 rfl rfl)
theorem dX7_rowFrom_1 : decode cX7_rowFrom 1 = .ok (.invokestatic 377, 3) := dk_184 1 121 (dk_at dksX7_rowFrom_0 1 rfl rfl)
theorem dX7_rowFrom_4 : decode cX7_rowFrom 4 = .ok (.ifCond .ne 5, 3) := dk_154 0 5 (dk_at dksX7_rowFrom_0 4 rfl rfl)
theorem dX7_rowFrom_7 : decode cX7_rowFrom 7 = .ok (.iconst (-1), 1) := dk_2 (dk_at dksX7_rowFrom_0 7 rfl rfl)
theorem dX7_rowFrom_8 : decode cX7_rowFrom 8 = .ok (.ireturn, 1) := dk_172 (dk_at dksX7_rowFrom_0 8 rfl rfl)
theorem dX7_rowFrom_9 : decode cX7_rowFrom 9 = .ok (.aload_n 0, 1) := dk_42 (dk_at dksX7_rowFrom_0 9 rfl rfl)
theorem dX7_rowFrom_10 : decode cX7_rowFrom 10 = .ok (.getfield 81, 3) := dk_180 0 81 (dk_at dksX7_rowFrom_0 10 rfl rfl)
theorem dX7_rowFrom_13 : decode cX7_rowFrom 13 = .ok (.iload_n 1, 1) := dk_27 (dk_at dksX7_rowFrom_0 13 rfl rfl)
theorem dX7_rowFrom_14 : decode cX7_rowFrom 14 = .ok (.iaload, 1) := dk_46 (dk_at dksX7_rowFrom_0 14 rfl rfl)
theorem dX7_rowFrom_15 : decode cX7_rowFrom 15 = .ok (.ifCond .eq 20, 3) := dk_153 0 20 (dk_at dksX7_rowFrom_0 15 rfl rfl)
theorem dX7_rowFrom_18 : decode cX7_rowFrom 18 = .ok (.aload_n 0, 1) := dk_42 (dk_at dksX7_rowFrom_0 18 rfl rfl)
theorem dX7_rowFrom_19 : decode cX7_rowFrom 19 = .ok (.getfield 81, 3) := dk_180 0 81 (dk_at dksX7_rowFrom_0 19 rfl rfl)
theorem dX7_rowFrom_22 : decode cX7_rowFrom 22 = .ok (.iload_n 1, 1) := dk_27 (dk_at dksX7_rowFrom_0 22 rfl rfl)
theorem dX7_rowFrom_23 : decode cX7_rowFrom 23 = .ok (.iaload, 1) := dk_46 (dk_at dksX7_rowFrom_0 23 rfl rfl)
theorem dX7_rowFrom_24 : decode cX7_rowFrom 24 = .ok (.ifCond .ge 8, 3) := dk_156 0 8 (dk_at dksX7_rowFrom_1 0 rfl rfl)
theorem dX7_rowFrom_27 : decode cX7_rowFrom 27 = .ok (.bipush (-11), 2) := dk_16 245 (dk_at dksX7_rowFrom_1 3 rfl rfl)
theorem dX7_rowFrom_29 : decode cX7_rowFrom 29 = .ok (.goto 5, 3) := dk_167 0 5 (dk_at dksX7_rowFrom_1 5 rfl rfl)
theorem dX7_rowFrom_32 : decode cX7_rowFrom 32 = .ok (.bipush (-13), 2) := dk_16 243 (dk_at dksX7_rowFrom_1 8 rfl rfl)
theorem dX7_rowFrom_34 : decode cX7_rowFrom 34 = .ok (.ireturn, 1) := dk_172 (dk_at dksX7_rowFrom_1 10 rfl rfl)
theorem dX7_rowFrom_35 : decode cX7_rowFrom 35 = .ok (.iload_n 2, 1) := dk_28 (dk_at dksX7_rowFrom_1 11 rfl rfl)
theorem dX7_rowFrom_36 : decode cX7_rowFrom 36 = .ok (.ifCond .lt 18, 3) := dk_155 0 18 (dk_at dksX7_rowFrom_1 12 rfl rfl)
theorem dX7_rowFrom_39 : decode cX7_rowFrom 39 = .ok (.iload_n 2, 1) := dk_28 (dk_at dksX7_rowFrom_1 15 rfl rfl)
theorem dX7_rowFrom_40 : decode cX7_rowFrom 40 = .ok (.aload_n 0, 1) := dk_42 (dk_at dksX7_rowFrom_1 16 rfl rfl)
theorem dX7_rowFrom_41 : decode cX7_rowFrom 41 = .ok (.getfield 84, 3) := dk_180 0 84 (dk_at dksX7_rowFrom_1 17 rfl rfl)
theorem dX7_rowFrom_44 : decode cX7_rowFrom 44 = .ok (.iload_n 1, 1) := dk_27 (dk_at dksX7_rowFrom_1 20 rfl rfl)
theorem dX7_rowFrom_45 : decode cX7_rowFrom 45 = .ok (.iaload, 1) := dk_46 (dk_at dksX7_rowFrom_1 21 rfl rfl)
theorem dX7_rowFrom_46 : decode cX7_rowFrom 46 = .ok (.aload_n 0, 1) := dk_42 (dk_at dksX7_rowFrom_1 22 rfl rfl)
theorem dX7_rowFrom_47 : decode cX7_rowFrom 47 = .ok (.getfield 7, 3) := dk_180 0 7 (dk_at dksX7_rowFrom_2 0 rfl rfl)
theorem dX7_rowFrom_50 : decode cX7_rowFrom 50 = .ok (.isub, 1) := dk_100 (dk_at dksX7_rowFrom_2 3 rfl rfl)
theorem dX7_rowFrom_51 : decode cX7_rowFrom 51 = .ok (.if_icmp .le 6, 3) := dk_164 0 6 (dk_at dksX7_rowFrom_2 4 rfl rfl)
theorem dX7_rowFrom_54 : decode cX7_rowFrom 54 = .ok (.bipush (-12), 2) := dk_16 244 (dk_at dksX7_rowFrom_2 7 rfl rfl)
theorem dX7_rowFrom_56 : decode cX7_rowFrom 56 = .ok (.ireturn, 1) := dk_172 (dk_at dksX7_rowFrom_2 9 rfl rfl)
theorem dX7_rowFrom_57 : decode cX7_rowFrom 57 = .ok (.iconst 0, 1) := dk_3 (dk_at dksX7_rowFrom_2 10 rfl rfl)
theorem dX7_rowFrom_58 : decode cX7_rowFrom 58 = .ok (.istore_n 3, 1) := dk_62 (dk_at dksX7_rowFrom_2 11 rfl rfl)
theorem dX7_rowFrom_59 : decode cX7_rowFrom 59 = .ok (.iconst 0, 1) := dk_3 (dk_at dksX7_rowFrom_2 12 rfl rfl)
theorem dX7_rowFrom_60 : decode cX7_rowFrom 60 = .ok (.istore 4, 2) := dk_54 4 (dk_at dksX7_rowFrom_2 13 rfl rfl)
theorem dX7_rowFrom_62 : decode cX7_rowFrom 62 = .ok (.iload 4, 2) := dk_21 4 (dk_at dksX7_rowFrom_2 15 rfl rfl)
theorem dX7_rowFrom_64 : decode cX7_rowFrom 64 = .ok (.aload_n 0, 1) := dk_42 (dk_at dksX7_rowFrom_2 17 rfl rfl)
theorem dX7_rowFrom_65 : decode cX7_rowFrom 65 = .ok (.getfield 7, 3) := dk_180 0 7 (dk_at dksX7_rowFrom_2 18 rfl rfl)
theorem dX7_rowFrom_68 : decode cX7_rowFrom 68 = .ok (.if_icmp .ge 51, 3) := dk_162 0 51 (dk_at dksX7_rowFrom_2 21 rfl rfl)
theorem dX7_rowFrom_71 : decode cX7_rowFrom 71 = .ok (.aload_n 0, 1) := dk_42 (dk_at dksX7_rowFrom_3 0 rfl rfl)
theorem dX7_rowFrom_72 : decode cX7_rowFrom 72 = .ok (.getfield 87, 3) := dk_180 0 87 (dk_at dksX7_rowFrom_3 1 rfl rfl)
theorem dX7_rowFrom_75 : decode cX7_rowFrom 75 = .ok (.bipush 40, 2) := dk_16 40 (dk_at dksX7_rowFrom_3 4 rfl rfl)
theorem dX7_rowFrom_77 : decode cX7_rowFrom 77 = .ok (.iload_n 1, 1) := dk_27 (dk_at dksX7_rowFrom_3 6 rfl rfl)
theorem dX7_rowFrom_78 : decode cX7_rowFrom 78 = .ok (.imul, 1) := dk_104 (dk_at dksX7_rowFrom_3 7 rfl rfl)
theorem dX7_rowFrom_79 : decode cX7_rowFrom 79 = .ok (.iload_n 2, 1) := dk_28 (dk_at dksX7_rowFrom_3 8 rfl rfl)
theorem dX7_rowFrom_80 : decode cX7_rowFrom 80 = .ok (.iadd, 1) := dk_96 (dk_at dksX7_rowFrom_3 9 rfl rfl)
theorem dX7_rowFrom_81 : decode cX7_rowFrom 81 = .ok (.iload 4, 2) := dk_21 4 (dk_at dksX7_rowFrom_3 10 rfl rfl)
theorem dX7_rowFrom_83 : decode cX7_rowFrom 83 = .ok (.iadd, 1) := dk_96 (dk_at dksX7_rowFrom_3 12 rfl rfl)
theorem dX7_rowFrom_84 : decode cX7_rowFrom 84 = .ok (.laload, 1) := dk_47 (dk_at dksX7_rowFrom_3 13 rfl rfl)
theorem dX7_rowFrom_85 : decode cX7_rowFrom 85 = .ok (.lstore 5, 2) := dk_55 5 (dk_at dksX7_rowFrom_3 14 rfl rfl)
theorem dX7_rowFrom_87 : decode cX7_rowFrom 87 = .ok (.lload 5, 2) := dk_22 5 (dk_at dksX7_rowFrom_3 16 rfl rfl)
theorem dX7_rowFrom_89 : decode cX7_rowFrom 89 = .ok (.lconst 1, 1) := dk_10 (dk_at dksX7_rowFrom_3 18 rfl rfl)
theorem dX7_rowFrom_90 : decode cX7_rowFrom 90 = .ok (.aload_n 0, 1) := dk_42 (dk_at dksX7_rowFrom_3 19 rfl rfl)
theorem dX7_rowFrom_91 : decode cX7_rowFrom 91 = .ok (.getfield 7, 3) := dk_180 0 7 (dk_at dksX7_rowFrom_3 20 rfl rfl)
theorem dX7_rowFrom_94 : decode cX7_rowFrom 94 = .ok (.i2l, 1) := dk_133 (dk_at dksX7_rowFrom_3 23 rfl rfl)
theorem dX7_rowFrom_95 : decode cX7_rowFrom 95 = .ok (.invokestatic 133, 3) := dk_184 0 133 (dk_at dksX7_rowFrom_4 0 rfl rfl)
theorem dX7_rowFrom_98 : decode cX7_rowFrom 98 = .ok (.ifCond .ne 6, 3) := dk_154 0 6 (dk_at dksX7_rowFrom_4 3 rfl rfl)
theorem dX7_rowFrom_101 : decode cX7_rowFrom 101 = .ok (.bipush (-3), 2) := dk_16 253 (dk_at dksX7_rowFrom_4 6 rfl rfl)
theorem dX7_rowFrom_103 : decode cX7_rowFrom 103 = .ok (.ireturn, 1) := dk_172 (dk_at dksX7_rowFrom_4 8 rfl rfl)
theorem dX7_rowFrom_104 : decode cX7_rowFrom 104 = .ok (.bipush 10, 2) := dk_16 10 (dk_at dksX7_rowFrom_4 9 rfl rfl)
theorem dX7_rowFrom_106 : decode cX7_rowFrom 106 = .ok (.iload_n 3, 1) := dk_29 (dk_at dksX7_rowFrom_4 11 rfl rfl)
theorem dX7_rowFrom_107 : decode cX7_rowFrom 107 = .ok (.imul, 1) := dk_104 (dk_at dksX7_rowFrom_4 12 rfl rfl)
theorem dX7_rowFrom_108 : decode cX7_rowFrom 108 = .ok (.lload 5, 2) := dk_22 5 (dk_at dksX7_rowFrom_4 13 rfl rfl)
theorem dX7_rowFrom_110 : decode cX7_rowFrom 110 = .ok (.l2i, 1) := dk_136 (dk_at dksX7_rowFrom_4 15 rfl rfl)
theorem dX7_rowFrom_111 : decode cX7_rowFrom 111 = .ok (.iadd, 1) := dk_96 (dk_at dksX7_rowFrom_4 16 rfl rfl)
theorem dX7_rowFrom_112 : decode cX7_rowFrom 112 = .ok (.istore_n 3, 1) := dk_62 (dk_at dksX7_rowFrom_4 17 rfl rfl)
theorem dX7_rowFrom_113 : decode cX7_rowFrom 113 = .ok (.iinc 4 1, 3) := dk_132 4 1 (dk_at dksX7_rowFrom_4 18 rfl rfl)
theorem dX7_rowFrom_116 : decode cX7_rowFrom 116 = .ok (.goto (-54), 3) := dk_167 255 202 (dk_at dksX7_rowFrom_4 21 rfl rfl)
theorem dX7_rowFrom_119 : decode cX7_rowFrom 119 = .ok (.aload_n 0, 1) := dk_42 (dk_at dksX7_rowFrom_5 0 rfl rfl)
theorem dX7_rowFrom_120 : decode cX7_rowFrom 120 = .ok (.iload_n 3, 1) := dk_29 (dk_at dksX7_rowFrom_5 1 rfl rfl)
theorem dX7_rowFrom_121 : decode cX7_rowFrom 121 = .ok (.invokevirtual 116, 3) := dk_182 0 116 (dk_at dksX7_rowFrom_5 2 rfl rfl)
theorem dX7_rowFrom_124 : decode cX7_rowFrom 124 = .ok (.ifCond .eq 7, 3) := dk_153 0 7 (dk_at dksX7_rowFrom_5 5 rfl rfl)
theorem dX7_rowFrom_127 : decode cX7_rowFrom 127 = .ok (.iload_n 3, 1) := dk_29 (dk_at dksX7_rowFrom_5 8 rfl rfl)
theorem dX7_rowFrom_128 : decode cX7_rowFrom 128 = .ok (.goto 5, 3) := dk_167 0 5 (dk_at dksX7_rowFrom_5 9 rfl rfl)
theorem dX7_rowFrom_131 : decode cX7_rowFrom 131 = .ok (.bipush (-3), 2) := dk_16 253 (dk_at dksX7_rowFrom_5 12 rfl rfl)
theorem dX7_rowFrom_133 : decode cX7_rowFrom 133 = .ok (.ireturn, 1) := dk_172 (dk_at dksX7_rowFrom_5 14 rfl rfl)
abbrev cX7_shelf : ByteArray := prog_32_method_113_code
def yX7_shelf : MethodName := ⟨RX7, "shelf", "(III)I"⟩
def dkwX7_shelf_4 : List UInt8 := [180, 0, 99, 27, 28, 4, 160, 0, 12, 42, 180, 0, 84, 29, 46, 167, 0, 4, 3, 79, 4, 172]
abbrev dktX7_shelf_4 : List UInt8 := dkwX7_shelf_4 ++ []
def dkwX7_shelf_3 : List UInt8 := [42, 180, 0, 96, 27, 28, 4, 160, 0, 12, 42, 180, 0, 81, 29, 46, 167, 0, 4, 29, 79, 42]
abbrev dktX7_shelf_3 : List UInt8 := dkwX7_shelf_3 ++ dktX7_shelf_4
def dkwX7_shelf_2 : List UInt8 := [180, 0, 93, 27, 28, 4, 160, 0, 16, 42, 180, 0, 81, 29, 46, 156, 0, 7, 5, 167, 0, 4, 28, 79]
abbrev dktX7_shelf_2 : List UInt8 := dkwX7_shelf_2 ++ dktX7_shelf_3
def dkwX7_shelf_1 : List UInt8 := [29, 182, 0, 223, 153, 0, 15, 28, 4, 160, 0, 12, 29, 184, 1, 121, 154, 0, 5, 2, 172, 42]
abbrev dktX7_shelf_1 : List UInt8 := dkwX7_shelf_1 ++ dktX7_shelf_2
def dkwX7_shelf_0 : List UInt8 := [27, 184, 1, 150, 153, 0, 39, 28, 133, 9, 20, 0, 226, 184, 0, 133, 153, 0, 27, 28, 154, 0, 11, 42]
abbrev dktX7_shelf_0 : List UInt8 := dkwX7_shelf_0 ++ dktX7_shelf_1
theorem dksX7_shelf_0 : cX7_shelf.data.toList.drop 0 = dktX7_shelf_0 := by decide +kernel
theorem dksX7_shelf_1 : cX7_shelf.data.toList.drop 24 = dktX7_shelf_1 := dk_seg dksX7_shelf_0 24 rfl rfl
theorem dksX7_shelf_2 : cX7_shelf.data.toList.drop 46 = dktX7_shelf_2 := dk_seg dksX7_shelf_1 22 rfl rfl
theorem dksX7_shelf_3 : cX7_shelf.data.toList.drop 70 = dktX7_shelf_3 := dk_seg dksX7_shelf_2 24 rfl rfl
theorem dksX7_shelf_4 : cX7_shelf.data.toList.drop 92 = dktX7_shelf_4 := dk_seg dksX7_shelf_3 22 rfl rfl
theorem dX7_shelf_0 : decode cX7_shelf 0 = .ok (.iload_n 1, 1) := dk_27 (dk_at dksX7_shelf_0 0 rfl rfl)
theorem dX7_shelf_1 : decode cX7_shelf 1 = .ok (.invokestatic 406, 3) := dk_184 1 150 (dk_at dksX7_shelf_0 1 rfl rfl)
theorem dX7_shelf_4 : decode cX7_shelf 4 = .ok (.ifCond .eq 39, 3) := dk_153 0 39 (dk_at dksX7_shelf_0 4 rfl rfl)
theorem dX7_shelf_7 : decode cX7_shelf 7 = .ok (.iload_n 2, 1) := dk_28 (dk_at dksX7_shelf_0 7 rfl rfl)
theorem dX7_shelf_8 : decode cX7_shelf 8 = .ok (.i2l, 1) := dk_133 (dk_at dksX7_shelf_0 8 rfl rfl)
theorem dX7_shelf_9 : decode cX7_shelf 9 = .ok (.lconst 0, 1) := dk_9 (dk_at dksX7_shelf_0 9 rfl rfl)
theorem dX7_shelf_10 : decode cX7_shelf 10 = .ok (.ldc2_w 226, 3) := dk_20 0 226 (dk_at dksX7_shelf_0 10 rfl rfl)
theorem dX7_shelf_13 : decode cX7_shelf 13 = .ok (.invokestatic 133, 3) := dk_184 0 133 (dk_at dksX7_shelf_0 13 rfl rfl)
theorem dX7_shelf_16 : decode cX7_shelf 16 = .ok (.ifCond .eq 27, 3) := dk_153 0 27 (dk_at dksX7_shelf_0 16 rfl rfl)
theorem dX7_shelf_19 : decode cX7_shelf 19 = .ok (.iload_n 2, 1) := dk_28 (dk_at dksX7_shelf_0 19 rfl rfl)
theorem dX7_shelf_20 : decode cX7_shelf 20 = .ok (.ifCond .ne 11, 3) := dk_154 0 11 (dk_at dksX7_shelf_0 20 rfl rfl)
theorem dX7_shelf_23 : decode cX7_shelf 23 = .ok (.aload_n 0, 1) := dk_42 (dk_at dksX7_shelf_0 23 rfl rfl)
theorem dX7_shelf_24 : decode cX7_shelf 24 = .ok (.iload_n 3, 1) := dk_29 (dk_at dksX7_shelf_1 0 rfl rfl)
theorem dX7_shelf_25 : decode cX7_shelf 25 = .ok (.invokevirtual 223, 3) := dk_182 0 223 (dk_at dksX7_shelf_1 1 rfl rfl)
theorem dX7_shelf_28 : decode cX7_shelf 28 = .ok (.ifCond .eq 15, 3) := dk_153 0 15 (dk_at dksX7_shelf_1 4 rfl rfl)
theorem dX7_shelf_31 : decode cX7_shelf 31 = .ok (.iload_n 2, 1) := dk_28 (dk_at dksX7_shelf_1 7 rfl rfl)
theorem dX7_shelf_32 : decode cX7_shelf 32 = .ok (.iconst 1, 1) := dk_4 (dk_at dksX7_shelf_1 8 rfl rfl)
theorem dX7_shelf_33 : decode cX7_shelf 33 = .ok (.if_icmp .ne 12, 3) := dk_160 0 12 (dk_at dksX7_shelf_1 9 rfl rfl)
theorem dX7_shelf_36 : decode cX7_shelf 36 = .ok (.iload_n 3, 1) := dk_29 (dk_at dksX7_shelf_1 12 rfl rfl)
theorem dX7_shelf_37 : decode cX7_shelf 37 = .ok (.invokestatic 377, 3) := dk_184 1 121 (dk_at dksX7_shelf_1 13 rfl rfl)
theorem dX7_shelf_40 : decode cX7_shelf 40 = .ok (.ifCond .ne 5, 3) := dk_154 0 5 (dk_at dksX7_shelf_1 16 rfl rfl)
theorem dX7_shelf_43 : decode cX7_shelf 43 = .ok (.iconst (-1), 1) := dk_2 (dk_at dksX7_shelf_1 19 rfl rfl)
theorem dX7_shelf_44 : decode cX7_shelf 44 = .ok (.ireturn, 1) := dk_172 (dk_at dksX7_shelf_1 20 rfl rfl)
theorem dX7_shelf_45 : decode cX7_shelf 45 = .ok (.aload_n 0, 1) := dk_42 (dk_at dksX7_shelf_1 21 rfl rfl)
theorem dX7_shelf_46 : decode cX7_shelf 46 = .ok (.getfield 93, 3) := dk_180 0 93 (dk_at dksX7_shelf_2 0 rfl rfl)
theorem dX7_shelf_49 : decode cX7_shelf 49 = .ok (.iload_n 1, 1) := dk_27 (dk_at dksX7_shelf_2 3 rfl rfl)
theorem dX7_shelf_50 : decode cX7_shelf 50 = .ok (.iload_n 2, 1) := dk_28 (dk_at dksX7_shelf_2 4 rfl rfl)
theorem dX7_shelf_51 : decode cX7_shelf 51 = .ok (.iconst 1, 1) := dk_4 (dk_at dksX7_shelf_2 5 rfl rfl)
theorem dX7_shelf_52 : decode cX7_shelf 52 = .ok (.if_icmp .ne 16, 3) := dk_160 0 16 (dk_at dksX7_shelf_2 6 rfl rfl)
theorem dX7_shelf_55 : decode cX7_shelf 55 = .ok (.aload_n 0, 1) := dk_42 (dk_at dksX7_shelf_2 9 rfl rfl)
theorem dX7_shelf_56 : decode cX7_shelf 56 = .ok (.getfield 81, 3) := dk_180 0 81 (dk_at dksX7_shelf_2 10 rfl rfl)
theorem dX7_shelf_59 : decode cX7_shelf 59 = .ok (.iload_n 3, 1) := dk_29 (dk_at dksX7_shelf_2 13 rfl rfl)
theorem dX7_shelf_60 : decode cX7_shelf 60 = .ok (.iaload, 1) := dk_46 (dk_at dksX7_shelf_2 14 rfl rfl)
theorem dX7_shelf_61 : decode cX7_shelf 61 = .ok (.ifCond .ge 7, 3) := dk_156 0 7 (dk_at dksX7_shelf_2 15 rfl rfl)
theorem dX7_shelf_64 : decode cX7_shelf 64 = .ok (.iconst 2, 1) := dk_5 (dk_at dksX7_shelf_2 18 rfl rfl)
theorem dX7_shelf_65 : decode cX7_shelf 65 = .ok (.goto 4, 3) := dk_167 0 4 (dk_at dksX7_shelf_2 19 rfl rfl)
theorem dX7_shelf_68 : decode cX7_shelf 68 = .ok (.iload_n 2, 1) := dk_28 (dk_at dksX7_shelf_2 22 rfl rfl)
theorem dX7_shelf_69 : decode cX7_shelf 69 = .ok (.iastore, 1) := dk_79 (dk_at dksX7_shelf_2 23 rfl rfl)
theorem dX7_shelf_70 : decode cX7_shelf 70 = .ok (.aload_n 0, 1) := dk_42 (dk_at dksX7_shelf_3 0 rfl rfl)
theorem dX7_shelf_71 : decode cX7_shelf 71 = .ok (.getfield 96, 3) := dk_180 0 96 (dk_at dksX7_shelf_3 1 rfl rfl)
theorem dX7_shelf_74 : decode cX7_shelf 74 = .ok (.iload_n 1, 1) := dk_27 (dk_at dksX7_shelf_3 4 rfl rfl)
theorem dX7_shelf_75 : decode cX7_shelf 75 = .ok (.iload_n 2, 1) := dk_28 (dk_at dksX7_shelf_3 5 rfl rfl)
theorem dX7_shelf_76 : decode cX7_shelf 76 = .ok (.iconst 1, 1) := dk_4 (dk_at dksX7_shelf_3 6 rfl rfl)
theorem dX7_shelf_77 : decode cX7_shelf 77 = .ok (.if_icmp .ne 12, 3) := dk_160 0 12 (dk_at dksX7_shelf_3 7 rfl rfl)
theorem dX7_shelf_80 : decode cX7_shelf 80 = .ok (.aload_n 0, 1) := dk_42 (dk_at dksX7_shelf_3 10 rfl rfl)
theorem dX7_shelf_81 : decode cX7_shelf 81 = .ok (.getfield 81, 3) := dk_180 0 81 (dk_at dksX7_shelf_3 11 rfl rfl)
theorem dX7_shelf_84 : decode cX7_shelf 84 = .ok (.iload_n 3, 1) := dk_29 (dk_at dksX7_shelf_3 14 rfl rfl)
theorem dX7_shelf_85 : decode cX7_shelf 85 = .ok (.iaload, 1) := dk_46 (dk_at dksX7_shelf_3 15 rfl rfl)
theorem dX7_shelf_86 : decode cX7_shelf 86 = .ok (.goto 4, 3) := dk_167 0 4 (dk_at dksX7_shelf_3 16 rfl rfl)
theorem dX7_shelf_89 : decode cX7_shelf 89 = .ok (.iload_n 3, 1) := dk_29 (dk_at dksX7_shelf_3 19 rfl rfl)
theorem dX7_shelf_90 : decode cX7_shelf 90 = .ok (.iastore, 1) := dk_79 (dk_at dksX7_shelf_3 20 rfl rfl)
theorem dX7_shelf_91 : decode cX7_shelf 91 = .ok (.aload_n 0, 1) := dk_42 (dk_at dksX7_shelf_3 21 rfl rfl)
theorem dX7_shelf_92 : decode cX7_shelf 92 = .ok (.getfield 99, 3) := dk_180 0 99 (dk_at dksX7_shelf_4 0 rfl rfl)
theorem dX7_shelf_95 : decode cX7_shelf 95 = .ok (.iload_n 1, 1) := dk_27 (dk_at dksX7_shelf_4 3 rfl rfl)
theorem dX7_shelf_96 : decode cX7_shelf 96 = .ok (.iload_n 2, 1) := dk_28 (dk_at dksX7_shelf_4 4 rfl rfl)
theorem dX7_shelf_97 : decode cX7_shelf 97 = .ok (.iconst 1, 1) := dk_4 (dk_at dksX7_shelf_4 5 rfl rfl)
theorem dX7_shelf_98 : decode cX7_shelf 98 = .ok (.if_icmp .ne 12, 3) := dk_160 0 12 (dk_at dksX7_shelf_4 6 rfl rfl)
theorem dX7_shelf_101 : decode cX7_shelf 101 = .ok (.aload_n 0, 1) := dk_42 (dk_at dksX7_shelf_4 9 rfl rfl)
theorem dX7_shelf_102 : decode cX7_shelf 102 = .ok (.getfield 84, 3) := dk_180 0 84 (dk_at dksX7_shelf_4 10 rfl rfl)
theorem dX7_shelf_105 : decode cX7_shelf 105 = .ok (.iload_n 3, 1) := dk_29 (dk_at dksX7_shelf_4 13 rfl rfl)
theorem dX7_shelf_106 : decode cX7_shelf 106 = .ok (.iaload, 1) := dk_46 (dk_at dksX7_shelf_4 14 rfl rfl)
theorem dX7_shelf_107 : decode cX7_shelf 107 = .ok (.goto 4, 3) := dk_167 0 4 (dk_at dksX7_shelf_4 15 rfl rfl)
theorem dX7_shelf_110 : decode cX7_shelf 110 = .ok (.iconst 0, 1) := dk_3 (dk_at dksX7_shelf_4 18 rfl rfl)
theorem dX7_shelf_111 : decode cX7_shelf 111 = .ok (.iastore, 1) := dk_79 (dk_at dksX7_shelf_4 19 rfl rfl)
theorem dX7_shelf_112 : decode cX7_shelf 112 = .ok (.iconst 1, 1) := dk_4 (dk_at dksX7_shelf_4 20 rfl rfl)
theorem dX7_shelf_113 : decode cX7_shelf 113 = .ok (.ireturn, 1) := dk_172 (dk_at dksX7_shelf_4 21 rfl rfl)
abbrev cX7_isShelf : ByteArray := prog_32_method_112_code
def yX7_isShelf : MethodName := ⟨RX7, "isShelf", "(I)Z"⟩
def dkwX7_isShelf_0 : List UInt8 := [26, 133, 9, 20, 0, 157, 184, 0, 133, 172]
abbrev dktX7_isShelf_0 : List UInt8 := dkwX7_isShelf_0 ++ []
theorem dksX7_isShelf_0 : cX7_isShelf.data.toList.drop 0 = dktX7_isShelf_0 := by decide +kernel
theorem dX7_isShelf_0 : decode cX7_isShelf 0 = .ok (.iload_n 0, 1) := dk_26 (dk_at dksX7_isShelf_0 0 rfl rfl)
theorem dX7_isShelf_1 : decode cX7_isShelf 1 = .ok (.i2l, 1) := dk_133 (dk_at dksX7_isShelf_0 1 rfl rfl)
theorem dX7_isShelf_2 : decode cX7_isShelf 2 = .ok (.lconst 0, 1) := dk_9 (dk_at dksX7_isShelf_0 2 rfl rfl)
theorem dX7_isShelf_3 : decode cX7_isShelf 3 = .ok (.ldc2_w 157, 3) := dk_20 0 157 (dk_at dksX7_isShelf_0 3 rfl rfl)
theorem dX7_isShelf_6 : decode cX7_isShelf 6 = .ok (.invokestatic 133, 3) := dk_184 0 133 (dk_at dksX7_isShelf_0 6 rfl rfl)
theorem dX7_isShelf_9 : decode cX7_isShelf 9 = .ok (.ireturn, 1) := dk_172 (dk_at dksX7_isShelf_0 9 rfl rfl)
abbrev cX7_taken : ByteArray := prog_32_method_115_code
def yX7_taken : MethodName := ⟨RX7, "taken", "(II)I"⟩
def dkwX7_taken_4 : List UInt8 := [180, 0, 96, 27, 46, 96, 160, 0, 12, 42, 180, 0, 99, 27, 46, 167, 0, 5, 16, 243, 172]
abbrev dktX7_taken_4 : List UInt8 := dkwX7_taken_4 ++ []
def dkwX7_taken_3 : List UInt8 := [184, 1, 160, 153, 0, 12, 42, 180, 0, 96, 27, 46, 167, 0, 5, 16, 243, 172, 28, 16, 10, 42]
abbrev dktX7_taken_3 : List UInt8 := dkwX7_taken_3 ++ dktX7_taken_4
def dkwX7_taken_2 : List UInt8 := [172, 29, 154, 0, 38, 28, 8, 163, 0, 30, 42, 180, 0, 16, 42, 180, 0, 96, 27, 46, 46, 28]
abbrev dktX7_taken_2 : List UInt8 := dkwX7_taken_2 ++ dktX7_taken_3
def dkwX7_taken_1 : List UInt8 := [20, 1, 155, 184, 0, 133, 154, 0, 5, 2, 172, 42, 27, 182, 1, 157, 62, 29, 5, 160, 0, 6, 16, 245]
abbrev dktX7_taken_1 : List UInt8 := dkwX7_taken_1 ++ dktX7_taken_2
def dkwX7_taken_0 : List UInt8 := [27, 184, 1, 150, 153, 0, 29, 28, 133, 9, 20, 0, 219, 184, 0, 133, 154, 0, 19, 28, 133, 20, 1, 153]
abbrev dktX7_taken_0 : List UInt8 := dkwX7_taken_0 ++ dktX7_taken_1
theorem dksX7_taken_0 : cX7_taken.data.toList.drop 0 = dktX7_taken_0 := by decide +kernel
theorem dksX7_taken_1 : cX7_taken.data.toList.drop 24 = dktX7_taken_1 := dk_seg dksX7_taken_0 24 rfl rfl
theorem dksX7_taken_2 : cX7_taken.data.toList.drop 48 = dktX7_taken_2 := dk_seg dksX7_taken_1 24 rfl rfl
theorem dksX7_taken_3 : cX7_taken.data.toList.drop 70 = dktX7_taken_3 := dk_seg dksX7_taken_2 22 rfl rfl
theorem dksX7_taken_4 : cX7_taken.data.toList.drop 92 = dktX7_taken_4 := dk_seg dksX7_taken_3 22 rfl rfl
theorem dX7_taken_0 : decode cX7_taken 0 = .ok (.iload_n 1, 1) := dk_27 (dk_at dksX7_taken_0 0 rfl rfl)
theorem dX7_taken_1 : decode cX7_taken 1 = .ok (.invokestatic 406, 3) := dk_184 1 150 (dk_at dksX7_taken_0 1 rfl rfl)
theorem dX7_taken_4 : decode cX7_taken 4 = .ok (.ifCond .eq 29, 3) := dk_153 0 29 (dk_at dksX7_taken_0 4 rfl rfl)
theorem dX7_taken_7 : decode cX7_taken 7 = .ok (.iload_n 2, 1) := dk_28 (dk_at dksX7_taken_0 7 rfl rfl)
theorem dX7_taken_8 : decode cX7_taken 8 = .ok (.i2l, 1) := dk_133 (dk_at dksX7_taken_0 8 rfl rfl)
theorem dX7_taken_9 : decode cX7_taken 9 = .ok (.lconst 0, 1) := dk_9 (dk_at dksX7_taken_0 9 rfl rfl)
theorem dX7_taken_10 : decode cX7_taken 10 = .ok (.ldc2_w 219, 3) := dk_20 0 219 (dk_at dksX7_taken_0 10 rfl rfl)
theorem dX7_taken_13 : decode cX7_taken 13 = .ok (.invokestatic 133, 3) := dk_184 0 133 (dk_at dksX7_taken_0 13 rfl rfl)
theorem dX7_taken_16 : decode cX7_taken 16 = .ok (.ifCond .ne 19, 3) := dk_154 0 19 (dk_at dksX7_taken_0 16 rfl rfl)
theorem dX7_taken_19 : decode cX7_taken 19 = .ok (.iload_n 2, 1) := dk_28 (dk_at dksX7_taken_0 19 rfl rfl)
theorem dX7_taken_20 : decode cX7_taken 20 = .ok (.i2l, 1) := dk_133 (dk_at dksX7_taken_0 20 rfl rfl)
theorem dX7_taken_21 : decode cX7_taken 21 = .ok (.ldc2_w 409, 3) := dk_20 1 153 (dk_at dksX7_taken_0 21 rfl rfl)
theorem dX7_taken_24 : decode cX7_taken 24 = .ok (.ldc2_w 411, 3) := dk_20 1 155 (dk_at dksX7_taken_1 0 rfl rfl)
theorem dX7_taken_27 : decode cX7_taken 27 = .ok (.invokestatic 133, 3) := dk_184 0 133 (dk_at dksX7_taken_1 3 rfl rfl)
theorem dX7_taken_30 : decode cX7_taken 30 = .ok (.ifCond .ne 5, 3) := dk_154 0 5 (dk_at dksX7_taken_1 6 rfl rfl)
theorem dX7_taken_33 : decode cX7_taken 33 = .ok (.iconst (-1), 1) := dk_2 (dk_at dksX7_taken_1 9 rfl rfl)
theorem dX7_taken_34 : decode cX7_taken 34 = .ok (.ireturn, 1) := dk_172 (dk_at dksX7_taken_1 10 rfl rfl)
theorem dX7_taken_35 : decode cX7_taken 35 = .ok (.aload_n 0, 1) := dk_42 (dk_at dksX7_taken_1 11 rfl rfl)
theorem dX7_taken_36 : decode cX7_taken 36 = .ok (.iload_n 1, 1) := dk_27 (dk_at dksX7_taken_1 12 rfl rfl)
theorem dX7_taken_37 : decode cX7_taken 37 = .ok (.invokevirtual 413, 3) := dk_182 1 157 (dk_at dksX7_taken_1 13 rfl rfl)
theorem dX7_taken_40 : decode cX7_taken 40 = .ok (.istore_n 3, 1) := dk_62 (dk_at dksX7_taken_1 16 rfl rfl)
theorem dX7_taken_41 : decode cX7_taken 41 = .ok (.iload_n 3, 1) := dk_29 (dk_at dksX7_taken_1 17 rfl rfl)
theorem dX7_taken_42 : decode cX7_taken 42 = .ok (.iconst 2, 1) := dk_5 (dk_at dksX7_taken_1 18 rfl rfl)
theorem dX7_taken_43 : decode cX7_taken 43 = .ok (.if_icmp .ne 6, 3) := dk_160 0 6 (dk_at dksX7_taken_1 19 rfl rfl)
theorem dX7_taken_46 : decode cX7_taken 46 = .ok (.bipush (-11), 2) := dk_16 245 (dk_at dksX7_taken_1 22 rfl rfl)
theorem dX7_taken_48 : decode cX7_taken 48 = .ok (.ireturn, 1) := dk_172 (dk_at dksX7_taken_2 0 rfl rfl)
theorem dX7_taken_49 : decode cX7_taken 49 = .ok (.iload_n 3, 1) := dk_29 (dk_at dksX7_taken_2 1 rfl rfl)
theorem dX7_taken_50 : decode cX7_taken 50 = .ok (.ifCond .ne 38, 3) := dk_154 0 38 (dk_at dksX7_taken_2 2 rfl rfl)
theorem dX7_taken_53 : decode cX7_taken 53 = .ok (.iload_n 2, 1) := dk_28 (dk_at dksX7_taken_2 5 rfl rfl)
theorem dX7_taken_54 : decode cX7_taken 54 = .ok (.iconst 5, 1) := dk_8 (dk_at dksX7_taken_2 6 rfl rfl)
theorem dX7_taken_55 : decode cX7_taken 55 = .ok (.if_icmp .gt 30, 3) := dk_163 0 30 (dk_at dksX7_taken_2 7 rfl rfl)
theorem dX7_taken_58 : decode cX7_taken 58 = .ok (.aload_n 0, 1) := dk_42 (dk_at dksX7_taken_2 10 rfl rfl)
theorem dX7_taken_59 : decode cX7_taken 59 = .ok (.getfield 16, 3) := dk_180 0 16 (dk_at dksX7_taken_2 11 rfl rfl)
theorem dX7_taken_62 : decode cX7_taken 62 = .ok (.aload_n 0, 1) := dk_42 (dk_at dksX7_taken_2 14 rfl rfl)
theorem dX7_taken_63 : decode cX7_taken 63 = .ok (.getfield 96, 3) := dk_180 0 96 (dk_at dksX7_taken_2 15 rfl rfl)
theorem dX7_taken_66 : decode cX7_taken 66 = .ok (.iload_n 1, 1) := dk_27 (dk_at dksX7_taken_2 18 rfl rfl)
theorem dX7_taken_67 : decode cX7_taken 67 = .ok (.iaload, 1) := dk_46 (dk_at dksX7_taken_2 19 rfl rfl)
theorem dX7_taken_68 : decode cX7_taken 68 = .ok (.iaload, 1) := dk_46 (dk_at dksX7_taken_2 20 rfl rfl)
theorem dX7_taken_69 : decode cX7_taken 69 = .ok (.iload_n 2, 1) := dk_28 (dk_at dksX7_taken_2 21 rfl rfl)
theorem dX7_taken_70 : decode cX7_taken 70 = .ok (.invokestatic 416, 3) := dk_184 1 160 (dk_at dksX7_taken_3 0 rfl rfl)
theorem dX7_taken_73 : decode cX7_taken 73 = .ok (.ifCond .eq 12, 3) := dk_153 0 12 (dk_at dksX7_taken_3 3 rfl rfl)
theorem dX7_taken_76 : decode cX7_taken 76 = .ok (.aload_n 0, 1) := dk_42 (dk_at dksX7_taken_3 6 rfl rfl)
theorem dX7_taken_77 : decode cX7_taken 77 = .ok (.getfield 96, 3) := dk_180 0 96 (dk_at dksX7_taken_3 7 rfl rfl)
theorem dX7_taken_80 : decode cX7_taken 80 = .ok (.iload_n 1, 1) := dk_27 (dk_at dksX7_taken_3 10 rfl rfl)
theorem dX7_taken_81 : decode cX7_taken 81 = .ok (.iaload, 1) := dk_46 (dk_at dksX7_taken_3 11 rfl rfl)
theorem dX7_taken_82 : decode cX7_taken 82 = .ok (.goto 5, 3) := dk_167 0 5 (dk_at dksX7_taken_3 12 rfl rfl)
theorem dX7_taken_85 : decode cX7_taken 85 = .ok (.bipush (-13), 2) := dk_16 243 (dk_at dksX7_taken_3 15 rfl rfl)
theorem dX7_taken_87 : decode cX7_taken 87 = .ok (.ireturn, 1) := dk_172 (dk_at dksX7_taken_3 17 rfl rfl)
theorem dX7_taken_88 : decode cX7_taken 88 = .ok (.iload_n 2, 1) := dk_28 (dk_at dksX7_taken_3 18 rfl rfl)
theorem dX7_taken_89 : decode cX7_taken 89 = .ok (.bipush 10, 2) := dk_16 10 (dk_at dksX7_taken_3 19 rfl rfl)
theorem dX7_taken_91 : decode cX7_taken 91 = .ok (.aload_n 0, 1) := dk_42 (dk_at dksX7_taken_3 21 rfl rfl)
theorem dX7_taken_92 : decode cX7_taken 92 = .ok (.getfield 96, 3) := dk_180 0 96 (dk_at dksX7_taken_4 0 rfl rfl)
theorem dX7_taken_95 : decode cX7_taken 95 = .ok (.iload_n 1, 1) := dk_27 (dk_at dksX7_taken_4 3 rfl rfl)
theorem dX7_taken_96 : decode cX7_taken 96 = .ok (.iaload, 1) := dk_46 (dk_at dksX7_taken_4 4 rfl rfl)
theorem dX7_taken_97 : decode cX7_taken 97 = .ok (.iadd, 1) := dk_96 (dk_at dksX7_taken_4 5 rfl rfl)
theorem dX7_taken_98 : decode cX7_taken 98 = .ok (.if_icmp .ne 12, 3) := dk_160 0 12 (dk_at dksX7_taken_4 6 rfl rfl)
theorem dX7_taken_101 : decode cX7_taken 101 = .ok (.aload_n 0, 1) := dk_42 (dk_at dksX7_taken_4 9 rfl rfl)
theorem dX7_taken_102 : decode cX7_taken 102 = .ok (.getfield 99, 3) := dk_180 0 99 (dk_at dksX7_taken_4 10 rfl rfl)
theorem dX7_taken_105 : decode cX7_taken 105 = .ok (.iload_n 1, 1) := dk_27 (dk_at dksX7_taken_4 13 rfl rfl)
theorem dX7_taken_106 : decode cX7_taken 106 = .ok (.iaload, 1) := dk_46 (dk_at dksX7_taken_4 14 rfl rfl)
theorem dX7_taken_107 : decode cX7_taken 107 = .ok (.goto 5, 3) := dk_167 0 5 (dk_at dksX7_taken_4 15 rfl rfl)
theorem dX7_taken_110 : decode cX7_taken 110 = .ok (.bipush (-13), 2) := dk_16 243 (dk_at dksX7_taken_4 18 rfl rfl)
theorem dX7_taken_112 : decode cX7_taken 112 = .ok (.ireturn, 1) := dk_172 (dk_at dksX7_taken_4 20 rfl rfl)
abbrev cX7_heldBy : ByteArray := prog_32_method_114_code
def yX7_heldBy : MethodName := ⟨RX7, "heldBy", "(I)I"⟩
def dkwX7_heldBy_1 : List UInt8 := [167, 0, 9, 42, 180, 0, 93, 27, 46, 172]
abbrev dktX7_heldBy_1 : List UInt8 := dkwX7_heldBy_1 ++ []
def dkwX7_heldBy_0 : List UInt8 := [42, 180, 0, 93, 27, 46, 154, 0, 20, 42, 42, 180, 0, 96, 27, 46, 182, 0, 223, 154, 0, 7, 5]
abbrev dktX7_heldBy_0 : List UInt8 := dkwX7_heldBy_0 ++ dktX7_heldBy_1
theorem dksX7_heldBy_0 : cX7_heldBy.data.toList.drop 0 = dktX7_heldBy_0 := by decide +kernel
theorem dksX7_heldBy_1 : cX7_heldBy.data.toList.drop 23 = dktX7_heldBy_1 := dk_seg dksX7_heldBy_0 23 rfl rfl
theorem dX7_heldBy_0 : decode cX7_heldBy 0 = .ok (.aload_n 0, 1) := dk_42 (dk_at dksX7_heldBy_0 0 rfl rfl)
theorem dX7_heldBy_1 : decode cX7_heldBy 1 = .ok (.getfield 93, 3) := dk_180 0 93 (dk_at dksX7_heldBy_0 1 rfl rfl)
theorem dX7_heldBy_4 : decode cX7_heldBy 4 = .ok (.iload_n 1, 1) := dk_27 (dk_at dksX7_heldBy_0 4 rfl rfl)
theorem dX7_heldBy_5 : decode cX7_heldBy 5 = .ok (.iaload, 1) := dk_46 (dk_at dksX7_heldBy_0 5 rfl rfl)
theorem dX7_heldBy_6 : decode cX7_heldBy 6 = .ok (.ifCond .ne 20, 3) := dk_154 0 20 (dk_at dksX7_heldBy_0 6 rfl rfl)
theorem dX7_heldBy_9 : decode cX7_heldBy 9 = .ok (.aload_n 0, 1) := dk_42 (dk_at dksX7_heldBy_0 9 rfl rfl)
theorem dX7_heldBy_10 : decode cX7_heldBy 10 = .ok (.aload_n 0, 1) := dk_42 (dk_at dksX7_heldBy_0 10 rfl rfl)
theorem dX7_heldBy_11 : decode cX7_heldBy 11 = .ok (.getfield 96, 3) := dk_180 0 96 (dk_at dksX7_heldBy_0 11 rfl rfl)
theorem dX7_heldBy_14 : decode cX7_heldBy 14 = .ok (.iload_n 1, 1) := dk_27 (dk_at dksX7_heldBy_0 14 rfl rfl)
theorem dX7_heldBy_15 : decode cX7_heldBy 15 = .ok (.iaload, 1) := dk_46 (dk_at dksX7_heldBy_0 15 rfl rfl)
theorem dX7_heldBy_16 : decode cX7_heldBy 16 = .ok (.invokevirtual 223, 3) := dk_182 0 223 (dk_at dksX7_heldBy_0 16 rfl rfl)
theorem dX7_heldBy_19 : decode cX7_heldBy 19 = .ok (.ifCond .ne 7, 3) := dk_154 0 7 (dk_at dksX7_heldBy_0 19 rfl rfl)
theorem dX7_heldBy_22 : decode cX7_heldBy 22 = .ok (.iconst 2, 1) := dk_5 (dk_at dksX7_heldBy_0 22 rfl rfl)
theorem dX7_heldBy_23 : decode cX7_heldBy 23 = .ok (.goto 9, 3) := dk_167 0 9 (dk_at dksX7_heldBy_1 0 rfl rfl)
theorem dX7_heldBy_26 : decode cX7_heldBy 26 = .ok (.aload_n 0, 1) := dk_42 (dk_at dksX7_heldBy_1 3 rfl rfl)
theorem dX7_heldBy_27 : decode cX7_heldBy 27 = .ok (.getfield 93, 3) := dk_180 0 93 (dk_at dksX7_heldBy_1 4 rfl rfl)
theorem dX7_heldBy_30 : decode cX7_heldBy 30 = .ok (.iload_n 1, 1) := dk_27 (dk_at dksX7_heldBy_1 7 rfl rfl)
theorem dX7_heldBy_31 : decode cX7_heldBy 31 = .ok (.iaload, 1) := dk_46 (dk_at dksX7_heldBy_1 8 rfl rfl)
theorem dX7_heldBy_32 : decode cX7_heldBy 32 = .ok (.ireturn, 1) := dk_172 (dk_at dksX7_heldBy_1 9 rfl rfl)
abbrev cX7_isUnder : ByteArray := prog_32_method_45_code
def yX7_isUnder : MethodName := ⟨RX7, "isUnder", "(II)Z"⟩
def dkwX7_isUnder_1 : List UInt8 := [27, 5, 160, 0, 12, 26, 8, 160, 0, 7, 4, 167, 0, 4, 3, 172]
abbrev dktX7_isUnder_1 : List UInt8 := dkwX7_isUnder_1 ++ []
def dkwX7_isUnder_0 : List UInt8 := [27, 153, 0, 33, 26, 27, 159, 0, 28, 27, 4, 160, 0, 13, 26, 6, 159, 0, 18, 26, 7, 159, 0, 13]
abbrev dktX7_isUnder_0 : List UInt8 := dkwX7_isUnder_0 ++ dktX7_isUnder_1
theorem dksX7_isUnder_0 : cX7_isUnder.data.toList.drop 0 = dktX7_isUnder_0 := by decide +kernel
theorem dksX7_isUnder_1 : cX7_isUnder.data.toList.drop 24 = dktX7_isUnder_1 := dk_seg dksX7_isUnder_0 24 rfl rfl
theorem dX7_isUnder_0 : decode cX7_isUnder 0 = .ok (.iload_n 1, 1) := dk_27 (dk_at dksX7_isUnder_0 0 rfl rfl)
theorem dX7_isUnder_1 : decode cX7_isUnder 1 = .ok (.ifCond .eq 33, 3) := dk_153 0 33 (dk_at dksX7_isUnder_0 1 rfl rfl)
theorem dX7_isUnder_4 : decode cX7_isUnder 4 = .ok (.iload_n 0, 1) := dk_26 (dk_at dksX7_isUnder_0 4 rfl rfl)
theorem dX7_isUnder_5 : decode cX7_isUnder 5 = .ok (.iload_n 1, 1) := dk_27 (dk_at dksX7_isUnder_0 5 rfl rfl)
theorem dX7_isUnder_6 : decode cX7_isUnder 6 = .ok (.if_icmp .eq 28, 3) := dk_159 0 28 (dk_at dksX7_isUnder_0 6 rfl rfl)
theorem dX7_isUnder_9 : decode cX7_isUnder 9 = .ok (.iload_n 1, 1) := dk_27 (dk_at dksX7_isUnder_0 9 rfl rfl)
theorem dX7_isUnder_10 : decode cX7_isUnder 10 = .ok (.iconst 1, 1) := dk_4 (dk_at dksX7_isUnder_0 10 rfl rfl)
theorem dX7_isUnder_11 : decode cX7_isUnder 11 = .ok (.if_icmp .ne 13, 3) := dk_160 0 13 (dk_at dksX7_isUnder_0 11 rfl rfl)
theorem dX7_isUnder_14 : decode cX7_isUnder 14 = .ok (.iload_n 0, 1) := dk_26 (dk_at dksX7_isUnder_0 14 rfl rfl)
theorem dX7_isUnder_15 : decode cX7_isUnder 15 = .ok (.iconst 3, 1) := dk_6 (dk_at dksX7_isUnder_0 15 rfl rfl)
theorem dX7_isUnder_16 : decode cX7_isUnder 16 = .ok (.if_icmp .eq 18, 3) := dk_159 0 18 (dk_at dksX7_isUnder_0 16 rfl rfl)
theorem dX7_isUnder_19 : decode cX7_isUnder 19 = .ok (.iload_n 0, 1) := dk_26 (dk_at dksX7_isUnder_0 19 rfl rfl)
theorem dX7_isUnder_20 : decode cX7_isUnder 20 = .ok (.iconst 4, 1) := dk_7 (dk_at dksX7_isUnder_0 20 rfl rfl)
theorem dX7_isUnder_21 : decode cX7_isUnder 21 = .ok (.if_icmp .eq 13, 3) := dk_159 0 13 (dk_at dksX7_isUnder_0 21 rfl rfl)
theorem dX7_isUnder_24 : decode cX7_isUnder 24 = .ok (.iload_n 1, 1) := dk_27 (dk_at dksX7_isUnder_1 0 rfl rfl)
theorem dX7_isUnder_25 : decode cX7_isUnder 25 = .ok (.iconst 2, 1) := dk_5 (dk_at dksX7_isUnder_1 1 rfl rfl)
theorem dX7_isUnder_26 : decode cX7_isUnder 26 = .ok (.if_icmp .ne 12, 3) := dk_160 0 12 (dk_at dksX7_isUnder_1 2 rfl rfl)
theorem dX7_isUnder_29 : decode cX7_isUnder 29 = .ok (.iload_n 0, 1) := dk_26 (dk_at dksX7_isUnder_1 5 rfl rfl)
theorem dX7_isUnder_30 : decode cX7_isUnder 30 = .ok (.iconst 5, 1) := dk_8 (dk_at dksX7_isUnder_1 6 rfl rfl)
theorem dX7_isUnder_31 : decode cX7_isUnder 31 = .ok (.if_icmp .ne 7, 3) := dk_160 0 7 (dk_at dksX7_isUnder_1 7 rfl rfl)
theorem dX7_isUnder_34 : decode cX7_isUnder 34 = .ok (.iconst 1, 1) := dk_4 (dk_at dksX7_isUnder_1 10 rfl rfl)
theorem dX7_isUnder_35 : decode cX7_isUnder 35 = .ok (.goto 4, 3) := dk_167 0 4 (dk_at dksX7_isUnder_1 11 rfl rfl)
theorem dX7_isUnder_38 : decode cX7_isUnder 38 = .ok (.iconst 0, 1) := dk_3 (dk_at dksX7_isUnder_1 14 rfl rfl)
theorem dX7_isUnder_39 : decode cX7_isUnder 39 = .ok (.ireturn, 1) := dk_172 (dk_at dksX7_isUnder_1 15 rfl rfl)
abbrev cX7_act : ByteArray := prog_32_method_127_code
def yX7_act : MethodName := ⟨RX7, "act", "(III)I"⟩
def dkwX7_act_5 : List UInt8 := [54, 4, 42, 180, 1, 190, 153, 0, 8, 16, 241, 167, 0, 5, 21, 4, 172]
abbrev dktX7_act_5 : List UInt8 := dkwX7_act_5 ++ []
def dkwX7_act_4 : List UInt8 := [182, 1, 199, 167, 0, 21, 28, 5, 160, 0, 11, 42, 29, 182, 1, 202, 167, 0, 8, 42, 29, 182, 1, 208]
abbrev dktX7_act_4 : List UInt8 := dkwX7_act_4 ++ dktX7_act_5
def dkwX7_act_3 : List UInt8 := [42, 3, 181, 1, 190, 28, 154, 0, 11, 42, 29, 182, 1, 181, 167, 0, 34, 28, 4, 160, 0, 11, 42, 29]
abbrev dktX7_act_3 : List UInt8 := dkwX7_act_3 ++ dktX7_act_4
def dkwX7_act_2 : List UInt8 := [180, 0, 16, 42, 180, 1, 169, 46, 181, 1, 175, 42, 42, 180, 0, 20, 42, 180, 1, 169, 46, 181, 1, 184]
abbrev dktX7_act_2 : List UInt8 := dkwX7_act_2 ++ dktX7_act_3
def dkwX7_act_1 : List UInt8 := [42, 27, 182, 1, 157, 153, 0, 5, 3, 172, 42, 42, 180, 0, 96, 27, 46, 181, 1, 169, 42, 42]
abbrev dktX7_act_1 : List UInt8 := dkwX7_act_1 ++ dktX7_act_2
def dkwX7_act_0 : List UInt8 := [42, 3, 181, 1, 163, 27, 184, 1, 150, 153, 0, 23, 28, 133, 9, 20, 0, 157, 184, 0, 133, 153, 0, 11]
abbrev dktX7_act_0 : List UInt8 := dkwX7_act_0 ++ dktX7_act_1
theorem dksX7_act_0 : cX7_act.data.toList.drop 0 = dktX7_act_0 := by decide +kernel
theorem dksX7_act_1 : cX7_act.data.toList.drop 24 = dktX7_act_1 := dk_seg dksX7_act_0 24 rfl rfl
theorem dksX7_act_2 : cX7_act.data.toList.drop 46 = dktX7_act_2 := dk_seg dksX7_act_1 22 rfl rfl
theorem dksX7_act_3 : cX7_act.data.toList.drop 70 = dktX7_act_3 := dk_seg dksX7_act_2 24 rfl rfl
theorem dksX7_act_4 : cX7_act.data.toList.drop 94 = dktX7_act_4 := dk_seg dksX7_act_3 24 rfl rfl
theorem dksX7_act_5 : cX7_act.data.toList.drop 118 = dktX7_act_5 := dk_seg dksX7_act_4 24 rfl rfl
theorem dX7_act_0 : decode cX7_act 0 = .ok (.aload_n 0, 1) := dk_42 (dk_at dksX7_act_0 0 rfl rfl)
theorem dX7_act_1 : decode cX7_act 1 = .ok (.iconst 0, 1) := dk_3 (dk_at dksX7_act_0 1 rfl rfl)
theorem dX7_act_2 : decode cX7_act 2 = .ok (.putfield 419, 3) := dk_181 1 163 (dk_at dksX7_act_0 2 rfl rfl)
theorem dX7_act_5 : decode cX7_act 5 = .ok (.iload_n 1, 1) := dk_27 (dk_at dksX7_act_0 5 rfl rfl)
theorem dX7_act_6 : decode cX7_act 6 = .ok (.invokestatic 406, 3) := dk_184 1 150 (dk_at dksX7_act_0 6 rfl rfl)
theorem dX7_act_9 : decode cX7_act 9 = .ok (.ifCond .eq 23, 3) := dk_153 0 23 (dk_at dksX7_act_0 9 rfl rfl)
theorem dX7_act_12 : decode cX7_act 12 = .ok (.iload_n 2, 1) := dk_28 (dk_at dksX7_act_0 12 rfl rfl)
theorem dX7_act_13 : decode cX7_act 13 = .ok (.i2l, 1) := dk_133 (dk_at dksX7_act_0 13 rfl rfl)
theorem dX7_act_14 : decode cX7_act 14 = .ok (.lconst 0, 1) := dk_9 (dk_at dksX7_act_0 14 rfl rfl)
theorem dX7_act_15 : decode cX7_act 15 = .ok (.ldc2_w 157, 3) := dk_20 0 157 (dk_at dksX7_act_0 15 rfl rfl)
theorem dX7_act_18 : decode cX7_act 18 = .ok (.invokestatic 133, 3) := dk_184 0 133 (dk_at dksX7_act_0 18 rfl rfl)
theorem dX7_act_21 : decode cX7_act 21 = .ok (.ifCond .eq 11, 3) := dk_153 0 11 (dk_at dksX7_act_0 21 rfl rfl)
theorem dX7_act_24 : decode cX7_act 24 = .ok (.aload_n 0, 1) := dk_42 (dk_at dksX7_act_1 0 rfl rfl)
theorem dX7_act_25 : decode cX7_act 25 = .ok (.iload_n 1, 1) := dk_27 (dk_at dksX7_act_1 1 rfl rfl)
theorem dX7_act_26 : decode cX7_act 26 = .ok (.invokevirtual 413, 3) := dk_182 1 157 (dk_at dksX7_act_1 2 rfl rfl)
theorem dX7_act_29 : decode cX7_act 29 = .ok (.ifCond .eq 5, 3) := dk_153 0 5 (dk_at dksX7_act_1 5 rfl rfl)
theorem dX7_act_32 : decode cX7_act 32 = .ok (.iconst 0, 1) := dk_3 (dk_at dksX7_act_1 8 rfl rfl)
theorem dX7_act_33 : decode cX7_act 33 = .ok (.ireturn, 1) := dk_172 (dk_at dksX7_act_1 9 rfl rfl)
theorem dX7_act_34 : decode cX7_act 34 = .ok (.aload_n 0, 1) := dk_42 (dk_at dksX7_act_1 10 rfl rfl)
theorem dX7_act_35 : decode cX7_act 35 = .ok (.aload_n 0, 1) := dk_42 (dk_at dksX7_act_1 11 rfl rfl)
theorem dX7_act_36 : decode cX7_act 36 = .ok (.getfield 96, 3) := dk_180 0 96 (dk_at dksX7_act_1 12 rfl rfl)
theorem dX7_act_39 : decode cX7_act 39 = .ok (.iload_n 1, 1) := dk_27 (dk_at dksX7_act_1 15 rfl rfl)
theorem dX7_act_40 : decode cX7_act 40 = .ok (.iaload, 1) := dk_46 (dk_at dksX7_act_1 16 rfl rfl)
theorem dX7_act_41 : decode cX7_act 41 = .ok (.putfield 425, 3) := dk_181 1 169 (dk_at dksX7_act_1 17 rfl rfl)
theorem dX7_act_44 : decode cX7_act 44 = .ok (.aload_n 0, 1) := dk_42 (dk_at dksX7_act_1 20 rfl rfl)
theorem dX7_act_45 : decode cX7_act 45 = .ok (.aload_n 0, 1) := dk_42 (dk_at dksX7_act_1 21 rfl rfl)
theorem dX7_act_46 : decode cX7_act 46 = .ok (.getfield 16, 3) := dk_180 0 16 (dk_at dksX7_act_2 0 rfl rfl)
theorem dX7_act_49 : decode cX7_act 49 = .ok (.aload_n 0, 1) := dk_42 (dk_at dksX7_act_2 3 rfl rfl)
theorem dX7_act_50 : decode cX7_act 50 = .ok (.getfield 425, 3) := dk_180 1 169 (dk_at dksX7_act_2 4 rfl rfl)
theorem dX7_act_53 : decode cX7_act 53 = .ok (.iaload, 1) := dk_46 (dk_at dksX7_act_2 7 rfl rfl)
theorem dX7_act_54 : decode cX7_act 54 = .ok (.putfield 431, 3) := dk_181 1 175 (dk_at dksX7_act_2 8 rfl rfl)
theorem dX7_act_57 : decode cX7_act 57 = .ok (.aload_n 0, 1) := dk_42 (dk_at dksX7_act_2 11 rfl rfl)
theorem dX7_act_58 : decode cX7_act 58 = .ok (.aload_n 0, 1) := dk_42 (dk_at dksX7_act_2 12 rfl rfl)
theorem dX7_act_59 : decode cX7_act 59 = .ok (.getfield 20, 3) := dk_180 0 20 (dk_at dksX7_act_2 13 rfl rfl)
theorem dX7_act_62 : decode cX7_act 62 = .ok (.aload_n 0, 1) := dk_42 (dk_at dksX7_act_2 16 rfl rfl)
theorem dX7_act_63 : decode cX7_act 63 = .ok (.getfield 425, 3) := dk_180 1 169 (dk_at dksX7_act_2 17 rfl rfl)
theorem dX7_act_66 : decode cX7_act 66 = .ok (.iaload, 1) := dk_46 (dk_at dksX7_act_2 20 rfl rfl)
theorem dX7_act_67 : decode cX7_act 67 = .ok (.putfield 440, 3) := dk_181 1 184 (dk_at dksX7_act_2 21 rfl rfl)
theorem dX7_act_70 : decode cX7_act 70 = .ok (.aload_n 0, 1) := dk_42 (dk_at dksX7_act_3 0 rfl rfl)
theorem dX7_act_71 : decode cX7_act 71 = .ok (.iconst 0, 1) := dk_3 (dk_at dksX7_act_3 1 rfl rfl)
theorem dX7_act_72 : decode cX7_act 72 = .ok (.putfield 446, 3) := dk_181 1 190 (dk_at dksX7_act_3 2 rfl rfl)
theorem dX7_act_75 : decode cX7_act 75 = .ok (.iload_n 2, 1) := dk_28 (dk_at dksX7_act_3 5 rfl rfl)
theorem dX7_act_76 : decode cX7_act 76 = .ok (.ifCond .ne 11, 3) := dk_154 0 11 (dk_at dksX7_act_3 6 rfl rfl)
theorem dX7_act_79 : decode cX7_act 79 = .ok (.aload_n 0, 1) := dk_42 (dk_at dksX7_act_3 9 rfl rfl)
theorem dX7_act_80 : decode cX7_act 80 = .ok (.iload_n 3, 1) := dk_29 (dk_at dksX7_act_3 10 rfl rfl)
theorem dX7_act_81 : decode cX7_act 81 = .ok (.invokevirtual 437, 3) := dk_182 1 181 (dk_at dksX7_act_3 11 rfl rfl)
theorem dX7_act_84 : decode cX7_act 84 = .ok (.goto 34, 3) := dk_167 0 34 (dk_at dksX7_act_3 14 rfl rfl)
theorem dX7_act_87 : decode cX7_act 87 = .ok (.iload_n 2, 1) := dk_28 (dk_at dksX7_act_3 17 rfl rfl)
theorem dX7_act_88 : decode cX7_act 88 = .ok (.iconst 1, 1) := dk_4 (dk_at dksX7_act_3 18 rfl rfl)
theorem dX7_act_89 : decode cX7_act 89 = .ok (.if_icmp .ne 11, 3) := dk_160 0 11 (dk_at dksX7_act_3 19 rfl rfl)
theorem dX7_act_92 : decode cX7_act 92 = .ok (.aload_n 0, 1) := dk_42 (dk_at dksX7_act_3 22 rfl rfl)
theorem dX7_act_93 : decode cX7_act 93 = .ok (.iload_n 3, 1) := dk_29 (dk_at dksX7_act_3 23 rfl rfl)
theorem dX7_act_94 : decode cX7_act 94 = .ok (.invokevirtual 455, 3) := dk_182 1 199 (dk_at dksX7_act_4 0 rfl rfl)
theorem dX7_act_97 : decode cX7_act 97 = .ok (.goto 21, 3) := dk_167 0 21 (dk_at dksX7_act_4 3 rfl rfl)
theorem dX7_act_100 : decode cX7_act 100 = .ok (.iload_n 2, 1) := dk_28 (dk_at dksX7_act_4 6 rfl rfl)
theorem dX7_act_101 : decode cX7_act 101 = .ok (.iconst 2, 1) := dk_5 (dk_at dksX7_act_4 7 rfl rfl)
theorem dX7_act_102 : decode cX7_act 102 = .ok (.if_icmp .ne 11, 3) := dk_160 0 11 (dk_at dksX7_act_4 8 rfl rfl)
theorem dX7_act_105 : decode cX7_act 105 = .ok (.aload_n 0, 1) := dk_42 (dk_at dksX7_act_4 11 rfl rfl)
theorem dX7_act_106 : decode cX7_act 106 = .ok (.iload_n 3, 1) := dk_29 (dk_at dksX7_act_4 12 rfl rfl)
theorem dX7_act_107 : decode cX7_act 107 = .ok (.invokevirtual 458, 3) := dk_182 1 202 (dk_at dksX7_act_4 13 rfl rfl)
theorem dX7_act_110 : decode cX7_act 110 = .ok (.goto 8, 3) := dk_167 0 8 (dk_at dksX7_act_4 16 rfl rfl)
theorem dX7_act_113 : decode cX7_act 113 = .ok (.aload_n 0, 1) := dk_42 (dk_at dksX7_act_4 19 rfl rfl)
theorem dX7_act_114 : decode cX7_act 114 = .ok (.iload_n 3, 1) := dk_29 (dk_at dksX7_act_4 20 rfl rfl)
theorem dX7_act_115 : decode cX7_act 115 = .ok (.invokevirtual 464, 3) := dk_182 1 208 (dk_at dksX7_act_4 21 rfl rfl)
theorem dX7_act_118 : decode cX7_act 118 = .ok (.istore 4, 2) := dk_54 4 (dk_at dksX7_act_5 0 rfl rfl)
theorem dX7_act_120 : decode cX7_act 120 = .ok (.aload_n 0, 1) := dk_42 (dk_at dksX7_act_5 2 rfl rfl)
theorem dX7_act_121 : decode cX7_act 121 = .ok (.getfield 446, 3) := dk_180 1 190 (dk_at dksX7_act_5 3 rfl rfl)
theorem dX7_act_124 : decode cX7_act 124 = .ok (.ifCond .eq 8, 3) := dk_153 0 8 (dk_at dksX7_act_5 6 rfl rfl)
theorem dX7_act_127 : decode cX7_act 127 = .ok (.bipush (-15), 2) := dk_16 241 (dk_at dksX7_act_5 9 rfl rfl)
theorem dX7_act_129 : decode cX7_act 129 = .ok (.goto 5, 3) := dk_167 0 5 (dk_at dksX7_act_5 11 rfl rfl)
theorem dX7_act_132 : decode cX7_act 132 = .ok (.iload 4, 2) := dk_21 4 (dk_at dksX7_act_5 14 rfl rfl)
theorem dX7_act_134 : decode cX7_act 134 = .ok (.ireturn, 1) := dk_172 (dk_at dksX7_act_5 16 rfl rfl)
abbrev cX7_turns : ByteArray := prog_32_method_119_code
def yX7_turns : MethodName := ⟨RX7, "turns", "(I)I"⟩
def dkwX7_turns_2 : List UInt8 := [42, 27, 182, 1, 172, 172]
abbrev dktX7_turns_2 : List UInt8 := dkwX7_turns_2 ++ []
def dkwX7_turns_1 : List UInt8 := [42, 180, 1, 175, 4, 159, 0, 11, 42, 180, 1, 175, 7, 160, 0, 11, 42, 27, 182, 1, 178, 167, 0, 8]
abbrev dktX7_turns_1 : List UInt8 := dkwX7_turns_1 ++ dktX7_turns_2
def dkwX7_turns_0 : List UInt8 := [42, 180, 1, 175, 6, 160, 0, 19, 42, 16, 40, 182, 1, 166, 3, 42, 27, 5, 96, 182, 1, 178, 100, 172]
abbrev dktX7_turns_0 : List UInt8 := dkwX7_turns_0 ++ dktX7_turns_1
theorem dksX7_turns_0 : cX7_turns.data.toList.drop 0 = dktX7_turns_0 := by decide +kernel
theorem dksX7_turns_1 : cX7_turns.data.toList.drop 24 = dktX7_turns_1 := dk_seg dksX7_turns_0 24 rfl rfl
theorem dksX7_turns_2 : cX7_turns.data.toList.drop 48 = dktX7_turns_2 := dk_seg dksX7_turns_1 24 rfl rfl
theorem dX7_turns_0 : decode cX7_turns 0 = .ok (.aload_n 0, 1) := dk_42 (dk_at dksX7_turns_0 0 rfl rfl)
theorem dX7_turns_1 : decode cX7_turns 1 = .ok (.getfield 431, 3) := dk_180 1 175 (dk_at dksX7_turns_0 1 rfl rfl)
theorem dX7_turns_4 : decode cX7_turns 4 = .ok (.iconst 3, 1) := dk_6 (dk_at dksX7_turns_0 4 rfl rfl)
theorem dX7_turns_5 : decode cX7_turns 5 = .ok (.if_icmp .ne 19, 3) := dk_160 0 19 (dk_at dksX7_turns_0 5 rfl rfl)
theorem dX7_turns_8 : decode cX7_turns 8 = .ok (.aload_n 0, 1) := dk_42 (dk_at dksX7_turns_0 8 rfl rfl)
theorem dX7_turns_9 : decode cX7_turns 9 = .ok (.bipush 40, 2) := dk_16 40 (dk_at dksX7_turns_0 9 rfl rfl)
theorem dX7_turns_11 : decode cX7_turns 11 = .ok (.invokevirtual 422, 3) := dk_182 1 166 (dk_at dksX7_turns_0 11 rfl rfl)
theorem dX7_turns_14 : decode cX7_turns 14 = .ok (.iconst 0, 1) := dk_3 (dk_at dksX7_turns_0 14 rfl rfl)
theorem dX7_turns_15 : decode cX7_turns 15 = .ok (.aload_n 0, 1) := dk_42 (dk_at dksX7_turns_0 15 rfl rfl)
theorem dX7_turns_16 : decode cX7_turns 16 = .ok (.iload_n 1, 1) := dk_27 (dk_at dksX7_turns_0 16 rfl rfl)
theorem dX7_turns_17 : decode cX7_turns 17 = .ok (.iconst 2, 1) := dk_5 (dk_at dksX7_turns_0 17 rfl rfl)
theorem dX7_turns_18 : decode cX7_turns 18 = .ok (.iadd, 1) := dk_96 (dk_at dksX7_turns_0 18 rfl rfl)
theorem dX7_turns_19 : decode cX7_turns 19 = .ok (.invokevirtual 434, 3) := dk_182 1 178 (dk_at dksX7_turns_0 19 rfl rfl)
theorem dX7_turns_22 : decode cX7_turns 22 = .ok (.isub, 1) := dk_100 (dk_at dksX7_turns_0 22 rfl rfl)
theorem dX7_turns_23 : decode cX7_turns 23 = .ok (.ireturn, 1) := dk_172 (dk_at dksX7_turns_0 23 rfl rfl)
theorem dX7_turns_24 : decode cX7_turns 24 = .ok (.aload_n 0, 1) := dk_42 (dk_at dksX7_turns_1 0 rfl rfl)
theorem dX7_turns_25 : decode cX7_turns 25 = .ok (.getfield 431, 3) := dk_180 1 175 (dk_at dksX7_turns_1 1 rfl rfl)
theorem dX7_turns_28 : decode cX7_turns 28 = .ok (.iconst 1, 1) := dk_4 (dk_at dksX7_turns_1 4 rfl rfl)
theorem dX7_turns_29 : decode cX7_turns 29 = .ok (.if_icmp .eq 11, 3) := dk_159 0 11 (dk_at dksX7_turns_1 5 rfl rfl)
theorem dX7_turns_32 : decode cX7_turns 32 = .ok (.aload_n 0, 1) := dk_42 (dk_at dksX7_turns_1 8 rfl rfl)
theorem dX7_turns_33 : decode cX7_turns 33 = .ok (.getfield 431, 3) := dk_180 1 175 (dk_at dksX7_turns_1 9 rfl rfl)
theorem dX7_turns_36 : decode cX7_turns 36 = .ok (.iconst 4, 1) := dk_7 (dk_at dksX7_turns_1 12 rfl rfl)
theorem dX7_turns_37 : decode cX7_turns 37 = .ok (.if_icmp .ne 11, 3) := dk_160 0 11 (dk_at dksX7_turns_1 13 rfl rfl)
theorem dX7_turns_40 : decode cX7_turns 40 = .ok (.aload_n 0, 1) := dk_42 (dk_at dksX7_turns_1 16 rfl rfl)
theorem dX7_turns_41 : decode cX7_turns 41 = .ok (.iload_n 1, 1) := dk_27 (dk_at dksX7_turns_1 17 rfl rfl)
theorem dX7_turns_42 : decode cX7_turns 42 = .ok (.invokevirtual 434, 3) := dk_182 1 178 (dk_at dksX7_turns_1 18 rfl rfl)
theorem dX7_turns_45 : decode cX7_turns 45 = .ok (.goto 8, 3) := dk_167 0 8 (dk_at dksX7_turns_1 21 rfl rfl)
theorem dX7_turns_48 : decode cX7_turns 48 = .ok (.aload_n 0, 1) := dk_42 (dk_at dksX7_turns_2 0 rfl rfl)
theorem dX7_turns_49 : decode cX7_turns 49 = .ok (.iload_n 1, 1) := dk_27 (dk_at dksX7_turns_2 1 rfl rfl)
theorem dX7_turns_50 : decode cX7_turns 50 = .ok (.invokevirtual 428, 3) := dk_182 1 172 (dk_at dksX7_turns_2 2 rfl rfl)
theorem dX7_turns_53 : decode cX7_turns 53 = .ok (.ireturn, 1) := dk_172 (dk_at dksX7_turns_2 5 rfl rfl)
abbrev cX7_ran : ByteArray := prog_32_method_116_code
def yX7_ran : MethodName := ⟨RX7, "ran", "(I)V"⟩
def dkwX7_ran_1 : List UInt8 := [4, 96, 181, 1, 163, 177]
abbrev dktX7_ran_1 : List UInt8 := dkwX7_ran_1 ++ []
def dkwX7_ran_0 : List UInt8 := [42, 180, 1, 163, 16, 30, 162, 0, 23, 42, 180, 0, 102, 42, 180, 1, 163, 27, 79, 42, 89, 180, 1, 163]
abbrev dktX7_ran_0 : List UInt8 := dkwX7_ran_0 ++ dktX7_ran_1
theorem dksX7_ran_0 : cX7_ran.data.toList.drop 0 = dktX7_ran_0 := by decide +kernel
theorem dksX7_ran_1 : cX7_ran.data.toList.drop 24 = dktX7_ran_1 := dk_seg dksX7_ran_0 24 rfl rfl
theorem dX7_ran_0 : decode cX7_ran 0 = .ok (.aload_n 0, 1) := dk_42 (dk_at dksX7_ran_0 0 rfl rfl)
theorem dX7_ran_1 : decode cX7_ran 1 = .ok (.getfield 419, 3) := dk_180 1 163 (dk_at dksX7_ran_0 1 rfl rfl)
theorem dX7_ran_4 : decode cX7_ran 4 = .ok (.bipush 30, 2) := dk_16 30 (dk_at dksX7_ran_0 4 rfl rfl)
theorem dX7_ran_6 : decode cX7_ran 6 = .ok (.if_icmp .ge 23, 3) := dk_162 0 23 (dk_at dksX7_ran_0 6 rfl rfl)
theorem dX7_ran_9 : decode cX7_ran 9 = .ok (.aload_n 0, 1) := dk_42 (dk_at dksX7_ran_0 9 rfl rfl)
theorem dX7_ran_10 : decode cX7_ran 10 = .ok (.getfield 102, 3) := dk_180 0 102 (dk_at dksX7_ran_0 10 rfl rfl)
theorem dX7_ran_13 : decode cX7_ran 13 = .ok (.aload_n 0, 1) := dk_42 (dk_at dksX7_ran_0 13 rfl rfl)
theorem dX7_ran_14 : decode cX7_ran 14 = .ok (.getfield 419, 3) := dk_180 1 163 (dk_at dksX7_ran_0 14 rfl rfl)
theorem dX7_ran_17 : decode cX7_ran 17 = .ok (.iload_n 1, 1) := dk_27 (dk_at dksX7_ran_0 17 rfl rfl)
theorem dX7_ran_18 : decode cX7_ran 18 = .ok (.iastore, 1) := dk_79 (dk_at dksX7_ran_0 18 rfl rfl)
theorem dX7_ran_19 : decode cX7_ran 19 = .ok (.aload_n 0, 1) := dk_42 (dk_at dksX7_ran_0 19 rfl rfl)
theorem dX7_ran_20 : decode cX7_ran 20 = .ok (.dup, 1) := dk_89 (dk_at dksX7_ran_0 20 rfl rfl)
theorem dX7_ran_21 : decode cX7_ran 21 = .ok (.getfield 419, 3) := dk_180 1 163 (dk_at dksX7_ran_0 21 rfl rfl)
theorem dX7_ran_24 : decode cX7_ran 24 = .ok (.iconst 1, 1) := dk_4 (dk_at dksX7_ran_1 0 rfl rfl)
theorem dX7_ran_25 : decode cX7_ran 25 = .ok (.iadd, 1) := dk_96 (dk_at dksX7_ran_1 1 rfl rfl)
theorem dX7_ran_26 : decode cX7_ran 26 = .ok (.putfield 419, 3) := dk_181 1 163 (dk_at dksX7_ran_1 2 rfl rfl)
theorem dX7_ran_29 : decode cX7_ran 29 = .ok (.return_, 1) := dk_177 (dk_at dksX7_ran_1 5 rfl rfl)
abbrev cX7_leftyTurns : ByteArray := prog_32_method_118_code
def yX7_leftyTurns : MethodName := ⟨RX7, "leftyTurns", "(I)I"⟩
def dkwX7_leftyTurns_0 : List UInt8 := [42, 16, 20, 182, 1, 166, 42, 27, 182, 1, 172, 16, 9, 130, 172]
abbrev dktX7_leftyTurns_0 : List UInt8 := dkwX7_leftyTurns_0 ++ []
theorem dksX7_leftyTurns_0 : cX7_leftyTurns.data.toList.drop 0 = dktX7_leftyTurns_0 := by decide +kernel
theorem dX7_leftyTurns_0 : decode cX7_leftyTurns 0 = .ok (.aload_n 0, 1) := dk_42 (dk_at dksX7_leftyTurns_0 0 rfl rfl)
theorem dX7_leftyTurns_1 : decode cX7_leftyTurns 1 = .ok (.bipush 20, 2) := dk_16 20 (dk_at dksX7_leftyTurns_0 1 rfl rfl)
theorem dX7_leftyTurns_3 : decode cX7_leftyTurns 3 = .ok (.invokevirtual 422, 3) := dk_182 1 166 (dk_at dksX7_leftyTurns_0 3 rfl rfl)
theorem dX7_leftyTurns_6 : decode cX7_leftyTurns 6 = .ok (.aload_n 0, 1) := dk_42 (dk_at dksX7_leftyTurns_0 6 rfl rfl)
theorem dX7_leftyTurns_7 : decode cX7_leftyTurns 7 = .ok (.iload_n 1, 1) := dk_27 (dk_at dksX7_leftyTurns_0 7 rfl rfl)
theorem dX7_leftyTurns_8 : decode cX7_leftyTurns 8 = .ok (.invokevirtual 428, 3) := dk_182 1 172 (dk_at dksX7_leftyTurns_0 8 rfl rfl)
theorem dX7_leftyTurns_11 : decode cX7_leftyTurns 11 = .ok (.bipush 9, 2) := dk_16 9 (dk_at dksX7_leftyTurns_0 11 rfl rfl)
theorem dX7_leftyTurns_13 : decode cX7_leftyTurns 13 = .ok (.ixor, 1) := dk_130 (dk_at dksX7_leftyTurns_0 13 rfl rfl)
theorem dX7_leftyTurns_14 : decode cX7_leftyTurns 14 = .ok (.ireturn, 1) := dk_172 (dk_at dksX7_leftyTurns_0 14 rfl rfl)
abbrev cX7_plainTurns : ByteArray := prog_32_method_117_code
def yX7_plainTurns : MethodName := ⟨RX7, "plainTurns", "(I)I"⟩
def dkwX7_plainTurns_0 : List UInt8 := [42, 16, 10, 182, 1, 166, 27, 8, 104, 42, 180, 1, 169, 96, 172]
abbrev dktX7_plainTurns_0 : List UInt8 := dkwX7_plainTurns_0 ++ []
theorem dksX7_plainTurns_0 : cX7_plainTurns.data.toList.drop 0 = dktX7_plainTurns_0 := by decide +kernel
theorem dX7_plainTurns_0 : decode cX7_plainTurns 0 = .ok (.aload_n 0, 1) := dk_42 (dk_at dksX7_plainTurns_0 0 rfl rfl)
theorem dX7_plainTurns_1 : decode cX7_plainTurns 1 = .ok (.bipush 10, 2) := dk_16 10 (dk_at dksX7_plainTurns_0 1 rfl rfl)
theorem dX7_plainTurns_3 : decode cX7_plainTurns 3 = .ok (.invokevirtual 422, 3) := dk_182 1 166 (dk_at dksX7_plainTurns_0 3 rfl rfl)
theorem dX7_plainTurns_6 : decode cX7_plainTurns 6 = .ok (.iload_n 1, 1) := dk_27 (dk_at dksX7_plainTurns_0 6 rfl rfl)
theorem dX7_plainTurns_7 : decode cX7_plainTurns 7 = .ok (.iconst 5, 1) := dk_8 (dk_at dksX7_plainTurns_0 7 rfl rfl)
theorem dX7_plainTurns_8 : decode cX7_plainTurns 8 = .ok (.imul, 1) := dk_104 (dk_at dksX7_plainTurns_0 8 rfl rfl)
theorem dX7_plainTurns_9 : decode cX7_plainTurns 9 = .ok (.aload_n 0, 1) := dk_42 (dk_at dksX7_plainTurns_0 9 rfl rfl)
theorem dX7_plainTurns_10 : decode cX7_plainTurns 10 = .ok (.getfield 425, 3) := dk_180 1 169 (dk_at dksX7_plainTurns_0 10 rfl rfl)
theorem dX7_plainTurns_13 : decode cX7_plainTurns 13 = .ok (.iadd, 1) := dk_96 (dk_at dksX7_plainTurns_0 13 rfl rfl)
theorem dX7_plainTurns_14 : decode cX7_plainTurns 14 = .ok (.ireturn, 1) := dk_172 (dk_at dksX7_plainTurns_0 14 rfl rfl)
abbrev cX7_bends : ByteArray := prog_32_method_121_code
def yX7_bends : MethodName := ⟨RX7, "bends", "(I)I"⟩
def dkwX7_bends_1 : List UInt8 := [182, 1, 187, 6, 104, 172, 42, 27, 182, 1, 187, 172]
abbrev dktX7_bends_1 : List UInt8 := dkwX7_bends_1 ++ []
def dkwX7_bends_0 : List UInt8 := [42, 180, 1, 175, 5, 159, 0, 11, 42, 180, 1, 175, 8, 160, 0, 17, 42, 16, 30, 182, 1, 166, 42, 27]
abbrev dktX7_bends_0 : List UInt8 := dkwX7_bends_0 ++ dktX7_bends_1
theorem dksX7_bends_0 : cX7_bends.data.toList.drop 0 = dktX7_bends_0 := by decide +kernel
theorem dksX7_bends_1 : cX7_bends.data.toList.drop 24 = dktX7_bends_1 := dk_seg dksX7_bends_0 24 rfl rfl
theorem dX7_bends_0 : decode cX7_bends 0 = .ok (.aload_n 0, 1) := dk_42 (dk_at dksX7_bends_0 0 rfl rfl)
theorem dX7_bends_1 : decode cX7_bends 1 = .ok (.getfield 431, 3) := dk_180 1 175 (dk_at dksX7_bends_0 1 rfl rfl)
theorem dX7_bends_4 : decode cX7_bends 4 = .ok (.iconst 2, 1) := dk_5 (dk_at dksX7_bends_0 4 rfl rfl)
theorem dX7_bends_5 : decode cX7_bends 5 = .ok (.if_icmp .eq 11, 3) := dk_159 0 11 (dk_at dksX7_bends_0 5 rfl rfl)
theorem dX7_bends_8 : decode cX7_bends 8 = .ok (.aload_n 0, 1) := dk_42 (dk_at dksX7_bends_0 8 rfl rfl)
theorem dX7_bends_9 : decode cX7_bends 9 = .ok (.getfield 431, 3) := dk_180 1 175 (dk_at dksX7_bends_0 9 rfl rfl)
theorem dX7_bends_12 : decode cX7_bends 12 = .ok (.iconst 5, 1) := dk_8 (dk_at dksX7_bends_0 12 rfl rfl)
theorem dX7_bends_13 : decode cX7_bends 13 = .ok (.if_icmp .ne 17, 3) := dk_160 0 17 (dk_at dksX7_bends_0 13 rfl rfl)
theorem dX7_bends_16 : decode cX7_bends 16 = .ok (.aload_n 0, 1) := dk_42 (dk_at dksX7_bends_0 16 rfl rfl)
theorem dX7_bends_17 : decode cX7_bends 17 = .ok (.bipush 30, 2) := dk_16 30 (dk_at dksX7_bends_0 17 rfl rfl)
theorem dX7_bends_19 : decode cX7_bends 19 = .ok (.invokevirtual 422, 3) := dk_182 1 166 (dk_at dksX7_bends_0 19 rfl rfl)
theorem dX7_bends_22 : decode cX7_bends 22 = .ok (.aload_n 0, 1) := dk_42 (dk_at dksX7_bends_0 22 rfl rfl)
theorem dX7_bends_23 : decode cX7_bends 23 = .ok (.iload_n 1, 1) := dk_27 (dk_at dksX7_bends_0 23 rfl rfl)
theorem dX7_bends_24 : decode cX7_bends 24 = .ok (.invokevirtual 443, 3) := dk_182 1 187 (dk_at dksX7_bends_1 0 rfl rfl)
theorem dX7_bends_27 : decode cX7_bends 27 = .ok (.iconst 3, 1) := dk_6 (dk_at dksX7_bends_1 3 rfl rfl)
theorem dX7_bends_28 : decode cX7_bends 28 = .ok (.imul, 1) := dk_104 (dk_at dksX7_bends_1 4 rfl rfl)
theorem dX7_bends_29 : decode cX7_bends 29 = .ok (.ireturn, 1) := dk_172 (dk_at dksX7_bends_1 5 rfl rfl)
theorem dX7_bends_30 : decode cX7_bends 30 = .ok (.aload_n 0, 1) := dk_42 (dk_at dksX7_bends_1 6 rfl rfl)
theorem dX7_bends_31 : decode cX7_bends 31 = .ok (.iload_n 1, 1) := dk_27 (dk_at dksX7_bends_1 7 rfl rfl)
theorem dX7_bends_32 : decode cX7_bends 32 = .ok (.invokevirtual 443, 3) := dk_182 1 187 (dk_at dksX7_bends_1 8 rfl rfl)
theorem dX7_bends_35 : decode cX7_bends 35 = .ok (.ireturn, 1) := dk_172 (dk_at dksX7_bends_1 11 rfl rfl)
abbrev cX7_plainBends : ByteArray := prog_32_method_120_code
def yX7_plainBends : MethodName := ⟨RX7, "plainBends", "(I)I"⟩
def dkwX7_plainBends_0 : List UInt8 := [42, 16, 11, 182, 1, 166, 42, 27, 182, 1, 181, 42, 180, 1, 184, 100, 172]
abbrev dktX7_plainBends_0 : List UInt8 := dkwX7_plainBends_0 ++ []
theorem dksX7_plainBends_0 : cX7_plainBends.data.toList.drop 0 = dktX7_plainBends_0 := by decide +kernel
theorem dX7_plainBends_0 : decode cX7_plainBends 0 = .ok (.aload_n 0, 1) := dk_42 (dk_at dksX7_plainBends_0 0 rfl rfl)
theorem dX7_plainBends_1 : decode cX7_plainBends 1 = .ok (.bipush 11, 2) := dk_16 11 (dk_at dksX7_plainBends_0 1 rfl rfl)
theorem dX7_plainBends_3 : decode cX7_plainBends 3 = .ok (.invokevirtual 422, 3) := dk_182 1 166 (dk_at dksX7_plainBends_0 3 rfl rfl)
theorem dX7_plainBends_6 : decode cX7_plainBends 6 = .ok (.aload_n 0, 1) := dk_42 (dk_at dksX7_plainBends_0 6 rfl rfl)
theorem dX7_plainBends_7 : decode cX7_plainBends 7 = .ok (.iload_n 1, 1) := dk_27 (dk_at dksX7_plainBends_0 7 rfl rfl)
theorem dX7_plainBends_8 : decode cX7_plainBends 8 = .ok (.invokevirtual 437, 3) := dk_182 1 181 (dk_at dksX7_plainBends_0 8 rfl rfl)
theorem dX7_plainBends_11 : decode cX7_plainBends 11 = .ok (.aload_n 0, 1) := dk_42 (dk_at dksX7_plainBends_0 11 rfl rfl)
theorem dX7_plainBends_12 : decode cX7_plainBends 12 = .ok (.getfield 440, 3) := dk_180 1 184 (dk_at dksX7_plainBends_0 12 rfl rfl)
theorem dX7_plainBends_15 : decode cX7_plainBends 15 = .ok (.isub, 1) := dk_100 (dk_at dksX7_plainBends_0 15 rfl rfl)
theorem dX7_plainBends_16 : decode cX7_plainBends 16 = .ok (.ireturn, 1) := dk_172 (dk_at dksX7_plainBends_0 16 rfl rfl)
abbrev cX7_parts : ByteArray := prog_32_method_124_code
def yX7_parts : MethodName := ⟨RX7, "parts", "(I)I"⟩
def dkwX7_parts_2 : List UInt8 := [172]
abbrev dktX7_parts_2 : List UInt8 := dkwX7_parts_2 ++ []
def dkwX7_parts_1 : List UInt8 := [8, 130, 172, 42, 180, 1, 175, 5, 160, 0, 11, 42, 27, 182, 1, 196, 167, 0, 8, 42, 27, 182, 1, 193]
abbrev dktX7_parts_1 : List UInt8 := dkwX7_parts_1 ++ dktX7_parts_2
def dkwX7_parts_0 : List UInt8 := [42, 180, 1, 175, 8, 160, 0, 22, 42, 16, 60, 182, 1, 166, 42, 27, 42, 180, 1, 184, 100, 182, 1, 196]
abbrev dktX7_parts_0 : List UInt8 := dkwX7_parts_0 ++ dktX7_parts_1
theorem dksX7_parts_0 : cX7_parts.data.toList.drop 0 = dktX7_parts_0 := by decide +kernel
theorem dksX7_parts_1 : cX7_parts.data.toList.drop 24 = dktX7_parts_1 := dk_seg dksX7_parts_0 24 rfl rfl
theorem dksX7_parts_2 : cX7_parts.data.toList.drop 48 = dktX7_parts_2 := dk_seg dksX7_parts_1 24 rfl rfl
theorem dX7_parts_0 : decode cX7_parts 0 = .ok (.aload_n 0, 1) := dk_42 (dk_at dksX7_parts_0 0 rfl rfl)
theorem dX7_parts_1 : decode cX7_parts 1 = .ok (.getfield 431, 3) := dk_180 1 175 (dk_at dksX7_parts_0 1 rfl rfl)
theorem dX7_parts_4 : decode cX7_parts 4 = .ok (.iconst 5, 1) := dk_8 (dk_at dksX7_parts_0 4 rfl rfl)
theorem dX7_parts_5 : decode cX7_parts 5 = .ok (.if_icmp .ne 22, 3) := dk_160 0 22 (dk_at dksX7_parts_0 5 rfl rfl)
theorem dX7_parts_8 : decode cX7_parts 8 = .ok (.aload_n 0, 1) := dk_42 (dk_at dksX7_parts_0 8 rfl rfl)
theorem dX7_parts_9 : decode cX7_parts 9 = .ok (.bipush 60, 2) := dk_16 60 (dk_at dksX7_parts_0 9 rfl rfl)
theorem dX7_parts_11 : decode cX7_parts 11 = .ok (.invokevirtual 422, 3) := dk_182 1 166 (dk_at dksX7_parts_0 11 rfl rfl)
theorem dX7_parts_14 : decode cX7_parts 14 = .ok (.aload_n 0, 1) := dk_42 (dk_at dksX7_parts_0 14 rfl rfl)
theorem dX7_parts_15 : decode cX7_parts 15 = .ok (.iload_n 1, 1) := dk_27 (dk_at dksX7_parts_0 15 rfl rfl)
theorem dX7_parts_16 : decode cX7_parts 16 = .ok (.aload_n 0, 1) := dk_42 (dk_at dksX7_parts_0 16 rfl rfl)
theorem dX7_parts_17 : decode cX7_parts 17 = .ok (.getfield 440, 3) := dk_180 1 184 (dk_at dksX7_parts_0 17 rfl rfl)
theorem dX7_parts_20 : decode cX7_parts 20 = .ok (.isub, 1) := dk_100 (dk_at dksX7_parts_0 20 rfl rfl)
theorem dX7_parts_21 : decode cX7_parts 21 = .ok (.invokevirtual 452, 3) := dk_182 1 196 (dk_at dksX7_parts_0 21 rfl rfl)
theorem dX7_parts_24 : decode cX7_parts 24 = .ok (.iconst 5, 1) := dk_8 (dk_at dksX7_parts_1 0 rfl rfl)
theorem dX7_parts_25 : decode cX7_parts 25 = .ok (.ixor, 1) := dk_130 (dk_at dksX7_parts_1 1 rfl rfl)
theorem dX7_parts_26 : decode cX7_parts 26 = .ok (.ireturn, 1) := dk_172 (dk_at dksX7_parts_1 2 rfl rfl)
theorem dX7_parts_27 : decode cX7_parts 27 = .ok (.aload_n 0, 1) := dk_42 (dk_at dksX7_parts_1 3 rfl rfl)
theorem dX7_parts_28 : decode cX7_parts 28 = .ok (.getfield 431, 3) := dk_180 1 175 (dk_at dksX7_parts_1 4 rfl rfl)
theorem dX7_parts_31 : decode cX7_parts 31 = .ok (.iconst 2, 1) := dk_5 (dk_at dksX7_parts_1 7 rfl rfl)
theorem dX7_parts_32 : decode cX7_parts 32 = .ok (.if_icmp .ne 11, 3) := dk_160 0 11 (dk_at dksX7_parts_1 8 rfl rfl)
theorem dX7_parts_35 : decode cX7_parts 35 = .ok (.aload_n 0, 1) := dk_42 (dk_at dksX7_parts_1 11 rfl rfl)
theorem dX7_parts_36 : decode cX7_parts 36 = .ok (.iload_n 1, 1) := dk_27 (dk_at dksX7_parts_1 12 rfl rfl)
theorem dX7_parts_37 : decode cX7_parts 37 = .ok (.invokevirtual 452, 3) := dk_182 1 196 (dk_at dksX7_parts_1 13 rfl rfl)
theorem dX7_parts_40 : decode cX7_parts 40 = .ok (.goto 8, 3) := dk_167 0 8 (dk_at dksX7_parts_1 16 rfl rfl)
theorem dX7_parts_43 : decode cX7_parts 43 = .ok (.aload_n 0, 1) := dk_42 (dk_at dksX7_parts_1 19 rfl rfl)
theorem dX7_parts_44 : decode cX7_parts 44 = .ok (.iload_n 1, 1) := dk_27 (dk_at dksX7_parts_1 20 rfl rfl)
theorem dX7_parts_45 : decode cX7_parts 45 = .ok (.invokevirtual 449, 3) := dk_182 1 193 (dk_at dksX7_parts_1 21 rfl rfl)
theorem dX7_parts_48 : decode cX7_parts 48 = .ok (.ireturn, 1) := dk_172 (dk_at dksX7_parts_2 0 rfl rfl)
abbrev cX7_longerParts : ByteArray := prog_32_method_123_code
def yX7_longerParts : MethodName := ⟨RX7, "longerParts", "(I)I"⟩
def dkwX7_longerParts_1 : List UInt8 := [42, 42, 180, 1, 169, 182, 1, 181, 96, 172]
abbrev dktX7_longerParts_1 : List UInt8 := dkwX7_longerParts_1 ++ []
def dkwX7_longerParts_0 : List UInt8 := [42, 16, 31, 182, 1, 166, 42, 27, 182, 1, 193, 61, 42, 180, 1, 190, 153, 0, 7, 3, 167, 0, 13, 28]
abbrev dktX7_longerParts_0 : List UInt8 := dkwX7_longerParts_0 ++ dktX7_longerParts_1
theorem dksX7_longerParts_0 : cX7_longerParts.data.toList.drop 0 = dktX7_longerParts_0 := by decide +kernel
theorem dksX7_longerParts_1 : cX7_longerParts.data.toList.drop 24 = dktX7_longerParts_1 := dk_seg dksX7_longerParts_0 24 rfl rfl
theorem dX7_longerParts_0 : decode cX7_longerParts 0 = .ok (.aload_n 0, 1) := dk_42 (dk_at dksX7_longerParts_0 0 rfl rfl)
theorem dX7_longerParts_1 : decode cX7_longerParts 1 = .ok (.bipush 31, 2) := dk_16 31 (dk_at dksX7_longerParts_0 1 rfl rfl)
theorem dX7_longerParts_3 : decode cX7_longerParts 3 = .ok (.invokevirtual 422, 3) := dk_182 1 166 (dk_at dksX7_longerParts_0 3 rfl rfl)
theorem dX7_longerParts_6 : decode cX7_longerParts 6 = .ok (.aload_n 0, 1) := dk_42 (dk_at dksX7_longerParts_0 6 rfl rfl)
theorem dX7_longerParts_7 : decode cX7_longerParts 7 = .ok (.iload_n 1, 1) := dk_27 (dk_at dksX7_longerParts_0 7 rfl rfl)
theorem dX7_longerParts_8 : decode cX7_longerParts 8 = .ok (.invokevirtual 449, 3) := dk_182 1 193 (dk_at dksX7_longerParts_0 8 rfl rfl)
theorem dX7_longerParts_11 : decode cX7_longerParts 11 = .ok (.istore_n 2, 1) := dk_61 (dk_at dksX7_longerParts_0 11 rfl rfl)
theorem dX7_longerParts_12 : decode cX7_longerParts 12 = .ok (.aload_n 0, 1) := dk_42 (dk_at dksX7_longerParts_0 12 rfl rfl)
theorem dX7_longerParts_13 : decode cX7_longerParts 13 = .ok (.getfield 446, 3) := dk_180 1 190 (dk_at dksX7_longerParts_0 13 rfl rfl)
theorem dX7_longerParts_16 : decode cX7_longerParts 16 = .ok (.ifCond .eq 7, 3) := dk_153 0 7 (dk_at dksX7_longerParts_0 16 rfl rfl)
theorem dX7_longerParts_19 : decode cX7_longerParts 19 = .ok (.iconst 0, 1) := dk_3 (dk_at dksX7_longerParts_0 19 rfl rfl)
theorem dX7_longerParts_20 : decode cX7_longerParts 20 = .ok (.goto 13, 3) := dk_167 0 13 (dk_at dksX7_longerParts_0 20 rfl rfl)
theorem dX7_longerParts_23 : decode cX7_longerParts 23 = .ok (.iload_n 2, 1) := dk_28 (dk_at dksX7_longerParts_0 23 rfl rfl)
theorem dX7_longerParts_24 : decode cX7_longerParts 24 = .ok (.aload_n 0, 1) := dk_42 (dk_at dksX7_longerParts_1 0 rfl rfl)
theorem dX7_longerParts_25 : decode cX7_longerParts 25 = .ok (.aload_n 0, 1) := dk_42 (dk_at dksX7_longerParts_1 1 rfl rfl)
theorem dX7_longerParts_26 : decode cX7_longerParts 26 = .ok (.getfield 425, 3) := dk_180 1 169 (dk_at dksX7_longerParts_1 2 rfl rfl)
theorem dX7_longerParts_29 : decode cX7_longerParts 29 = .ok (.invokevirtual 437, 3) := dk_182 1 181 (dk_at dksX7_longerParts_1 5 rfl rfl)
theorem dX7_longerParts_32 : decode cX7_longerParts 32 = .ok (.iadd, 1) := dk_96 (dk_at dksX7_longerParts_1 8 rfl rfl)
theorem dX7_longerParts_33 : decode cX7_longerParts 33 = .ok (.ireturn, 1) := dk_172 (dk_at dksX7_longerParts_1 9 rfl rfl)
abbrev cX7_plainParts : ByteArray := prog_32_method_122_code
def yX7_plainParts : MethodName := ⟨RX7, "plainParts", "(I)I"⟩
def dkwX7_plainParts_3 : List UInt8 := [180, 1, 169, 100, 108, 172]
abbrev dktX7_plainParts_3 : List UInt8 := dkwX7_plainParts_3 ++ []
def dkwX7_plainParts_2 : List UInt8 := [180, 1, 184, 42, 180, 1, 169, 100, 2, 160, 0, 9, 3, 27, 100, 167, 0, 14, 27, 42, 180, 1, 184, 42]
abbrev dktX7_plainParts_2 : List UInt8 := dkwX7_plainParts_2 ++ dktX7_plainParts_3
def dkwX7_plainParts_1 : List UInt8 := [160, 0, 7, 4, 167, 0, 4, 3, 181, 1, 190, 42, 180, 1, 190, 153, 0, 7, 3, 167, 0, 33, 42]
abbrev dktX7_plainParts_1 : List UInt8 := dkwX7_plainParts_1 ++ dktX7_plainParts_2
def dkwX7_plainParts_0 : List UInt8 := [42, 16, 12, 182, 1, 166, 42, 42, 180, 1, 190, 154, 0, 14, 42, 180, 1, 184, 42, 180, 1, 169]
abbrev dktX7_plainParts_0 : List UInt8 := dkwX7_plainParts_0 ++ dktX7_plainParts_1
theorem dksX7_plainParts_0 : cX7_plainParts.data.toList.drop 0 = dktX7_plainParts_0 := by decide +kernel
theorem dksX7_plainParts_1 : cX7_plainParts.data.toList.drop 22 = dktX7_plainParts_1 := dk_seg dksX7_plainParts_0 22 rfl rfl
theorem dksX7_plainParts_2 : cX7_plainParts.data.toList.drop 45 = dktX7_plainParts_2 := dk_seg dksX7_plainParts_1 23 rfl rfl
theorem dksX7_plainParts_3 : cX7_plainParts.data.toList.drop 69 = dktX7_plainParts_3 := dk_seg dksX7_plainParts_2 24 rfl rfl
theorem dX7_plainParts_0 : decode cX7_plainParts 0 = .ok (.aload_n 0, 1) := dk_42 (dk_at dksX7_plainParts_0 0 rfl rfl)
theorem dX7_plainParts_1 : decode cX7_plainParts 1 = .ok (.bipush 12, 2) := dk_16 12 (dk_at dksX7_plainParts_0 1 rfl rfl)
theorem dX7_plainParts_3 : decode cX7_plainParts 3 = .ok (.invokevirtual 422, 3) := dk_182 1 166 (dk_at dksX7_plainParts_0 3 rfl rfl)
theorem dX7_plainParts_6 : decode cX7_plainParts 6 = .ok (.aload_n 0, 1) := dk_42 (dk_at dksX7_plainParts_0 6 rfl rfl)
theorem dX7_plainParts_7 : decode cX7_plainParts 7 = .ok (.aload_n 0, 1) := dk_42 (dk_at dksX7_plainParts_0 7 rfl rfl)
theorem dX7_plainParts_8 : decode cX7_plainParts 8 = .ok (.getfield 446, 3) := dk_180 1 190 (dk_at dksX7_plainParts_0 8 rfl rfl)
theorem dX7_plainParts_11 : decode cX7_plainParts 11 = .ok (.ifCond .ne 14, 3) := dk_154 0 14 (dk_at dksX7_plainParts_0 11 rfl rfl)
theorem dX7_plainParts_14 : decode cX7_plainParts 14 = .ok (.aload_n 0, 1) := dk_42 (dk_at dksX7_plainParts_0 14 rfl rfl)
theorem dX7_plainParts_15 : decode cX7_plainParts 15 = .ok (.getfield 440, 3) := dk_180 1 184 (dk_at dksX7_plainParts_0 15 rfl rfl)
theorem dX7_plainParts_18 : decode cX7_plainParts 18 = .ok (.aload_n 0, 1) := dk_42 (dk_at dksX7_plainParts_0 18 rfl rfl)
theorem dX7_plainParts_19 : decode cX7_plainParts 19 = .ok (.getfield 425, 3) := dk_180 1 169 (dk_at dksX7_plainParts_0 19 rfl rfl)
theorem dX7_plainParts_22 : decode cX7_plainParts 22 = .ok (.if_icmp .ne 7, 3) := dk_160 0 7 (dk_at dksX7_plainParts_1 0 rfl rfl)
theorem dX7_plainParts_25 : decode cX7_plainParts 25 = .ok (.iconst 1, 1) := dk_4 (dk_at dksX7_plainParts_1 3 rfl rfl)
theorem dX7_plainParts_26 : decode cX7_plainParts 26 = .ok (.goto 4, 3) := dk_167 0 4 (dk_at dksX7_plainParts_1 4 rfl rfl)
theorem dX7_plainParts_29 : decode cX7_plainParts 29 = .ok (.iconst 0, 1) := dk_3 (dk_at dksX7_plainParts_1 7 rfl rfl)
theorem dX7_plainParts_30 : decode cX7_plainParts 30 = .ok (.putfield 446, 3) := dk_181 1 190 (dk_at dksX7_plainParts_1 8 rfl rfl)
theorem dX7_plainParts_33 : decode cX7_plainParts 33 = .ok (.aload_n 0, 1) := dk_42 (dk_at dksX7_plainParts_1 11 rfl rfl)
theorem dX7_plainParts_34 : decode cX7_plainParts 34 = .ok (.getfield 446, 3) := dk_180 1 190 (dk_at dksX7_plainParts_1 12 rfl rfl)
theorem dX7_plainParts_37 : decode cX7_plainParts 37 = .ok (.ifCond .eq 7, 3) := dk_153 0 7 (dk_at dksX7_plainParts_1 15 rfl rfl)
theorem dX7_plainParts_40 : decode cX7_plainParts 40 = .ok (.iconst 0, 1) := dk_3 (dk_at dksX7_plainParts_1 18 rfl rfl)
theorem dX7_plainParts_41 : decode cX7_plainParts 41 = .ok (.goto 33, 3) := dk_167 0 33 (dk_at dksX7_plainParts_1 19 rfl rfl)
theorem dX7_plainParts_44 : decode cX7_plainParts 44 = .ok (.aload_n 0, 1) := dk_42 (dk_at dksX7_plainParts_1 22 rfl rfl)
theorem dX7_plainParts_45 : decode cX7_plainParts 45 = .ok (.getfield 440, 3) := dk_180 1 184 (dk_at dksX7_plainParts_2 0 rfl rfl)
theorem dX7_plainParts_48 : decode cX7_plainParts 48 = .ok (.aload_n 0, 1) := dk_42 (dk_at dksX7_plainParts_2 3 rfl rfl)
theorem dX7_plainParts_49 : decode cX7_plainParts 49 = .ok (.getfield 425, 3) := dk_180 1 169 (dk_at dksX7_plainParts_2 4 rfl rfl)
theorem dX7_plainParts_52 : decode cX7_plainParts 52 = .ok (.isub, 1) := dk_100 (dk_at dksX7_plainParts_2 7 rfl rfl)
theorem dX7_plainParts_53 : decode cX7_plainParts 53 = .ok (.iconst (-1), 1) := dk_2 (dk_at dksX7_plainParts_2 8 rfl rfl)
theorem dX7_plainParts_54 : decode cX7_plainParts 54 = .ok (.if_icmp .ne 9, 3) := dk_160 0 9 (dk_at dksX7_plainParts_2 9 rfl rfl)
theorem dX7_plainParts_57 : decode cX7_plainParts 57 = .ok (.iconst 0, 1) := dk_3 (dk_at dksX7_plainParts_2 12 rfl rfl)
theorem dX7_plainParts_58 : decode cX7_plainParts 58 = .ok (.iload_n 1, 1) := dk_27 (dk_at dksX7_plainParts_2 13 rfl rfl)
theorem dX7_plainParts_59 : decode cX7_plainParts 59 = .ok (.isub, 1) := dk_100 (dk_at dksX7_plainParts_2 14 rfl rfl)
theorem dX7_plainParts_60 : decode cX7_plainParts 60 = .ok (.goto 14, 3) := dk_167 0 14 (dk_at dksX7_plainParts_2 15 rfl rfl)
theorem dX7_plainParts_63 : decode cX7_plainParts 63 = .ok (.iload_n 1, 1) := dk_27 (dk_at dksX7_plainParts_2 18 rfl rfl)
theorem dX7_plainParts_64 : decode cX7_plainParts 64 = .ok (.aload_n 0, 1) := dk_42 (dk_at dksX7_plainParts_2 19 rfl rfl)
theorem dX7_plainParts_65 : decode cX7_plainParts 65 = .ok (.getfield 440, 3) := dk_180 1 184 (dk_at dksX7_plainParts_2 20 rfl rfl)
theorem dX7_plainParts_68 : decode cX7_plainParts 68 = .ok (.aload_n 0, 1) := dk_42 (dk_at dksX7_plainParts_2 23 rfl rfl)
theorem dX7_plainParts_69 : decode cX7_plainParts 69 = .ok (.getfield 425, 3) := dk_180 1 169 (dk_at dksX7_plainParts_3 0 rfl rfl)
theorem dX7_plainParts_72 : decode cX7_plainParts 72 = .ok (.isub, 1) := dk_100 (dk_at dksX7_plainParts_3 3 rfl rfl)
theorem dX7_plainParts_73 : decode cX7_plainParts 73 = .ok (.idiv, 1) := dk_108 (dk_at dksX7_plainParts_3 4 rfl rfl)
theorem dX7_plainParts_74 : decode cX7_plainParts 74 = .ok (.ireturn, 1) := dk_172 (dk_at dksX7_plainParts_3 5 rfl rfl)
abbrev cX7_joins : ByteArray := prog_32_method_126_code
def yX7_joins : MethodName := ⟨RX7, "joins", "(I)I"⟩
def dkwX7_joins_3 : List UInt8 := [182, 1, 199, 100, 167, 0, 10, 28, 42, 4, 182, 1, 199, 96, 172]
abbrev dktX7_joins_3 : List UInt8 := dkwX7_joins_3 ++ []
def dkwX7_joins_2 : List UInt8 := [180, 1, 190, 153, 0, 5, 3, 172, 42, 180, 1, 175, 7, 160, 0, 16, 28, 42, 42, 180, 1, 184]
abbrev dktX7_joins_2 : List UInt8 := dkwX7_joins_2 ++ dktX7_joins_3
def dkwX7_joins_1 : List UInt8 := [180, 1, 175, 7, 160, 0, 8, 16, 50, 167, 0, 5, 16, 61, 182, 1, 166, 42, 27, 182, 1, 205, 61, 42]
abbrev dktX7_joins_1 : List UInt8 := dkwX7_joins_1 ++ dktX7_joins_2
def dkwX7_joins_0 : List UInt8 := [42, 180, 1, 175, 7, 159, 0, 17, 42, 180, 1, 175, 8, 159, 0, 9, 42, 27, 182, 1, 205, 172, 42, 42]
abbrev dktX7_joins_0 : List UInt8 := dkwX7_joins_0 ++ dktX7_joins_1
theorem dksX7_joins_0 : cX7_joins.data.toList.drop 0 = dktX7_joins_0 := by decide +kernel
theorem dksX7_joins_1 : cX7_joins.data.toList.drop 24 = dktX7_joins_1 := dk_seg dksX7_joins_0 24 rfl rfl
theorem dksX7_joins_2 : cX7_joins.data.toList.drop 48 = dktX7_joins_2 := dk_seg dksX7_joins_1 24 rfl rfl
theorem dksX7_joins_3 : cX7_joins.data.toList.drop 70 = dktX7_joins_3 := dk_seg dksX7_joins_2 22 rfl rfl
theorem dX7_joins_0 : decode cX7_joins 0 = .ok (.aload_n 0, 1) := dk_42 (dk_at dksX7_joins_0 0 rfl rfl)
theorem dX7_joins_1 : decode cX7_joins 1 = .ok (.getfield 431, 3) := dk_180 1 175 (dk_at dksX7_joins_0 1 rfl rfl)
theorem dX7_joins_4 : decode cX7_joins 4 = .ok (.iconst 4, 1) := dk_7 (dk_at dksX7_joins_0 4 rfl rfl)
theorem dX7_joins_5 : decode cX7_joins 5 = .ok (.if_icmp .eq 17, 3) := dk_159 0 17 (dk_at dksX7_joins_0 5 rfl rfl)
theorem dX7_joins_8 : decode cX7_joins 8 = .ok (.aload_n 0, 1) := dk_42 (dk_at dksX7_joins_0 8 rfl rfl)
theorem dX7_joins_9 : decode cX7_joins 9 = .ok (.getfield 431, 3) := dk_180 1 175 (dk_at dksX7_joins_0 9 rfl rfl)
theorem dX7_joins_12 : decode cX7_joins 12 = .ok (.iconst 5, 1) := dk_8 (dk_at dksX7_joins_0 12 rfl rfl)
theorem dX7_joins_13 : decode cX7_joins 13 = .ok (.if_icmp .eq 9, 3) := dk_159 0 9 (dk_at dksX7_joins_0 13 rfl rfl)
theorem dX7_joins_16 : decode cX7_joins 16 = .ok (.aload_n 0, 1) := dk_42 (dk_at dksX7_joins_0 16 rfl rfl)
theorem dX7_joins_17 : decode cX7_joins 17 = .ok (.iload_n 1, 1) := dk_27 (dk_at dksX7_joins_0 17 rfl rfl)
theorem dX7_joins_18 : decode cX7_joins 18 = .ok (.invokevirtual 461, 3) := dk_182 1 205 (dk_at dksX7_joins_0 18 rfl rfl)
theorem dX7_joins_21 : decode cX7_joins 21 = .ok (.ireturn, 1) := dk_172 (dk_at dksX7_joins_0 21 rfl rfl)
theorem dX7_joins_22 : decode cX7_joins 22 = .ok (.aload_n 0, 1) := dk_42 (dk_at dksX7_joins_0 22 rfl rfl)
theorem dX7_joins_23 : decode cX7_joins 23 = .ok (.aload_n 0, 1) := dk_42 (dk_at dksX7_joins_0 23 rfl rfl)
theorem dX7_joins_24 : decode cX7_joins 24 = .ok (.getfield 431, 3) := dk_180 1 175 (dk_at dksX7_joins_1 0 rfl rfl)
theorem dX7_joins_27 : decode cX7_joins 27 = .ok (.iconst 4, 1) := dk_7 (dk_at dksX7_joins_1 3 rfl rfl)
theorem dX7_joins_28 : decode cX7_joins 28 = .ok (.if_icmp .ne 8, 3) := dk_160 0 8 (dk_at dksX7_joins_1 4 rfl rfl)
theorem dX7_joins_31 : decode cX7_joins 31 = .ok (.bipush 50, 2) := dk_16 50 (dk_at dksX7_joins_1 7 rfl rfl)
theorem dX7_joins_33 : decode cX7_joins 33 = .ok (.goto 5, 3) := dk_167 0 5 (dk_at dksX7_joins_1 9 rfl rfl)
theorem dX7_joins_36 : decode cX7_joins 36 = .ok (.bipush 61, 2) := dk_16 61 (dk_at dksX7_joins_1 12 rfl rfl)
theorem dX7_joins_38 : decode cX7_joins 38 = .ok (.invokevirtual 422, 3) := dk_182 1 166 (dk_at dksX7_joins_1 14 rfl rfl)
theorem dX7_joins_41 : decode cX7_joins 41 = .ok (.aload_n 0, 1) := dk_42 (dk_at dksX7_joins_1 17 rfl rfl)
theorem dX7_joins_42 : decode cX7_joins 42 = .ok (.iload_n 1, 1) := dk_27 (dk_at dksX7_joins_1 18 rfl rfl)
theorem dX7_joins_43 : decode cX7_joins 43 = .ok (.invokevirtual 461, 3) := dk_182 1 205 (dk_at dksX7_joins_1 19 rfl rfl)
theorem dX7_joins_46 : decode cX7_joins 46 = .ok (.istore_n 2, 1) := dk_61 (dk_at dksX7_joins_1 22 rfl rfl)
theorem dX7_joins_47 : decode cX7_joins 47 = .ok (.aload_n 0, 1) := dk_42 (dk_at dksX7_joins_1 23 rfl rfl)
theorem dX7_joins_48 : decode cX7_joins 48 = .ok (.getfield 446, 3) := dk_180 1 190 (dk_at dksX7_joins_2 0 rfl rfl)
theorem dX7_joins_51 : decode cX7_joins 51 = .ok (.ifCond .eq 5, 3) := dk_153 0 5 (dk_at dksX7_joins_2 3 rfl rfl)
theorem dX7_joins_54 : decode cX7_joins 54 = .ok (.iconst 0, 1) := dk_3 (dk_at dksX7_joins_2 6 rfl rfl)
theorem dX7_joins_55 : decode cX7_joins 55 = .ok (.ireturn, 1) := dk_172 (dk_at dksX7_joins_2 7 rfl rfl)
theorem dX7_joins_56 : decode cX7_joins 56 = .ok (.aload_n 0, 1) := dk_42 (dk_at dksX7_joins_2 8 rfl rfl)
theorem dX7_joins_57 : decode cX7_joins 57 = .ok (.getfield 431, 3) := dk_180 1 175 (dk_at dksX7_joins_2 9 rfl rfl)
theorem dX7_joins_60 : decode cX7_joins 60 = .ok (.iconst 4, 1) := dk_7 (dk_at dksX7_joins_2 12 rfl rfl)
theorem dX7_joins_61 : decode cX7_joins 61 = .ok (.if_icmp .ne 16, 3) := dk_160 0 16 (dk_at dksX7_joins_2 13 rfl rfl)
theorem dX7_joins_64 : decode cX7_joins 64 = .ok (.iload_n 2, 1) := dk_28 (dk_at dksX7_joins_2 16 rfl rfl)
theorem dX7_joins_65 : decode cX7_joins 65 = .ok (.aload_n 0, 1) := dk_42 (dk_at dksX7_joins_2 17 rfl rfl)
theorem dX7_joins_66 : decode cX7_joins 66 = .ok (.aload_n 0, 1) := dk_42 (dk_at dksX7_joins_2 18 rfl rfl)
theorem dX7_joins_67 : decode cX7_joins 67 = .ok (.getfield 440, 3) := dk_180 1 184 (dk_at dksX7_joins_2 19 rfl rfl)
theorem dX7_joins_70 : decode cX7_joins 70 = .ok (.invokevirtual 455, 3) := dk_182 1 199 (dk_at dksX7_joins_3 0 rfl rfl)
theorem dX7_joins_73 : decode cX7_joins 73 = .ok (.isub, 1) := dk_100 (dk_at dksX7_joins_3 3 rfl rfl)
theorem dX7_joins_74 : decode cX7_joins 74 = .ok (.goto 10, 3) := dk_167 0 10 (dk_at dksX7_joins_3 4 rfl rfl)
theorem dX7_joins_77 : decode cX7_joins 77 = .ok (.iload_n 2, 1) := dk_28 (dk_at dksX7_joins_3 7 rfl rfl)
theorem dX7_joins_78 : decode cX7_joins 78 = .ok (.aload_n 0, 1) := dk_42 (dk_at dksX7_joins_3 8 rfl rfl)
theorem dX7_joins_79 : decode cX7_joins 79 = .ok (.iconst 1, 1) := dk_4 (dk_at dksX7_joins_3 9 rfl rfl)
theorem dX7_joins_80 : decode cX7_joins 80 = .ok (.invokevirtual 455, 3) := dk_182 1 199 (dk_at dksX7_joins_3 10 rfl rfl)
theorem dX7_joins_83 : decode cX7_joins 83 = .ok (.iadd, 1) := dk_96 (dk_at dksX7_joins_3 13 rfl rfl)
theorem dX7_joins_84 : decode cX7_joins 84 = .ok (.ireturn, 1) := dk_172 (dk_at dksX7_joins_3 14 rfl rfl)
abbrev cX7_plainJoins : ByteArray := prog_32_method_125_code
def yX7_plainJoins : MethodName := ⟨RX7, "plainJoins", "(I)I"⟩
def dkwX7_plainJoins_0 : List UInt8 := [42, 16, 13, 182, 1, 166, 42, 27, 182, 1, 199, 61, 28, 42, 27, 4, 96, 182, 1, 202, 130, 172]
abbrev dktX7_plainJoins_0 : List UInt8 := dkwX7_plainJoins_0 ++ []
theorem dksX7_plainJoins_0 : cX7_plainJoins.data.toList.drop 0 = dktX7_plainJoins_0 := by decide +kernel
theorem dX7_plainJoins_0 : decode cX7_plainJoins 0 = .ok (.aload_n 0, 1) := dk_42 (dk_at dksX7_plainJoins_0 0 rfl rfl)
theorem dX7_plainJoins_1 : decode cX7_plainJoins 1 = .ok (.bipush 13, 2) := dk_16 13 (dk_at dksX7_plainJoins_0 1 rfl rfl)
theorem dX7_plainJoins_3 : decode cX7_plainJoins 3 = .ok (.invokevirtual 422, 3) := dk_182 1 166 (dk_at dksX7_plainJoins_0 3 rfl rfl)
theorem dX7_plainJoins_6 : decode cX7_plainJoins 6 = .ok (.aload_n 0, 1) := dk_42 (dk_at dksX7_plainJoins_0 6 rfl rfl)
theorem dX7_plainJoins_7 : decode cX7_plainJoins 7 = .ok (.iload_n 1, 1) := dk_27 (dk_at dksX7_plainJoins_0 7 rfl rfl)
theorem dX7_plainJoins_8 : decode cX7_plainJoins 8 = .ok (.invokevirtual 455, 3) := dk_182 1 199 (dk_at dksX7_plainJoins_0 8 rfl rfl)
theorem dX7_plainJoins_11 : decode cX7_plainJoins 11 = .ok (.istore_n 2, 1) := dk_61 (dk_at dksX7_plainJoins_0 11 rfl rfl)
theorem dX7_plainJoins_12 : decode cX7_plainJoins 12 = .ok (.iload_n 2, 1) := dk_28 (dk_at dksX7_plainJoins_0 12 rfl rfl)
theorem dX7_plainJoins_13 : decode cX7_plainJoins 13 = .ok (.aload_n 0, 1) := dk_42 (dk_at dksX7_plainJoins_0 13 rfl rfl)
theorem dX7_plainJoins_14 : decode cX7_plainJoins 14 = .ok (.iload_n 1, 1) := dk_27 (dk_at dksX7_plainJoins_0 14 rfl rfl)
theorem dX7_plainJoins_15 : decode cX7_plainJoins 15 = .ok (.iconst 1, 1) := dk_4 (dk_at dksX7_plainJoins_0 15 rfl rfl)
theorem dX7_plainJoins_16 : decode cX7_plainJoins 16 = .ok (.iadd, 1) := dk_96 (dk_at dksX7_plainJoins_0 16 rfl rfl)
theorem dX7_plainJoins_17 : decode cX7_plainJoins 17 = .ok (.invokevirtual 458, 3) := dk_182 1 202 (dk_at dksX7_plainJoins_0 17 rfl rfl)
theorem dX7_plainJoins_20 : decode cX7_plainJoins 20 = .ok (.ixor, 1) := dk_130 (dk_at dksX7_plainJoins_0 20 rfl rfl)
theorem dX7_plainJoins_21 : decode cX7_plainJoins 21 = .ok (.ireturn, 1) := dk_172 (dk_at dksX7_plainJoins_0 21 rfl rfl)
abbrev cX7_trace : ByteArray := prog_32_method_128_code
def yX7_trace : MethodName := ⟨RX7, "trace", "(I)I"⟩
def dkwX7_trace_1 : List UInt8 := [167, 0, 5, 16, 253, 172]
abbrev dktX7_trace_1 : List UInt8 := dkwX7_trace_1 ++ []
def dkwX7_trace_0 : List UInt8 := [27, 133, 9, 42, 180, 1, 163, 4, 100, 133, 184, 0, 133, 153, 0, 12, 42, 180, 0, 102, 27, 46]
abbrev dktX7_trace_0 : List UInt8 := dkwX7_trace_0 ++ dktX7_trace_1
theorem dksX7_trace_0 : cX7_trace.data.toList.drop 0 = dktX7_trace_0 := by decide +kernel
theorem dksX7_trace_1 : cX7_trace.data.toList.drop 22 = dktX7_trace_1 := dk_seg dksX7_trace_0 22 rfl rfl
theorem dX7_trace_0 : decode cX7_trace 0 = .ok (.iload_n 1, 1) := dk_27 (dk_at dksX7_trace_0 0 rfl rfl)
theorem dX7_trace_1 : decode cX7_trace 1 = .ok (.i2l, 1) := dk_133 (dk_at dksX7_trace_0 1 rfl rfl)
theorem dX7_trace_2 : decode cX7_trace 2 = .ok (.lconst 0, 1) := dk_9 (dk_at dksX7_trace_0 2 rfl rfl)
theorem dX7_trace_3 : decode cX7_trace 3 = .ok (.aload_n 0, 1) := dk_42 (dk_at dksX7_trace_0 3 rfl rfl)
theorem dX7_trace_4 : decode cX7_trace 4 = .ok (.getfield 419, 3) := dk_180 1 163 (dk_at dksX7_trace_0 4 rfl rfl)
theorem dX7_trace_7 : decode cX7_trace 7 = .ok (.iconst 1, 1) := dk_4 (dk_at dksX7_trace_0 7 rfl rfl)
theorem dX7_trace_8 : decode cX7_trace 8 = .ok (.isub, 1) := dk_100 (dk_at dksX7_trace_0 8 rfl rfl)
theorem dX7_trace_9 : decode cX7_trace 9 = .ok (.i2l, 1) := dk_133 (dk_at dksX7_trace_0 9 rfl rfl)
theorem dX7_trace_10 : decode cX7_trace 10 = .ok (.invokestatic 133, 3) := dk_184 0 133 (dk_at dksX7_trace_0 10 rfl rfl)
theorem dX7_trace_13 : decode cX7_trace 13 = .ok (.ifCond .eq 12, 3) := dk_153 0 12 (dk_at dksX7_trace_0 13 rfl rfl)
theorem dX7_trace_16 : decode cX7_trace 16 = .ok (.aload_n 0, 1) := dk_42 (dk_at dksX7_trace_0 16 rfl rfl)
theorem dX7_trace_17 : decode cX7_trace 17 = .ok (.getfield 102, 3) := dk_180 0 102 (dk_at dksX7_trace_0 17 rfl rfl)
theorem dX7_trace_20 : decode cX7_trace 20 = .ok (.iload_n 1, 1) := dk_27 (dk_at dksX7_trace_0 20 rfl rfl)
theorem dX7_trace_21 : decode cX7_trace 21 = .ok (.iaload, 1) := dk_46 (dk_at dksX7_trace_0 21 rfl rfl)
theorem dX7_trace_22 : decode cX7_trace 22 = .ok (.goto 5, 3) := dk_167 0 5 (dk_at dksX7_trace_1 0 rfl rfl)
theorem dX7_trace_25 : decode cX7_trace 25 = .ok (.bipush (-3), 2) := dk_16 253 (dk_at dksX7_trace_1 3 rfl rfl)
theorem dX7_trace_27 : decode cX7_trace 27 = .ok (.ireturn, 1) := dk_172 (dk_at dksX7_trace_1 5 rfl rfl)
abbrev cX7_many : ByteArray := prog_32_method_130_code
def yX7_many : MethodName := ⟨RX7, "many", "(I)I"⟩
def dkwX7_many_4 : List UInt8 := [180, 1, 163, 172, 2, 172]
abbrev dktX7_many_4 : List UInt8 := dkwX7_many_4 ++ []
def dkwX7_many_3 : List UInt8 := [42, 4, 182, 1, 211, 172, 42, 180, 0, 205, 172, 42, 180, 1, 137, 172, 42, 180, 0, 238, 172, 42]
abbrev dktX7_many_3 : List UInt8 := dkwX7_many_3 ++ dktX7_many_4
def dkwX7_many_2 : List UInt8 := [42, 180, 0, 7, 172, 42, 180, 0, 178, 172, 42, 180, 0, 137, 184, 0, 127, 172, 42, 3, 182, 1, 211, 172]
abbrev dktX7_many_2 : List UInt8 := dkwX7_many_2 ++ dktX7_many_3
def dkwX7_many_1 : List UInt8 := [170, 0, 0, 0, 0, 0, 101, 0, 0, 0, 0, 0, 0, 0, 8, 0, 0, 0, 51, 0, 0, 0, 56, 0, 0, 0, 61, 0, 0, 0, 69, 0, 0, 0, 75, 0, 0, 0, 81, 0, 0, 0, 86, 0, 0, 0, 91, 0, 0, 0, 96]
abbrev dktX7_many_1 : List UInt8 := dkwX7_many_1 ++ dktX7_many_2
def dkwX7_many_0 : List UInt8 := [27]
abbrev dktX7_many_0 : List UInt8 := dkwX7_many_0 ++ dktX7_many_1
theorem dksX7_many_0 : cX7_many.data.toList.drop 0 = dktX7_many_0 := by decide +kernel
theorem dksX7_many_1 : cX7_many.data.toList.drop 1 = dktX7_many_1 := dk_seg dksX7_many_0 1 rfl rfl
theorem dksX7_many_2 : cX7_many.data.toList.drop 52 = dktX7_many_2 := dk_seg dksX7_many_1 51 rfl rfl
theorem dksX7_many_3 : cX7_many.data.toList.drop 76 = dktX7_many_3 := dk_seg dksX7_many_2 24 rfl rfl
theorem dksX7_many_4 : cX7_many.data.toList.drop 98 = dktX7_many_4 := dk_seg dksX7_many_3 22 rfl rfl
theorem dX7_many_0 : decode cX7_many 0 = .ok (.iload_n 1, 1) := dk_27 (dk_at dksX7_many_0 0 rfl rfl)
theorem dX7_many_1 : decode cX7_many 1 = .ok (.tableswitch 101 0 8 #[51, 56, 61, 69, 75, 81, 86, 91, 96], 51) := by decide +kernel
theorem dX7_many_52 : decode cX7_many 52 = .ok (.aload_n 0, 1) := dk_42 (dk_at dksX7_many_2 0 rfl rfl)
theorem dX7_many_53 : decode cX7_many 53 = .ok (.getfield 7, 3) := dk_180 0 7 (dk_at dksX7_many_2 1 rfl rfl)
theorem dX7_many_56 : decode cX7_many 56 = .ok (.ireturn, 1) := dk_172 (dk_at dksX7_many_2 4 rfl rfl)
theorem dX7_many_57 : decode cX7_many 57 = .ok (.aload_n 0, 1) := dk_42 (dk_at dksX7_many_2 5 rfl rfl)
theorem dX7_many_58 : decode cX7_many 58 = .ok (.getfield 178, 3) := dk_180 0 178 (dk_at dksX7_many_2 6 rfl rfl)
theorem dX7_many_61 : decode cX7_many 61 = .ok (.ireturn, 1) := dk_172 (dk_at dksX7_many_2 9 rfl rfl)
theorem dX7_many_62 : decode cX7_many 62 = .ok (.aload_n 0, 1) := dk_42 (dk_at dksX7_many_2 10 rfl rfl)
theorem dX7_many_63 : decode cX7_many 63 = .ok (.getfield 137, 3) := dk_180 0 137 (dk_at dksX7_many_2 11 rfl rfl)
theorem dX7_many_66 : decode cX7_many 66 = .ok (.invokestatic 127, 3) := dk_184 0 127 (dk_at dksX7_many_2 14 rfl rfl)
theorem dX7_many_69 : decode cX7_many 69 = .ok (.ireturn, 1) := dk_172 (dk_at dksX7_many_2 17 rfl rfl)
theorem dX7_many_70 : decode cX7_many 70 = .ok (.aload_n 0, 1) := dk_42 (dk_at dksX7_many_2 18 rfl rfl)
theorem dX7_many_71 : decode cX7_many 71 = .ok (.iconst 0, 1) := dk_3 (dk_at dksX7_many_2 19 rfl rfl)
theorem dX7_many_72 : decode cX7_many 72 = .ok (.invokevirtual 467, 3) := dk_182 1 211 (dk_at dksX7_many_2 20 rfl rfl)
theorem dX7_many_75 : decode cX7_many 75 = .ok (.ireturn, 1) := dk_172 (dk_at dksX7_many_2 23 rfl rfl)
theorem dX7_many_76 : decode cX7_many 76 = .ok (.aload_n 0, 1) := dk_42 (dk_at dksX7_many_3 0 rfl rfl)
theorem dX7_many_77 : decode cX7_many 77 = .ok (.iconst 1, 1) := dk_4 (dk_at dksX7_many_3 1 rfl rfl)
theorem dX7_many_78 : decode cX7_many 78 = .ok (.invokevirtual 467, 3) := dk_182 1 211 (dk_at dksX7_many_3 2 rfl rfl)
theorem dX7_many_81 : decode cX7_many 81 = .ok (.ireturn, 1) := dk_172 (dk_at dksX7_many_3 5 rfl rfl)
theorem dX7_many_82 : decode cX7_many 82 = .ok (.aload_n 0, 1) := dk_42 (dk_at dksX7_many_3 6 rfl rfl)
theorem dX7_many_83 : decode cX7_many 83 = .ok (.getfield 205, 3) := dk_180 0 205 (dk_at dksX7_many_3 7 rfl rfl)
theorem dX7_many_86 : decode cX7_many 86 = .ok (.ireturn, 1) := dk_172 (dk_at dksX7_many_3 10 rfl rfl)
theorem dX7_many_87 : decode cX7_many 87 = .ok (.aload_n 0, 1) := dk_42 (dk_at dksX7_many_3 11 rfl rfl)
theorem dX7_many_88 : decode cX7_many 88 = .ok (.getfield 393, 3) := dk_180 1 137 (dk_at dksX7_many_3 12 rfl rfl)
theorem dX7_many_91 : decode cX7_many 91 = .ok (.ireturn, 1) := dk_172 (dk_at dksX7_many_3 15 rfl rfl)
theorem dX7_many_92 : decode cX7_many 92 = .ok (.aload_n 0, 1) := dk_42 (dk_at dksX7_many_3 16 rfl rfl)
theorem dX7_many_93 : decode cX7_many 93 = .ok (.getfield 238, 3) := dk_180 0 238 (dk_at dksX7_many_3 17 rfl rfl)
theorem dX7_many_96 : decode cX7_many 96 = .ok (.ireturn, 1) := dk_172 (dk_at dksX7_many_3 20 rfl rfl)
theorem dX7_many_97 : decode cX7_many 97 = .ok (.aload_n 0, 1) := dk_42 (dk_at dksX7_many_3 21 rfl rfl)
theorem dX7_many_98 : decode cX7_many 98 = .ok (.getfield 419, 3) := dk_180 1 163 (dk_at dksX7_many_4 0 rfl rfl)
theorem dX7_many_101 : decode cX7_many 101 = .ok (.ireturn, 1) := dk_172 (dk_at dksX7_many_4 3 rfl rfl)
theorem dX7_many_102 : decode cX7_many 102 = .ok (.iconst (-1), 1) := dk_2 (dk_at dksX7_many_4 4 rfl rfl)
theorem dX7_many_103 : decode cX7_many 103 = .ok (.ireturn, 1) := dk_172 (dk_at dksX7_many_4 5 rfl rfl)
abbrev cX7_manyClasses : ByteArray := prog_32_method_129_code
def yX7_manyClasses : MethodName := ⟨RX7, "manyClasses", "(Z)I"⟩
def dkwX7_manyClasses_2 : List UInt8 := [167, 0, 4, 4, 96, 61, 132, 3, 1, 167, 255, 203, 28, 172]
abbrev dktX7_manyClasses_2 : List UInt8 := dkwX7_manyClasses_2 ++ []
def dkwX7_manyClasses_1 : List UInt8 := [42, 21, 4, 182, 1, 96, 153, 0, 24, 28, 27, 153, 0, 16, 42, 21, 4, 182, 0, 159, 133, 184, 0, 127]
abbrev dktX7_manyClasses_1 : List UInt8 := dkwX7_manyClasses_1 ++ dktX7_manyClasses_2
def dkwX7_manyClasses_0 : List UInt8 := [3, 61, 3, 62, 29, 42, 180, 0, 47, 42, 180, 0, 7, 46, 162, 0, 46, 42, 29, 182, 0, 124, 54, 4]
abbrev dktX7_manyClasses_0 : List UInt8 := dkwX7_manyClasses_0 ++ dktX7_manyClasses_1
theorem dksX7_manyClasses_0 : cX7_manyClasses.data.toList.drop 0 = dktX7_manyClasses_0 := by decide +kernel
theorem dksX7_manyClasses_1 : cX7_manyClasses.data.toList.drop 24 = dktX7_manyClasses_1 := dk_seg dksX7_manyClasses_0 24 rfl rfl
theorem dksX7_manyClasses_2 : cX7_manyClasses.data.toList.drop 48 = dktX7_manyClasses_2 := dk_seg dksX7_manyClasses_1 24 rfl rfl
theorem dX7_manyClasses_0 : decode cX7_manyClasses 0 = .ok (.iconst 0, 1) := dk_3 (dk_at dksX7_manyClasses_0 0 rfl rfl)
theorem dX7_manyClasses_1 : decode cX7_manyClasses 1 = .ok (.istore_n 2, 1) := dk_61 (dk_at dksX7_manyClasses_0 1 rfl rfl)
theorem dX7_manyClasses_2 : decode cX7_manyClasses 2 = .ok (.iconst 0, 1) := dk_3 (dk_at dksX7_manyClasses_0 2 rfl rfl)
theorem dX7_manyClasses_3 : decode cX7_manyClasses 3 = .ok (.istore_n 3, 1) := dk_62 (dk_at dksX7_manyClasses_0 3 rfl rfl)
theorem dX7_manyClasses_4 : decode cX7_manyClasses 4 = .ok (.iload_n 3, 1) := dk_29 (dk_at dksX7_manyClasses_0 4 rfl rfl)
theorem dX7_manyClasses_5 : decode cX7_manyClasses 5 = .ok (.aload_n 0, 1) := dk_42 (dk_at dksX7_manyClasses_0 5 rfl rfl)
theorem dX7_manyClasses_6 : decode cX7_manyClasses 6 = .ok (.getfield 47, 3) := dk_180 0 47 (dk_at dksX7_manyClasses_0 6 rfl rfl)
theorem dX7_manyClasses_9 : decode cX7_manyClasses 9 = .ok (.aload_n 0, 1) := dk_42 (dk_at dksX7_manyClasses_0 9 rfl rfl)
theorem dX7_manyClasses_10 : decode cX7_manyClasses 10 = .ok (.getfield 7, 3) := dk_180 0 7 (dk_at dksX7_manyClasses_0 10 rfl rfl)
theorem dX7_manyClasses_13 : decode cX7_manyClasses 13 = .ok (.iaload, 1) := dk_46 (dk_at dksX7_manyClasses_0 13 rfl rfl)
theorem dX7_manyClasses_14 : decode cX7_manyClasses 14 = .ok (.if_icmp .ge 46, 3) := dk_162 0 46 (dk_at dksX7_manyClasses_0 14 rfl rfl)
theorem dX7_manyClasses_17 : decode cX7_manyClasses 17 = .ok (.aload_n 0, 1) := dk_42 (dk_at dksX7_manyClasses_0 17 rfl rfl)
theorem dX7_manyClasses_18 : decode cX7_manyClasses 18 = .ok (.iload_n 3, 1) := dk_29 (dk_at dksX7_manyClasses_0 18 rfl rfl)
theorem dX7_manyClasses_19 : decode cX7_manyClasses 19 = .ok (.invokevirtual 124, 3) := dk_182 0 124 (dk_at dksX7_manyClasses_0 19 rfl rfl)
theorem dX7_manyClasses_22 : decode cX7_manyClasses 22 = .ok (.istore 4, 2) := dk_54 4 (dk_at dksX7_manyClasses_0 22 rfl rfl)
theorem dX7_manyClasses_24 : decode cX7_manyClasses 24 = .ok (.aload_n 0, 1) := dk_42 (dk_at dksX7_manyClasses_1 0 rfl rfl)
theorem dX7_manyClasses_25 : decode cX7_manyClasses 25 = .ok (.iload 4, 2) := dk_21 4 (dk_at dksX7_manyClasses_1 1 rfl rfl)
theorem dX7_manyClasses_27 : decode cX7_manyClasses 27 = .ok (.invokevirtual 352, 3) := dk_182 1 96 (dk_at dksX7_manyClasses_1 3 rfl rfl)
theorem dX7_manyClasses_30 : decode cX7_manyClasses 30 = .ok (.ifCond .eq 24, 3) := dk_153 0 24 (dk_at dksX7_manyClasses_1 6 rfl rfl)
theorem dX7_manyClasses_33 : decode cX7_manyClasses 33 = .ok (.iload_n 2, 1) := dk_28 (dk_at dksX7_manyClasses_1 9 rfl rfl)
theorem dX7_manyClasses_34 : decode cX7_manyClasses 34 = .ok (.iload_n 1, 1) := dk_27 (dk_at dksX7_manyClasses_1 10 rfl rfl)
theorem dX7_manyClasses_35 : decode cX7_manyClasses 35 = .ok (.ifCond .eq 16, 3) := dk_153 0 16 (dk_at dksX7_manyClasses_1 11 rfl rfl)
theorem dX7_manyClasses_38 : decode cX7_manyClasses 38 = .ok (.aload_n 0, 1) := dk_42 (dk_at dksX7_manyClasses_1 14 rfl rfl)
theorem dX7_manyClasses_39 : decode cX7_manyClasses 39 = .ok (.iload 4, 2) := dk_21 4 (dk_at dksX7_manyClasses_1 15 rfl rfl)
theorem dX7_manyClasses_41 : decode cX7_manyClasses 41 = .ok (.invokevirtual 159, 3) := dk_182 0 159 (dk_at dksX7_manyClasses_1 17 rfl rfl)
theorem dX7_manyClasses_44 : decode cX7_manyClasses 44 = .ok (.i2l, 1) := dk_133 (dk_at dksX7_manyClasses_1 20 rfl rfl)
theorem dX7_manyClasses_45 : decode cX7_manyClasses 45 = .ok (.invokestatic 127, 3) := dk_184 0 127 (dk_at dksX7_manyClasses_1 21 rfl rfl)
theorem dX7_manyClasses_48 : decode cX7_manyClasses 48 = .ok (.goto 4, 3) := dk_167 0 4 (dk_at dksX7_manyClasses_2 0 rfl rfl)
theorem dX7_manyClasses_51 : decode cX7_manyClasses 51 = .ok (.iconst 1, 1) := dk_4 (dk_at dksX7_manyClasses_2 3 rfl rfl)
theorem dX7_manyClasses_52 : decode cX7_manyClasses 52 = .ok (.iadd, 1) := dk_96 (dk_at dksX7_manyClasses_2 4 rfl rfl)
theorem dX7_manyClasses_53 : decode cX7_manyClasses 53 = .ok (.istore_n 2, 1) := dk_61 (dk_at dksX7_manyClasses_2 5 rfl rfl)
theorem dX7_manyClasses_54 : decode cX7_manyClasses 54 = .ok (.iinc 3 1, 3) := dk_132 3 1 (dk_at dksX7_manyClasses_2 6 rfl rfl)
theorem dX7_manyClasses_57 : decode cX7_manyClasses 57 = .ok (.goto (-53), 3) := dk_167 255 203 (dk_at dksX7_manyClasses_2 9 rfl rfl)
theorem dX7_manyClasses_60 : decode cX7_manyClasses 60 = .ok (.iload_n 2, 1) := dk_28 (dk_at dksX7_manyClasses_2 12 rfl rfl)
theorem dX7_manyClasses_61 : decode cX7_manyClasses 61 = .ok (.ireturn, 1) := dk_172 (dk_at dksX7_manyClasses_2 13 rfl rfl)
abbrev cX7_keep : ByteArray := prog_32_method_131_code
def yX7_keep : MethodName := ⟨RX7, "keep", "()I"⟩
def dkwX7_keep_3 : List UInt8 := [42, 4, 181, 1, 227, 4, 172]
abbrev dktX7_keep_3 : List UInt8 := dkwX7_keep_3 ++ []
def dkwX7_keep_2 : List UInt8 := [180, 0, 16, 27, 46, 79, 42, 180, 0, 26, 27, 42, 180, 0, 20, 27, 46, 79, 132, 1, 1, 167, 255, 223]
abbrev dktX7_keep_2 : List UInt8 := dkwX7_keep_2 ++ dktX7_keep_3
def dkwX7_keep_1 : List UInt8 := [42, 42, 180, 0, 205, 181, 1, 224, 3, 60, 27, 16, 6, 162, 0, 33, 42, 180, 0, 23, 27, 42]
abbrev dktX7_keep_1 : List UInt8 := dkwX7_keep_1 ++ dktX7_keep_2
def dkwX7_keep_0 : List UInt8 := [42, 42, 180, 0, 7, 181, 1, 215, 42, 42, 180, 0, 13, 181, 1, 218, 42, 42, 180, 0, 137, 181, 1, 221]
abbrev dktX7_keep_0 : List UInt8 := dkwX7_keep_0 ++ dktX7_keep_1
theorem dksX7_keep_0 : cX7_keep.data.toList.drop 0 = dktX7_keep_0 := by decide +kernel
theorem dksX7_keep_1 : cX7_keep.data.toList.drop 24 = dktX7_keep_1 := dk_seg dksX7_keep_0 24 rfl rfl
theorem dksX7_keep_2 : cX7_keep.data.toList.drop 46 = dktX7_keep_2 := dk_seg dksX7_keep_1 22 rfl rfl
theorem dksX7_keep_3 : cX7_keep.data.toList.drop 70 = dktX7_keep_3 := dk_seg dksX7_keep_2 24 rfl rfl
theorem dX7_keep_0 : decode cX7_keep 0 = .ok (.aload_n 0, 1) := dk_42 (dk_at dksX7_keep_0 0 rfl rfl)
theorem dX7_keep_1 : decode cX7_keep 1 = .ok (.aload_n 0, 1) := dk_42 (dk_at dksX7_keep_0 1 rfl rfl)
theorem dX7_keep_2 : decode cX7_keep 2 = .ok (.getfield 7, 3) := dk_180 0 7 (dk_at dksX7_keep_0 2 rfl rfl)
theorem dX7_keep_5 : decode cX7_keep 5 = .ok (.putfield 471, 3) := dk_181 1 215 (dk_at dksX7_keep_0 5 rfl rfl)
theorem dX7_keep_8 : decode cX7_keep 8 = .ok (.aload_n 0, 1) := dk_42 (dk_at dksX7_keep_0 8 rfl rfl)
theorem dX7_keep_9 : decode cX7_keep 9 = .ok (.aload_n 0, 1) := dk_42 (dk_at dksX7_keep_0 9 rfl rfl)
theorem dX7_keep_10 : decode cX7_keep 10 = .ok (.getfield 13, 3) := dk_180 0 13 (dk_at dksX7_keep_0 10 rfl rfl)
theorem dX7_keep_13 : decode cX7_keep 13 = .ok (.putfield 474, 3) := dk_181 1 218 (dk_at dksX7_keep_0 13 rfl rfl)
theorem dX7_keep_16 : decode cX7_keep 16 = .ok (.aload_n 0, 1) := dk_42 (dk_at dksX7_keep_0 16 rfl rfl)
theorem dX7_keep_17 : decode cX7_keep 17 = .ok (.aload_n 0, 1) := dk_42 (dk_at dksX7_keep_0 17 rfl rfl)
theorem dX7_keep_18 : decode cX7_keep 18 = .ok (.getfield 137, 3) := dk_180 0 137 (dk_at dksX7_keep_0 18 rfl rfl)
theorem dX7_keep_21 : decode cX7_keep 21 = .ok (.putfield 477, 3) := dk_181 1 221 (dk_at dksX7_keep_0 21 rfl rfl)
theorem dX7_keep_24 : decode cX7_keep 24 = .ok (.aload_n 0, 1) := dk_42 (dk_at dksX7_keep_1 0 rfl rfl)
theorem dX7_keep_25 : decode cX7_keep 25 = .ok (.aload_n 0, 1) := dk_42 (dk_at dksX7_keep_1 1 rfl rfl)
theorem dX7_keep_26 : decode cX7_keep 26 = .ok (.getfield 205, 3) := dk_180 0 205 (dk_at dksX7_keep_1 2 rfl rfl)
theorem dX7_keep_29 : decode cX7_keep 29 = .ok (.putfield 480, 3) := dk_181 1 224 (dk_at dksX7_keep_1 5 rfl rfl)
theorem dX7_keep_32 : decode cX7_keep 32 = .ok (.iconst 0, 1) := dk_3 (dk_at dksX7_keep_1 8 rfl rfl)
theorem dX7_keep_33 : decode cX7_keep 33 = .ok (.istore_n 1, 1) := dk_60 (dk_at dksX7_keep_1 9 rfl rfl)
theorem dX7_keep_34 : decode cX7_keep 34 = .ok (.iload_n 1, 1) := dk_27 (dk_at dksX7_keep_1 10 rfl rfl)
theorem dX7_keep_35 : decode cX7_keep 35 = .ok (.bipush 6, 2) := dk_16 6 (dk_at dksX7_keep_1 11 rfl rfl)
theorem dX7_keep_37 : decode cX7_keep 37 = .ok (.if_icmp .ge 33, 3) := dk_162 0 33 (dk_at dksX7_keep_1 13 rfl rfl)
theorem dX7_keep_40 : decode cX7_keep 40 = .ok (.aload_n 0, 1) := dk_42 (dk_at dksX7_keep_1 16 rfl rfl)
theorem dX7_keep_41 : decode cX7_keep 41 = .ok (.getfield 23, 3) := dk_180 0 23 (dk_at dksX7_keep_1 17 rfl rfl)
theorem dX7_keep_44 : decode cX7_keep 44 = .ok (.iload_n 1, 1) := dk_27 (dk_at dksX7_keep_1 20 rfl rfl)
theorem dX7_keep_45 : decode cX7_keep 45 = .ok (.aload_n 0, 1) := dk_42 (dk_at dksX7_keep_1 21 rfl rfl)
theorem dX7_keep_46 : decode cX7_keep 46 = .ok (.getfield 16, 3) := dk_180 0 16 (dk_at dksX7_keep_2 0 rfl rfl)
theorem dX7_keep_49 : decode cX7_keep 49 = .ok (.iload_n 1, 1) := dk_27 (dk_at dksX7_keep_2 3 rfl rfl)
theorem dX7_keep_50 : decode cX7_keep 50 = .ok (.iaload, 1) := dk_46 (dk_at dksX7_keep_2 4 rfl rfl)
theorem dX7_keep_51 : decode cX7_keep 51 = .ok (.iastore, 1) := dk_79 (dk_at dksX7_keep_2 5 rfl rfl)
theorem dX7_keep_52 : decode cX7_keep 52 = .ok (.aload_n 0, 1) := dk_42 (dk_at dksX7_keep_2 6 rfl rfl)
theorem dX7_keep_53 : decode cX7_keep 53 = .ok (.getfield 26, 3) := dk_180 0 26 (dk_at dksX7_keep_2 7 rfl rfl)
theorem dX7_keep_56 : decode cX7_keep 56 = .ok (.iload_n 1, 1) := dk_27 (dk_at dksX7_keep_2 10 rfl rfl)
theorem dX7_keep_57 : decode cX7_keep 57 = .ok (.aload_n 0, 1) := dk_42 (dk_at dksX7_keep_2 11 rfl rfl)
theorem dX7_keep_58 : decode cX7_keep 58 = .ok (.getfield 20, 3) := dk_180 0 20 (dk_at dksX7_keep_2 12 rfl rfl)
theorem dX7_keep_61 : decode cX7_keep 61 = .ok (.iload_n 1, 1) := dk_27 (dk_at dksX7_keep_2 15 rfl rfl)
theorem dX7_keep_62 : decode cX7_keep 62 = .ok (.iaload, 1) := dk_46 (dk_at dksX7_keep_2 16 rfl rfl)
theorem dX7_keep_63 : decode cX7_keep 63 = .ok (.iastore, 1) := dk_79 (dk_at dksX7_keep_2 17 rfl rfl)
theorem dX7_keep_64 : decode cX7_keep 64 = .ok (.iinc 1 1, 3) := dk_132 1 1 (dk_at dksX7_keep_2 18 rfl rfl)
theorem dX7_keep_67 : decode cX7_keep 67 = .ok (.goto (-33), 3) := dk_167 255 223 (dk_at dksX7_keep_2 21 rfl rfl)
theorem dX7_keep_70 : decode cX7_keep 70 = .ok (.aload_n 0, 1) := dk_42 (dk_at dksX7_keep_3 0 rfl rfl)
theorem dX7_keep_71 : decode cX7_keep 71 = .ok (.iconst 1, 1) := dk_4 (dk_at dksX7_keep_3 1 rfl rfl)
theorem dX7_keep_72 : decode cX7_keep 72 = .ok (.putfield 483, 3) := dk_181 1 227 (dk_at dksX7_keep_3 2 rfl rfl)
theorem dX7_keep_75 : decode cX7_keep 75 = .ok (.iconst 1, 1) := dk_4 (dk_at dksX7_keep_3 5 rfl rfl)
theorem dX7_keep_76 : decode cX7_keep 76 = .ok (.ireturn, 1) := dk_172 (dk_at dksX7_keep_3 6 rfl rfl)
abbrev cX7_again : ByteArray := prog_32_method_132_code
def yX7_again : MethodName := ⟨RX7, "again", "()I"⟩
def dkwX7_again_3 : List UInt8 := [27, 46, 79, 132, 1, 1, 167, 255, 223, 42, 182, 0, 105, 42, 180, 0, 137, 184, 0, 127, 172]
abbrev dktX7_again_3 : List UInt8 := dkwX7_again_3 ++ []
def dkwX7_again_2 : List UInt8 := [162, 0, 33, 42, 180, 0, 16, 27, 42, 180, 0, 23, 27, 46, 79, 42, 180, 0, 20, 27, 42, 180, 0, 26]
abbrev dktX7_again_2 : List UInt8 := dkwX7_again_2 ++ dktX7_again_3
def dkwX7_again_1 : List UInt8 := [181, 0, 13, 42, 42, 180, 1, 221, 181, 0, 137, 42, 42, 180, 1, 224, 181, 0, 205, 3, 60, 27, 16, 6]
abbrev dktX7_again_1 : List UInt8 := dkwX7_again_1 ++ dktX7_again_2
def dkwX7_again_0 : List UInt8 := [42, 180, 1, 227, 154, 0, 6, 16, 253, 172, 42, 42, 180, 1, 215, 181, 0, 7, 42, 42, 180, 1, 218]
abbrev dktX7_again_0 : List UInt8 := dkwX7_again_0 ++ dktX7_again_1
theorem dksX7_again_0 : cX7_again.data.toList.drop 0 = dktX7_again_0 := by decide +kernel
theorem dksX7_again_1 : cX7_again.data.toList.drop 23 = dktX7_again_1 := dk_seg dksX7_again_0 23 rfl rfl
theorem dksX7_again_2 : cX7_again.data.toList.drop 47 = dktX7_again_2 := dk_seg dksX7_again_1 24 rfl rfl
theorem dksX7_again_3 : cX7_again.data.toList.drop 71 = dktX7_again_3 := dk_seg dksX7_again_2 24 rfl rfl
theorem dX7_again_0 : decode cX7_again 0 = .ok (.aload_n 0, 1) := dk_42 (dk_at dksX7_again_0 0 rfl rfl)
theorem dX7_again_1 : decode cX7_again 1 = .ok (.getfield 483, 3) := dk_180 1 227 (dk_at dksX7_again_0 1 rfl rfl)
theorem dX7_again_4 : decode cX7_again 4 = .ok (.ifCond .ne 6, 3) := dk_154 0 6 (dk_at dksX7_again_0 4 rfl rfl)
theorem dX7_again_7 : decode cX7_again 7 = .ok (.bipush (-3), 2) := dk_16 253 (dk_at dksX7_again_0 7 rfl rfl)
theorem dX7_again_9 : decode cX7_again 9 = .ok (.ireturn, 1) := dk_172 (dk_at dksX7_again_0 9 rfl rfl)
theorem dX7_again_10 : decode cX7_again 10 = .ok (.aload_n 0, 1) := dk_42 (dk_at dksX7_again_0 10 rfl rfl)
theorem dX7_again_11 : decode cX7_again 11 = .ok (.aload_n 0, 1) := dk_42 (dk_at dksX7_again_0 11 rfl rfl)
theorem dX7_again_12 : decode cX7_again 12 = .ok (.getfield 471, 3) := dk_180 1 215 (dk_at dksX7_again_0 12 rfl rfl)
theorem dX7_again_15 : decode cX7_again 15 = .ok (.putfield 7, 3) := dk_181 0 7 (dk_at dksX7_again_0 15 rfl rfl)
theorem dX7_again_18 : decode cX7_again 18 = .ok (.aload_n 0, 1) := dk_42 (dk_at dksX7_again_0 18 rfl rfl)
theorem dX7_again_19 : decode cX7_again 19 = .ok (.aload_n 0, 1) := dk_42 (dk_at dksX7_again_0 19 rfl rfl)
theorem dX7_again_20 : decode cX7_again 20 = .ok (.getfield 474, 3) := dk_180 1 218 (dk_at dksX7_again_0 20 rfl rfl)
theorem dX7_again_23 : decode cX7_again 23 = .ok (.putfield 13, 3) := dk_181 0 13 (dk_at dksX7_again_1 0 rfl rfl)
theorem dX7_again_26 : decode cX7_again 26 = .ok (.aload_n 0, 1) := dk_42 (dk_at dksX7_again_1 3 rfl rfl)
theorem dX7_again_27 : decode cX7_again 27 = .ok (.aload_n 0, 1) := dk_42 (dk_at dksX7_again_1 4 rfl rfl)
theorem dX7_again_28 : decode cX7_again 28 = .ok (.getfield 477, 3) := dk_180 1 221 (dk_at dksX7_again_1 5 rfl rfl)
theorem dX7_again_31 : decode cX7_again 31 = .ok (.putfield 137, 3) := dk_181 0 137 (dk_at dksX7_again_1 8 rfl rfl)
theorem dX7_again_34 : decode cX7_again 34 = .ok (.aload_n 0, 1) := dk_42 (dk_at dksX7_again_1 11 rfl rfl)
theorem dX7_again_35 : decode cX7_again 35 = .ok (.aload_n 0, 1) := dk_42 (dk_at dksX7_again_1 12 rfl rfl)
theorem dX7_again_36 : decode cX7_again 36 = .ok (.getfield 480, 3) := dk_180 1 224 (dk_at dksX7_again_1 13 rfl rfl)
theorem dX7_again_39 : decode cX7_again 39 = .ok (.putfield 205, 3) := dk_181 0 205 (dk_at dksX7_again_1 16 rfl rfl)
theorem dX7_again_42 : decode cX7_again 42 = .ok (.iconst 0, 1) := dk_3 (dk_at dksX7_again_1 19 rfl rfl)
theorem dX7_again_43 : decode cX7_again 43 = .ok (.istore_n 1, 1) := dk_60 (dk_at dksX7_again_1 20 rfl rfl)
theorem dX7_again_44 : decode cX7_again 44 = .ok (.iload_n 1, 1) := dk_27 (dk_at dksX7_again_1 21 rfl rfl)
theorem dX7_again_45 : decode cX7_again 45 = .ok (.bipush 6, 2) := dk_16 6 (dk_at dksX7_again_1 22 rfl rfl)
theorem dX7_again_47 : decode cX7_again 47 = .ok (.if_icmp .ge 33, 3) := dk_162 0 33 (dk_at dksX7_again_2 0 rfl rfl)
theorem dX7_again_50 : decode cX7_again 50 = .ok (.aload_n 0, 1) := dk_42 (dk_at dksX7_again_2 3 rfl rfl)
theorem dX7_again_51 : decode cX7_again 51 = .ok (.getfield 16, 3) := dk_180 0 16 (dk_at dksX7_again_2 4 rfl rfl)
theorem dX7_again_54 : decode cX7_again 54 = .ok (.iload_n 1, 1) := dk_27 (dk_at dksX7_again_2 7 rfl rfl)
theorem dX7_again_55 : decode cX7_again 55 = .ok (.aload_n 0, 1) := dk_42 (dk_at dksX7_again_2 8 rfl rfl)
theorem dX7_again_56 : decode cX7_again 56 = .ok (.getfield 23, 3) := dk_180 0 23 (dk_at dksX7_again_2 9 rfl rfl)
theorem dX7_again_59 : decode cX7_again 59 = .ok (.iload_n 1, 1) := dk_27 (dk_at dksX7_again_2 12 rfl rfl)
theorem dX7_again_60 : decode cX7_again 60 = .ok (.iaload, 1) := dk_46 (dk_at dksX7_again_2 13 rfl rfl)
theorem dX7_again_61 : decode cX7_again 61 = .ok (.iastore, 1) := dk_79 (dk_at dksX7_again_2 14 rfl rfl)
theorem dX7_again_62 : decode cX7_again 62 = .ok (.aload_n 0, 1) := dk_42 (dk_at dksX7_again_2 15 rfl rfl)
theorem dX7_again_63 : decode cX7_again 63 = .ok (.getfield 20, 3) := dk_180 0 20 (dk_at dksX7_again_2 16 rfl rfl)
theorem dX7_again_66 : decode cX7_again 66 = .ok (.iload_n 1, 1) := dk_27 (dk_at dksX7_again_2 19 rfl rfl)
theorem dX7_again_67 : decode cX7_again 67 = .ok (.aload_n 0, 1) := dk_42 (dk_at dksX7_again_2 20 rfl rfl)
theorem dX7_again_68 : decode cX7_again 68 = .ok (.getfield 26, 3) := dk_180 0 26 (dk_at dksX7_again_2 21 rfl rfl)
theorem dX7_again_71 : decode cX7_again 71 = .ok (.iload_n 1, 1) := dk_27 (dk_at dksX7_again_3 0 rfl rfl)
theorem dX7_again_72 : decode cX7_again 72 = .ok (.iaload, 1) := dk_46 (dk_at dksX7_again_3 1 rfl rfl)
theorem dX7_again_73 : decode cX7_again 73 = .ok (.iastore, 1) := dk_79 (dk_at dksX7_again_3 2 rfl rfl)
theorem dX7_again_74 : decode cX7_again 74 = .ok (.iinc 1 1, 3) := dk_132 1 1 (dk_at dksX7_again_3 3 rfl rfl)
theorem dX7_again_77 : decode cX7_again 77 = .ok (.goto (-33), 3) := dk_167 255 223 (dk_at dksX7_again_3 6 rfl rfl)
theorem dX7_again_80 : decode cX7_again 80 = .ok (.aload_n 0, 1) := dk_42 (dk_at dksX7_again_3 9 rfl rfl)
theorem dX7_again_81 : decode cX7_again 81 = .ok (.invokevirtual 105, 3) := dk_182 0 105 (dk_at dksX7_again_3 10 rfl rfl)
theorem dX7_again_84 : decode cX7_again 84 = .ok (.aload_n 0, 1) := dk_42 (dk_at dksX7_again_3 13 rfl rfl)
theorem dX7_again_85 : decode cX7_again 85 = .ok (.getfield 137, 3) := dk_180 0 137 (dk_at dksX7_again_3 14 rfl rfl)
theorem dX7_again_88 : decode cX7_again 88 = .ok (.invokestatic 127, 3) := dk_184 0 127 (dk_at dksX7_again_3 17 rfl rfl)
theorem dX7_again_91 : decode cX7_again 91 = .ok (.ireturn, 1) := dk_172 (dk_at dksX7_again_3 20 rfl rfl)
theorem q161 : (Jvm.Cond.initialized "CoarserOrdersModel") ∈ lw_all := lw_g (lw_at lw_m1 11 rfl) rfl
theorem q1907 : (Jvm.Cond.instantiable "CoarserOrdersModel" (50 : Nat)) ∈ lw_all := lw_g (lw_at lw_m8 77 rfl) rfl
theorem q1909 : (Jvm.Cond.instanceMethod ({ cls := "CoarserOrdersModel", name := "<init>", desc := "()V" } : Jvm.MethodName)) ∈ lw_all := lw_g (lw_at lw_m8 79 rfl) rfl
theorem q1910 : (Jvm.Cond.code ({ cls := "CoarserOrdersModel", name := "<init>", desc := "()V" } : Jvm.MethodName) prog_32_method_1_code (1 : Nat) (Option.none : Option Jvm.ClassFile.FieldType)) ∈ lw_all := lw_g (lw_at lw_m8 80 rfl) rfl
theorem q1911 : (Jvm.Cond.methodLink "CoarserOrdersModel" (1 : Nat) ({ cls := "java/lang/Object", name := "<init>", desc := "()V" } : Jvm.MethodName)) ∈ lw_all := lw_g (lw_at lw_m8 81 rfl) rfl
theorem q1912 : (Jvm.Cond.constant "CoarserOrdersModel" (42 : Nat) (100000 : Int32)) ∈ lw_all := lw_g (lw_at lw_m8 82 rfl) rfl
theorem q1913 : (Jvm.Cond.constant "CoarserOrdersModel" (43 : Nat) (1000000 : Int32)) ∈ lw_all := lw_g (lw_at lw_m8 83 rfl) rfl
theorem q1914 : (Jvm.Cond.methodLink "CoarserOrdersModel" (105 : Nat) ({ cls := "CoarserOrdersModel", name := "tellsArcs", desc := "()V" } : Jvm.MethodName)) ∈ lw_all := lw_g (lw_at lw_m8 84 rfl) rfl
theorem q1915 : (Jvm.Cond.privateMethod ({ cls := "CoarserOrdersModel", name := "tellsArcs", desc := "()V" } : Jvm.MethodName)) ∈ lw_tbl := lw_at lw_m8 85 rfl
theorem q1916 : (Jvm.Cond.instanceMethod ({ cls := "CoarserOrdersModel", name := "tellsArcs", desc := "()V" } : Jvm.MethodName)) ∈ lw_all := lw_g (lw_at lw_m8 86 rfl) rfl
theorem q1917 : (Jvm.Cond.code ({ cls := "CoarserOrdersModel", name := "tellsArcs", desc := "()V" } : Jvm.MethodName) prog_32_method_27_code (4 : Nat) (Option.none : Option Jvm.ClassFile.FieldType)) ∈ lw_all := lw_g (lw_at lw_m8 87 rfl) rfl
theorem q1918 : (Jvm.Cond.methodLink "CoarserOrdersModel" (181 : Nat) ({ cls := "CoarserOrdersModel", name := "isForcing", desc := "(II)Z" } : Jvm.MethodName)) ∈ lw_all := lw_g (lw_at lw_m8 88 rfl) rfl
theorem q1919 : (Jvm.Cond.privateMethod ({ cls := "CoarserOrdersModel", name := "isForcing", desc := "(II)Z" } : Jvm.MethodName)) ∈ lw_tbl := lw_at lw_m8 89 rfl
theorem q1920 : (Jvm.Cond.instanceMethod ({ cls := "CoarserOrdersModel", name := "isForcing", desc := "(II)Z" } : Jvm.MethodName)) ∈ lw_all := lw_g (lw_at lw_m8 90 rfl) rfl
theorem q1921 : (Jvm.Cond.code ({ cls := "CoarserOrdersModel", name := "isForcing", desc := "(II)Z" } : Jvm.MethodName) prog_32_method_29_code (5 : Nat) (Option.some Jvm.ClassFile.FieldType.boolean)) ∈ lw_all := lw_g (lw_at lw_m8 91 rfl) rfl
theorem q1922 : (Jvm.Cond.methodLink "CoarserOrdersModel" (184 : Nat) ({ cls := "CoarserOrdersModel", name := "isLeft", desc := "(II)Z" } : Jvm.MethodName)) ∈ lw_all := lw_g (lw_at lw_m8 92 rfl) rfl
theorem q1923 : (Jvm.Cond.privateMethod ({ cls := "CoarserOrdersModel", name := "isLeft", desc := "(II)Z" } : Jvm.MethodName)) ∈ lw_tbl := lw_at lw_m8 93 rfl
theorem q1924 : (Jvm.Cond.instanceMethod ({ cls := "CoarserOrdersModel", name := "isLeft", desc := "(II)Z" } : Jvm.MethodName)) ∈ lw_all := lw_g (lw_at lw_m8 94 rfl) rfl
theorem q1925 : (Jvm.Cond.code ({ cls := "CoarserOrdersModel", name := "isLeft", desc := "(II)Z" } : Jvm.MethodName) prog_32_method_28_code (3 : Nat) (Option.some Jvm.ClassFile.FieldType.boolean)) ∈ lw_all := lw_g (lw_at lw_m8 95 rfl) rfl
theorem q1926 : (Jvm.Cond.methodLink "CoarserOrdersModel" (108 : Nat) ({ cls := "CoarserOrdersModel", name := "has", desc := "(JI)Z" } : Jvm.MethodName)) ∈ lw_all := lw_g (lw_at lw_m8 96 rfl) rfl
theorem q1927 : (Jvm.Cond.static ({ cls := "CoarserOrdersModel", name := "has", desc := "(JI)Z" } : Jvm.MethodName)) ∈ lw_all := lw_g (lw_at lw_m8 97 rfl) rfl
theorem q1928 : (Jvm.Cond.code ({ cls := "CoarserOrdersModel", name := "has", desc := "(JI)Z" } : Jvm.MethodName) prog_32_method_3_code (3 : Nat) (Option.some Jvm.ClassFile.FieldType.boolean)) ∈ lw_all := lw_g (lw_at lw_m8 98 rfl) rfl
theorem q1929 : (Jvm.Cond.fieldLink "CoarserOrdersModel" (7 : Nat) "CoarserOrdersModel" "n" "I") ∈ lw_all := lw_g (lw_at lw_m8 99 rfl) rfl
theorem q1930 : (Jvm.Cond.fieldLink "CoarserOrdersModel" (13 : Nat) "CoarserOrdersModel" "z" "I") ∈ lw_all := lw_g (lw_at lw_m8 100 rfl) rfl
theorem q1931 : (Jvm.Cond.fieldLink "CoarserOrdersModel" (205 : Nat) "CoarserOrdersModel" "makers" "I") ∈ lw_all := lw_g (lw_at lw_m8 101 rfl) rfl
theorem q1932 : (Jvm.Cond.fieldLink "CoarserOrdersModel" (137 : Nat) "CoarserOrdersModel" "gone" "J") ∈ lw_all := lw_g (lw_at lw_m8 102 rfl) rfl
theorem q1933 : (Jvm.Cond.fieldLink "CoarserOrdersModel" (16 : Nat) "CoarserOrdersModel" "kinds" "[I") ∈ lw_all := lw_g (lw_at lw_m8 103 rfl) rfl
theorem q1934 : (Jvm.Cond.fieldLink "CoarserOrdersModel" (20 : Nat) "CoarserOrdersModel" "ms" "[I") ∈ lw_all := lw_g (lw_at lw_m8 104 rfl) rfl
theorem q1935 : (Jvm.Cond.fieldLink "CoarserOrdersModel" (471 : Nat) "CoarserOrdersModel" "keptN" "I") ∈ lw_all := lw_g (lw_at lw_m8 105 rfl) rfl
theorem q1936 : (Jvm.Cond.fieldLink "CoarserOrdersModel" (474 : Nat) "CoarserOrdersModel" "keptZ" "I") ∈ lw_all := lw_g (lw_at lw_m8 106 rfl) rfl
theorem q1937 : (Jvm.Cond.fieldLink "CoarserOrdersModel" (480 : Nat) "CoarserOrdersModel" "keptMakers" "I") ∈ lw_all := lw_g (lw_at lw_m8 107 rfl) rfl
theorem q1938 : (Jvm.Cond.fieldLink "CoarserOrdersModel" (477 : Nat) "CoarserOrdersModel" "keptGone" "J") ∈ lw_all := lw_g (lw_at lw_m8 108 rfl) rfl
theorem q1939 : (Jvm.Cond.fieldLink "CoarserOrdersModel" (23 : Nat) "CoarserOrdersModel" "keptKinds" "[I") ∈ lw_all := lw_g (lw_at lw_m8 109 rfl) rfl
theorem q1940 : (Jvm.Cond.fieldLink "CoarserOrdersModel" (26 : Nat) "CoarserOrdersModel" "keptMs" "[I") ∈ lw_all := lw_g (lw_at lw_m8 110 rfl) rfl
theorem q1941 : (Jvm.Cond.fieldLink "CoarserOrdersModel" (483 : Nat) "CoarserOrdersModel" "isKept" "Z") ∈ lw_all := lw_g (lw_at lw_m8 111 rfl) rfl
theorem q1942 : (Jvm.Cond.fieldLink "CoarserOrdersModel" (29 : Nat) "CoarserOrdersModel" "low" "[I") ∈ lw_all := lw_g (lw_at lw_m8 112 rfl) rfl
theorem q1943 : (Jvm.Cond.fieldLink "CoarserOrdersModel" (32 : Nat) "CoarserOrdersModel" "high" "[I") ∈ lw_all := lw_g (lw_at lw_m8 113 rfl) rfl
theorem q1944 : (Jvm.Cond.fieldLink "CoarserOrdersModel" (35 : Nat) "CoarserOrdersModel" "lefts" "[I") ∈ lw_all := lw_g (lw_at lw_m8 114 rfl) rfl
theorem q1945 : (Jvm.Cond.fieldLink "CoarserOrdersModel" (38 : Nat) "CoarserOrdersModel" "forces" "[J") ∈ lw_all := lw_g (lw_at lw_m8 115 rfl) rfl
theorem q1946 : (Jvm.Cond.fieldLink "CoarserOrdersModel" (178 : Nat) "CoarserOrdersModel" "arcs" "I") ∈ lw_all := lw_g (lw_at lw_m8 116 rfl) rfl
theorem q1947 : (Jvm.Cond.fieldLink "CoarserOrdersModel" (44 : Nat) "CoarserOrdersModel" "power" "[I") ∈ lw_all := lw_g (lw_at lw_m8 117 rfl) rfl
theorem q1948 : (Jvm.Cond.fieldLink "CoarserOrdersModel" (47 : Nat) "CoarserOrdersModel" "ways" "[I") ∈ lw_all := lw_g (lw_at lw_m8 118 rfl) rfl
theorem q1949 : (Jvm.Cond.fieldLink "CoarserOrdersModel" (50 : Nat) "CoarserOrdersModel" "tape" "[I") ∈ lw_all := lw_g (lw_at lw_m8 119 rfl) rfl
theorem q1950 : (Jvm.Cond.fieldLink "CoarserOrdersModel" (53 : Nat) "CoarserOrdersModel" "code" "[I") ∈ lw_all := lw_g (lw_at lw_m8 120 rfl) rfl
theorem q1951 : (Jvm.Cond.fieldLink "CoarserOrdersModel" (56 : Nat) "CoarserOrdersModel" "stack" "[I") ∈ lw_all := lw_g (lw_at lw_m8 121 rfl) rfl
theorem q1952 : (Jvm.Cond.fieldLink "CoarserOrdersModel" (238 : Nat) "CoarserOrdersModel" "taped" "I") ∈ lw_all := lw_g (lw_at lw_m8 122 rfl) rfl
theorem q1953 : (Jvm.Cond.fieldLink "CoarserOrdersModel" (246 : Nat) "CoarserOrdersModel" "from" "I") ∈ lw_all := lw_g (lw_at lw_m8 123 rfl) rfl
theorem q1954 : (Jvm.Cond.fieldLink "CoarserOrdersModel" (243 : Nat) "CoarserOrdersModel" "to" "I") ∈ lw_all := lw_g (lw_at lw_m8 124 rfl) rfl
theorem q1955 : (Jvm.Cond.fieldLink "CoarserOrdersModel" (264 : Nat) "CoarserOrdersModel" "codes" "I") ∈ lw_all := lw_g (lw_at lw_m8 125 rfl) rfl
theorem q1956 : (Jvm.Cond.fieldLink "CoarserOrdersModel" (306 : Nat) "CoarserOrdersModel" "open" "I") ∈ lw_all := lw_g (lw_at lw_m8 126 rfl) rfl
theorem q1957 : (Jvm.Cond.fieldLink "CoarserOrdersModel" (289 : Nat) "CoarserOrdersModel" "isWrong" "Z") ∈ lw_all := lw_g (lw_at lw_m8 127 rfl) rfl
theorem q1958 : (Jvm.Cond.fieldLink "CoarserOrdersModel" (59 : Nat) "CoarserOrdersModel" "line" "[I") ∈ lw_all := lw_g (lw_at lw_m8 128 rfl) rfl
theorem q1959 : (Jvm.Cond.fieldLink "CoarserOrdersModel" (62 : Nat) "CoarserOrdersModel" "far" "[I") ∈ lw_all := lw_g (lw_at lw_m8 129 rfl) rfl
theorem q1960 : (Jvm.Cond.fieldLink "CoarserOrdersModel" (65 : Nat) "CoarserOrdersModel" "fewest" "[I") ∈ lw_all := lw_g (lw_at lw_m8 130 rfl) rfl
theorem q1961 : (Jvm.Cond.fieldLink "CoarserOrdersModel" (68 : Nat) "CoarserOrdersModel" "queue" "[I") ∈ lw_all := lw_g (lw_at lw_m8 131 rfl) rfl
theorem q1962 : (Jvm.Cond.fieldLink "CoarserOrdersModel" (71 : Nat) "CoarserOrdersModel" "list" "[I") ∈ lw_all := lw_g (lw_at lw_m8 132 rfl) rfl
theorem q1963 : (Jvm.Cond.fieldLink "CoarserOrdersModel" (74 : Nat) "CoarserOrdersModel" "isListed" "[Z") ∈ lw_all := lw_g (lw_at lw_m8 133 rfl) rfl
theorem q1964 : (Jvm.Cond.fieldLink "CoarserOrdersModel" (78 : Nat) "CoarserOrdersModel" "steps" "[I") ∈ lw_all := lw_g (lw_at lw_m8 134 rfl) rfl
theorem q1965 : (Jvm.Cond.fieldLink "CoarserOrdersModel" (393 : Nat) "CoarserOrdersModel" "stepped" "I") ∈ lw_all := lw_g (lw_at lw_m8 135 rfl) rfl
theorem q1966 : (Jvm.Cond.fieldLink "CoarserOrdersModel" (81 : Nat) "CoarserOrdersModel" "sorts" "[I") ∈ lw_all := lw_g (lw_at lw_m8 136 rfl) rfl
theorem q1967 : (Jvm.Cond.fieldLink "CoarserOrdersModel" (84 : Nat) "CoarserOrdersModel" "sizes" "[I") ∈ lw_all := lw_g (lw_at lw_m8 137 rfl) rfl
theorem q1968 : (Jvm.Cond.fieldLink "CoarserOrdersModel" (87 : Nat) "CoarserOrdersModel" "cells" "[J") ∈ lw_all := lw_g (lw_at lw_m8 138 rfl) rfl
theorem q1969 : (Jvm.Cond.fieldLink "CoarserOrdersModel" (90 : Nat) "CoarserOrdersModel" "aside" "[J") ∈ lw_all := lw_g (lw_at lw_m8 139 rfl) rfl
theorem q1970 : (Jvm.Cond.fieldLink "CoarserOrdersModel" (93 : Nat) "CoarserOrdersModel" "held" "[I") ∈ lw_all := lw_g (lw_at lw_m8 140 rfl) rfl
theorem q1971 : (Jvm.Cond.fieldLink "CoarserOrdersModel" (96 : Nat) "CoarserOrdersModel" "thing" "[I") ∈ lw_all := lw_g (lw_at lw_m8 141 rfl) rfl
theorem q1972 : (Jvm.Cond.fieldLink "CoarserOrdersModel" (99 : Nat) "CoarserOrdersModel" "length" "[I") ∈ lw_all := lw_g (lw_at lw_m8 142 rfl) rfl
theorem q1973 : (Jvm.Cond.fieldLink "CoarserOrdersModel" (102 : Nat) "CoarserOrdersModel" "trace" "[I") ∈ lw_all := lw_g (lw_at lw_m8 143 rfl) rfl
theorem q1974 : (Jvm.Cond.fieldLink "CoarserOrdersModel" (419 : Nat) "CoarserOrdersModel" "traced" "I") ∈ lw_all := lw_g (lw_at lw_m8 144 rfl) rfl
theorem q1975 : (Jvm.Cond.fieldLink "CoarserOrdersModel" (431 : Nat) "CoarserOrdersModel" "kind" "I") ∈ lw_all := lw_g (lw_at lw_m8 145 rfl) rfl
theorem q1976 : (Jvm.Cond.fieldLink "CoarserOrdersModel" (425 : Nat) "CoarserOrdersModel" "number" "I") ∈ lw_all := lw_g (lw_at lw_m8 146 rfl) rfl
theorem q1977 : (Jvm.Cond.fieldLink "CoarserOrdersModel" (440 : Nat) "CoarserOrdersModel" "m" "I") ∈ lw_all := lw_g (lw_at lw_m8 147 rfl) rfl
theorem q1978 : (Jvm.Cond.fieldLink "CoarserOrdersModel" (446 : Nat) "CoarserOrdersModel" "isParted" "Z") ∈ lw_all := lw_g (lw_at lw_m8 148 rfl) rfl
theorem q1979 : (Jvm.Cond.lays "CoarserOrdersModel" "CoarserOrdersModel" "n" "I") ∈ lw_all := lw_g (lw_at lw_m8 149 rfl) rfl
theorem q1980 : (Jvm.Cond.soleField "CoarserOrdersModel" "n") ∈ lw_all := lw_g (lw_at lw_m8 150 rfl) rfl
theorem q1981 : (Jvm.Cond.lays "CoarserOrdersModel" "CoarserOrdersModel" "z" "I") ∈ lw_all := lw_g (lw_at lw_m8 151 rfl) rfl
theorem q1982 : (Jvm.Cond.soleField "CoarserOrdersModel" "z") ∈ lw_all := lw_g (lw_at lw_m8 152 rfl) rfl
theorem q1983 : (Jvm.Cond.lays "CoarserOrdersModel" "CoarserOrdersModel" "makers" "I") ∈ lw_all := lw_g (lw_at lw_m8 153 rfl) rfl
theorem q1984 : (Jvm.Cond.soleField "CoarserOrdersModel" "makers") ∈ lw_all := lw_g (lw_at lw_m8 154 rfl) rfl
theorem q1985 : (Jvm.Cond.lays "CoarserOrdersModel" "CoarserOrdersModel" "gone" "J") ∈ lw_all := lw_g (lw_at lw_m8 155 rfl) rfl
theorem q1986 : (Jvm.Cond.soleField "CoarserOrdersModel" "gone") ∈ lw_all := lw_g (lw_at lw_m8 156 rfl) rfl
theorem q1987 : (Jvm.Cond.laysFinal "CoarserOrdersModel" "CoarserOrdersModel" "kinds" "[I") ∈ lw_all := lw_g (lw_at lw_m8 157 rfl) rfl
theorem q1988 : (Jvm.Cond.soleField "CoarserOrdersModel" "kinds") ∈ lw_all := lw_g (lw_at lw_m8 158 rfl) rfl
theorem q1989 : (Jvm.Cond.laysFinal "CoarserOrdersModel" "CoarserOrdersModel" "ms" "[I") ∈ lw_all := lw_g (lw_at lw_m8 159 rfl) rfl
theorem q1990 : (Jvm.Cond.soleField "CoarserOrdersModel" "ms") ∈ lw_all := lw_g (lw_at lw_m8 160 rfl) rfl
theorem q1991 : (Jvm.Cond.lays "CoarserOrdersModel" "CoarserOrdersModel" "keptN" "I") ∈ lw_all := lw_g (lw_at lw_m8 161 rfl) rfl
theorem q1992 : (Jvm.Cond.soleField "CoarserOrdersModel" "keptN") ∈ lw_all := lw_g (lw_at lw_m8 162 rfl) rfl
theorem q1993 : (Jvm.Cond.lays "CoarserOrdersModel" "CoarserOrdersModel" "keptZ" "I") ∈ lw_all := lw_g (lw_at lw_m8 163 rfl) rfl
theorem q1994 : (Jvm.Cond.soleField "CoarserOrdersModel" "keptZ") ∈ lw_all := lw_g (lw_at lw_m8 164 rfl) rfl
theorem q1995 : (Jvm.Cond.lays "CoarserOrdersModel" "CoarserOrdersModel" "keptMakers" "I") ∈ lw_all := lw_g (lw_at lw_m8 165 rfl) rfl
theorem q1996 : (Jvm.Cond.soleField "CoarserOrdersModel" "keptMakers") ∈ lw_all := lw_g (lw_at lw_m8 166 rfl) rfl
theorem q1997 : (Jvm.Cond.lays "CoarserOrdersModel" "CoarserOrdersModel" "keptGone" "J") ∈ lw_all := lw_g (lw_at lw_m8 167 rfl) rfl
theorem q1998 : (Jvm.Cond.soleField "CoarserOrdersModel" "keptGone") ∈ lw_all := lw_g (lw_at lw_m8 168 rfl) rfl
theorem q1999 : (Jvm.Cond.laysFinal "CoarserOrdersModel" "CoarserOrdersModel" "keptKinds" "[I") ∈ lw_all := lw_g (lw_at lw_m8 169 rfl) rfl
theorem q2000 : (Jvm.Cond.soleField "CoarserOrdersModel" "keptKinds") ∈ lw_all := lw_g (lw_at lw_m8 170 rfl) rfl
theorem q2001 : (Jvm.Cond.laysFinal "CoarserOrdersModel" "CoarserOrdersModel" "keptMs" "[I") ∈ lw_all := lw_g (lw_at lw_m8 171 rfl) rfl
theorem q2002 : (Jvm.Cond.soleField "CoarserOrdersModel" "keptMs") ∈ lw_all := lw_g (lw_at lw_m8 172 rfl) rfl
theorem q2003 : (Jvm.Cond.lays "CoarserOrdersModel" "CoarserOrdersModel" "isKept" "Z") ∈ lw_all := lw_g (lw_at lw_m8 173 rfl) rfl
theorem q2004 : (Jvm.Cond.soleField "CoarserOrdersModel" "isKept") ∈ lw_all := lw_g (lw_at lw_m8 174 rfl) rfl
theorem q2005 : (Jvm.Cond.laysFinal "CoarserOrdersModel" "CoarserOrdersModel" "low" "[I") ∈ lw_all := lw_g (lw_at lw_m8 175 rfl) rfl
theorem q2006 : (Jvm.Cond.soleField "CoarserOrdersModel" "low") ∈ lw_all := lw_g (lw_at lw_m8 176 rfl) rfl
theorem q2007 : (Jvm.Cond.laysFinal "CoarserOrdersModel" "CoarserOrdersModel" "high" "[I") ∈ lw_all := lw_g (lw_at lw_m8 177 rfl) rfl
theorem q2008 : (Jvm.Cond.soleField "CoarserOrdersModel" "high") ∈ lw_all := lw_g (lw_at lw_m8 178 rfl) rfl
theorem q2009 : (Jvm.Cond.laysFinal "CoarserOrdersModel" "CoarserOrdersModel" "lefts" "[I") ∈ lw_all := lw_g (lw_at lw_m8 179 rfl) rfl
theorem q2010 : (Jvm.Cond.soleField "CoarserOrdersModel" "lefts") ∈ lw_all := lw_g (lw_at lw_m8 180 rfl) rfl
theorem q2011 : (Jvm.Cond.laysFinal "CoarserOrdersModel" "CoarserOrdersModel" "forces" "[J") ∈ lw_all := lw_g (lw_at lw_m8 181 rfl) rfl
theorem q2012 : (Jvm.Cond.soleField "CoarserOrdersModel" "forces") ∈ lw_all := lw_g (lw_at lw_m8 182 rfl) rfl
theorem q2013 : (Jvm.Cond.lays "CoarserOrdersModel" "CoarserOrdersModel" "arcs" "I") ∈ lw_all := lw_g (lw_at lw_m8 183 rfl) rfl
theorem q2014 : (Jvm.Cond.soleField "CoarserOrdersModel" "arcs") ∈ lw_all := lw_g (lw_at lw_m8 184 rfl) rfl
theorem q2015 : (Jvm.Cond.laysFinal "CoarserOrdersModel" "CoarserOrdersModel" "power" "[I") ∈ lw_all := lw_g (lw_at lw_m8 185 rfl) rfl
theorem q2016 : (Jvm.Cond.soleField "CoarserOrdersModel" "power") ∈ lw_all := lw_g (lw_at lw_m8 186 rfl) rfl
theorem q2017 : (Jvm.Cond.laysFinal "CoarserOrdersModel" "CoarserOrdersModel" "ways" "[I") ∈ lw_all := lw_g (lw_at lw_m8 187 rfl) rfl
theorem q2018 : (Jvm.Cond.soleField "CoarserOrdersModel" "ways") ∈ lw_all := lw_g (lw_at lw_m8 188 rfl) rfl
theorem q2019 : (Jvm.Cond.laysFinal "CoarserOrdersModel" "CoarserOrdersModel" "tape" "[I") ∈ lw_all := lw_g (lw_at lw_m8 189 rfl) rfl
theorem q2020 : (Jvm.Cond.soleField "CoarserOrdersModel" "tape") ∈ lw_all := lw_g (lw_at lw_m8 190 rfl) rfl
theorem q2021 : (Jvm.Cond.laysFinal "CoarserOrdersModel" "CoarserOrdersModel" "code" "[I") ∈ lw_all := lw_g (lw_at lw_m8 191 rfl) rfl
theorem q2022 : (Jvm.Cond.soleField "CoarserOrdersModel" "code") ∈ lw_all := lw_g (lw_at lw_m8 192 rfl) rfl
theorem q2023 : (Jvm.Cond.laysFinal "CoarserOrdersModel" "CoarserOrdersModel" "stack" "[I") ∈ lw_all := lw_g (lw_at lw_m8 193 rfl) rfl
theorem q2024 : (Jvm.Cond.soleField "CoarserOrdersModel" "stack") ∈ lw_all := lw_g (lw_at lw_m8 194 rfl) rfl
theorem q2025 : (Jvm.Cond.lays "CoarserOrdersModel" "CoarserOrdersModel" "taped" "I") ∈ lw_all := lw_g (lw_at lw_m8 195 rfl) rfl
theorem q2026 : (Jvm.Cond.soleField "CoarserOrdersModel" "taped") ∈ lw_all := lw_g (lw_at lw_m8 196 rfl) rfl
theorem q2027 : (Jvm.Cond.lays "CoarserOrdersModel" "CoarserOrdersModel" "from" "I") ∈ lw_all := lw_g (lw_at lw_m8 197 rfl) rfl
theorem q2028 : (Jvm.Cond.soleField "CoarserOrdersModel" "from") ∈ lw_all := lw_g (lw_at lw_m8 198 rfl) rfl
theorem q2029 : (Jvm.Cond.lays "CoarserOrdersModel" "CoarserOrdersModel" "to" "I") ∈ lw_all := lw_g (lw_at lw_m8 199 rfl) rfl
theorem q2030 : (Jvm.Cond.soleField "CoarserOrdersModel" "to") ∈ lw_all := lw_g (lw_at lw_m8 200 rfl) rfl
theorem q2031 : (Jvm.Cond.lays "CoarserOrdersModel" "CoarserOrdersModel" "codes" "I") ∈ lw_all := lw_g (lw_at lw_m8 201 rfl) rfl
theorem q2032 : (Jvm.Cond.soleField "CoarserOrdersModel" "codes") ∈ lw_all := lw_g (lw_at lw_m8 202 rfl) rfl
theorem q2033 : (Jvm.Cond.lays "CoarserOrdersModel" "CoarserOrdersModel" "open" "I") ∈ lw_all := lw_g (lw_at lw_m8 203 rfl) rfl
theorem q2034 : (Jvm.Cond.soleField "CoarserOrdersModel" "open") ∈ lw_all := lw_g (lw_at lw_m8 204 rfl) rfl
theorem q2035 : (Jvm.Cond.lays "CoarserOrdersModel" "CoarserOrdersModel" "isWrong" "Z") ∈ lw_all := lw_g (lw_at lw_m8 205 rfl) rfl
theorem q2036 : (Jvm.Cond.soleField "CoarserOrdersModel" "isWrong") ∈ lw_all := lw_g (lw_at lw_m8 206 rfl) rfl
theorem q2037 : (Jvm.Cond.laysFinal "CoarserOrdersModel" "CoarserOrdersModel" "line" "[I") ∈ lw_all := lw_g (lw_at lw_m8 207 rfl) rfl
theorem q2038 : (Jvm.Cond.soleField "CoarserOrdersModel" "line") ∈ lw_all := lw_g (lw_at lw_m8 208 rfl) rfl
theorem q2039 : (Jvm.Cond.laysFinal "CoarserOrdersModel" "CoarserOrdersModel" "far" "[I") ∈ lw_all := lw_g (lw_at lw_m8 209 rfl) rfl
theorem q2040 : (Jvm.Cond.soleField "CoarserOrdersModel" "far") ∈ lw_all := lw_g (lw_at lw_m8 210 rfl) rfl
theorem q2041 : (Jvm.Cond.laysFinal "CoarserOrdersModel" "CoarserOrdersModel" "fewest" "[I") ∈ lw_all := lw_g (lw_at lw_m8 211 rfl) rfl
theorem q2042 : (Jvm.Cond.soleField "CoarserOrdersModel" "fewest") ∈ lw_all := lw_g (lw_at lw_m8 212 rfl) rfl
theorem q2043 : (Jvm.Cond.laysFinal "CoarserOrdersModel" "CoarserOrdersModel" "queue" "[I") ∈ lw_all := lw_g (lw_at lw_m8 213 rfl) rfl
theorem q2044 : (Jvm.Cond.soleField "CoarserOrdersModel" "queue") ∈ lw_all := lw_g (lw_at lw_m8 214 rfl) rfl
theorem q2045 : (Jvm.Cond.laysFinal "CoarserOrdersModel" "CoarserOrdersModel" "list" "[I") ∈ lw_all := lw_g (lw_at lw_m8 215 rfl) rfl
theorem q2046 : (Jvm.Cond.soleField "CoarserOrdersModel" "list") ∈ lw_all := lw_g (lw_at lw_m8 216 rfl) rfl
theorem q2047 : (Jvm.Cond.laysFinal "CoarserOrdersModel" "CoarserOrdersModel" "isListed" "[Z") ∈ lw_all := lw_g (lw_at lw_m8 217 rfl) rfl
theorem q2048 : (Jvm.Cond.soleField "CoarserOrdersModel" "isListed") ∈ lw_all := lw_g (lw_at lw_m8 218 rfl) rfl
theorem q2049 : (Jvm.Cond.laysFinal "CoarserOrdersModel" "CoarserOrdersModel" "steps" "[I") ∈ lw_all := lw_g (lw_at lw_m8 219 rfl) rfl
theorem q2050 : (Jvm.Cond.soleField "CoarserOrdersModel" "steps") ∈ lw_all := lw_g (lw_at lw_m8 220 rfl) rfl
theorem q2051 : (Jvm.Cond.lays "CoarserOrdersModel" "CoarserOrdersModel" "stepped" "I") ∈ lw_all := lw_g (lw_at lw_m8 221 rfl) rfl
theorem q2052 : (Jvm.Cond.soleField "CoarserOrdersModel" "stepped") ∈ lw_all := lw_g (lw_at lw_m8 222 rfl) rfl
theorem q2053 : (Jvm.Cond.laysFinal "CoarserOrdersModel" "CoarserOrdersModel" "sorts" "[I") ∈ lw_all := lw_g (lw_at lw_m8 223 rfl) rfl
theorem q2054 : (Jvm.Cond.soleField "CoarserOrdersModel" "sorts") ∈ lw_all := lw_g (lw_at lw_m8 224 rfl) rfl
theorem q2055 : (Jvm.Cond.laysFinal "CoarserOrdersModel" "CoarserOrdersModel" "sizes" "[I") ∈ lw_all := lw_g (lw_at lw_m8 225 rfl) rfl
theorem q2056 : (Jvm.Cond.soleField "CoarserOrdersModel" "sizes") ∈ lw_all := lw_g (lw_at lw_m8 226 rfl) rfl
theorem q2057 : (Jvm.Cond.laysFinal "CoarserOrdersModel" "CoarserOrdersModel" "cells" "[J") ∈ lw_all := lw_g (lw_at lw_m8 227 rfl) rfl
theorem q2058 : (Jvm.Cond.soleField "CoarserOrdersModel" "cells") ∈ lw_all := lw_g (lw_at lw_m8 228 rfl) rfl
theorem q2059 : (Jvm.Cond.laysFinal "CoarserOrdersModel" "CoarserOrdersModel" "aside" "[J") ∈ lw_all := lw_g (lw_at lw_m8 229 rfl) rfl
theorem q2060 : (Jvm.Cond.soleField "CoarserOrdersModel" "aside") ∈ lw_all := lw_g (lw_at lw_m8 230 rfl) rfl
theorem q2061 : (Jvm.Cond.laysFinal "CoarserOrdersModel" "CoarserOrdersModel" "held" "[I") ∈ lw_all := lw_g (lw_at lw_m8 231 rfl) rfl
theorem q2062 : (Jvm.Cond.soleField "CoarserOrdersModel" "held") ∈ lw_all := lw_g (lw_at lw_m8 232 rfl) rfl
theorem q2063 : (Jvm.Cond.laysFinal "CoarserOrdersModel" "CoarserOrdersModel" "thing" "[I") ∈ lw_all := lw_g (lw_at lw_m8 233 rfl) rfl
theorem q2064 : (Jvm.Cond.soleField "CoarserOrdersModel" "thing") ∈ lw_all := lw_g (lw_at lw_m8 234 rfl) rfl
theorem q2065 : (Jvm.Cond.laysFinal "CoarserOrdersModel" "CoarserOrdersModel" "length" "[I") ∈ lw_all := lw_g (lw_at lw_m8 235 rfl) rfl
theorem q2066 : (Jvm.Cond.soleField "CoarserOrdersModel" "length") ∈ lw_all := lw_g (lw_at lw_m8 236 rfl) rfl
theorem q2067 : (Jvm.Cond.laysFinal "CoarserOrdersModel" "CoarserOrdersModel" "trace" "[I") ∈ lw_all := lw_g (lw_at lw_m8 237 rfl) rfl
theorem q2068 : (Jvm.Cond.soleField "CoarserOrdersModel" "trace") ∈ lw_all := lw_g (lw_at lw_m8 238 rfl) rfl
theorem q2069 : (Jvm.Cond.lays "CoarserOrdersModel" "CoarserOrdersModel" "traced" "I") ∈ lw_all := lw_g (lw_at lw_m8 239 rfl) rfl
theorem q2070 : (Jvm.Cond.soleField "CoarserOrdersModel" "traced") ∈ lw_all := lw_g (lw_at lw_m9 0 rfl) rfl
theorem q2071 : (Jvm.Cond.lays "CoarserOrdersModel" "CoarserOrdersModel" "kind" "I") ∈ lw_all := lw_g (lw_at lw_m9 1 rfl) rfl
theorem q2072 : (Jvm.Cond.soleField "CoarserOrdersModel" "kind") ∈ lw_all := lw_g (lw_at lw_m9 2 rfl) rfl
theorem q2073 : (Jvm.Cond.lays "CoarserOrdersModel" "CoarserOrdersModel" "number" "I") ∈ lw_all := lw_g (lw_at lw_m9 3 rfl) rfl
theorem q2074 : (Jvm.Cond.soleField "CoarserOrdersModel" "number") ∈ lw_all := lw_g (lw_at lw_m9 4 rfl) rfl
theorem q2075 : (Jvm.Cond.lays "CoarserOrdersModel" "CoarserOrdersModel" "m" "I") ∈ lw_all := lw_g (lw_at lw_m9 5 rfl) rfl
theorem q2076 : (Jvm.Cond.soleField "CoarserOrdersModel" "m") ∈ lw_all := lw_g (lw_at lw_m9 6 rfl) rfl
theorem q2077 : (Jvm.Cond.lays "CoarserOrdersModel" "CoarserOrdersModel" "isParted" "Z") ∈ lw_all := lw_g (lw_at lw_m9 7 rfl) rfl
theorem q2078 : (Jvm.Cond.soleField "CoarserOrdersModel" "isParted") ∈ lw_all := lw_g (lw_at lw_m9 8 rfl) rfl
theorem q2079 : (Jvm.Cond.superclass "CoarserOrdersModel" "java/lang/Object") ∈ lw_all := lw_g (lw_at lw_m9 9 rfl) rfl
theorem q2081 : (Jvm.Cond.instanceMethod ({ cls := "CoarserOrdersModel", name := "size", desc := "(I)I" } : Jvm.MethodName)) ∈ lw_all := lw_g (lw_at lw_m9 11 rfl) rfl
theorem q2082 : (Jvm.Cond.selects "CoarserOrdersModel" ({ cls := "CoarserOrdersModel", name := "size", desc := "(I)I" } : Jvm.MethodName) ({ cls := "CoarserOrdersModel", name := "size", desc := "(I)I" } : Jvm.MethodName)) ∈ lw_all := lw_g (lw_at lw_m9 12 rfl) rfl
theorem q2083 : (Jvm.Cond.code ({ cls := "CoarserOrdersModel", name := "size", desc := "(I)I" } : Jvm.MethodName) prog_32_method_16_code (3 : Nat) (Option.some Jvm.ClassFile.FieldType.int)) ∈ lw_all := lw_g (lw_at lw_m9 13 rfl) rfl
theorem q2084 : (Jvm.Cond.constantLong "CoarserOrdersModel" (131 : Nat) (6 : Int64)) ∈ lw_all := lw_g (lw_at lw_m9 14 rfl) rfl
theorem q2085 : (Jvm.Cond.methodLink "CoarserOrdersModel" (133 : Nat) ({ cls := "CoarserOrdersModel", name := "in", desc := "(JJJ)Z" } : Jvm.MethodName)) ∈ lw_all := lw_g (lw_at lw_m9 15 rfl) rfl
theorem q2086 : (Jvm.Cond.static ({ cls := "CoarserOrdersModel", name := "in", desc := "(JJJ)Z" } : Jvm.MethodName)) ∈ lw_all := lw_g (lw_at lw_m9 16 rfl) rfl
theorem q2087 : (Jvm.Cond.code ({ cls := "CoarserOrdersModel", name := "in", desc := "(JJJ)Z" } : Jvm.MethodName) prog_32_method_2_code (6 : Nat) (Option.some Jvm.ClassFile.FieldType.boolean)) ∈ lw_all := lw_g (lw_at lw_m9 17 rfl) rfl
theorem q2089 : (Jvm.Cond.instanceMethod ({ cls := "CoarserOrdersModel", name := "below", desc := "(II)I" } : Jvm.MethodName)) ∈ lw_all := lw_g (lw_at lw_m9 19 rfl) rfl
theorem q2090 : (Jvm.Cond.selects "CoarserOrdersModel" ({ cls := "CoarserOrdersModel", name := "below", desc := "(II)I" } : Jvm.MethodName) ({ cls := "CoarserOrdersModel", name := "below", desc := "(II)I" } : Jvm.MethodName)) ∈ lw_all := lw_g (lw_at lw_m9 20 rfl) rfl
theorem q2091 : (Jvm.Cond.code ({ cls := "CoarserOrdersModel", name := "below", desc := "(II)I" } : Jvm.MethodName) prog_32_method_17_code (3 : Nat) (Option.some Jvm.ClassFile.FieldType.int)) ∈ lw_all := lw_g (lw_at lw_m9 21 rfl) rfl
theorem q2092 : (Jvm.Cond.methodLink "CoarserOrdersModel" (141 : Nat) ({ cls := "CoarserOrdersModel", name := "areRows", desc := "(II)Z" } : Jvm.MethodName)) ∈ lw_all := lw_g (lw_at lw_m9 22 rfl) rfl
theorem q2093 : (Jvm.Cond.privateMethod ({ cls := "CoarserOrdersModel", name := "areRows", desc := "(II)Z" } : Jvm.MethodName)) ∈ lw_tbl := lw_at lw_m9 23 rfl
theorem q2094 : (Jvm.Cond.instanceMethod ({ cls := "CoarserOrdersModel", name := "areRows", desc := "(II)Z" } : Jvm.MethodName)) ∈ lw_all := lw_g (lw_at lw_m9 24 rfl) rfl
theorem q2095 : (Jvm.Cond.code ({ cls := "CoarserOrdersModel", name := "areRows", desc := "(II)Z" } : Jvm.MethodName) prog_32_method_7_code (3 : Nat) (Option.some Jvm.ClassFile.FieldType.boolean)) ∈ lw_all := lw_g (lw_at lw_m9 25 rfl) rfl
theorem q2096 : (Jvm.Cond.methodLink "CoarserOrdersModel" (116 : Nat) ({ cls := "CoarserOrdersModel", name := "isRow", desc := "(I)Z" } : Jvm.MethodName)) ∈ lw_all := lw_g (lw_at lw_m9 26 rfl) rfl
theorem q2097 : (Jvm.Cond.privateMethod ({ cls := "CoarserOrdersModel", name := "isRow", desc := "(I)Z" } : Jvm.MethodName)) ∈ lw_tbl := lw_at lw_m9 27 rfl
theorem q2098 : (Jvm.Cond.instanceMethod ({ cls := "CoarserOrdersModel", name := "isRow", desc := "(I)Z" } : Jvm.MethodName)) ∈ lw_all := lw_g (lw_at lw_m9 28 rfl) rfl
theorem q2099 : (Jvm.Cond.code ({ cls := "CoarserOrdersModel", name := "isRow", desc := "(I)Z" } : Jvm.MethodName) prog_32_method_6_code (5 : Nat) (Option.some Jvm.ClassFile.FieldType.boolean)) ∈ lw_all := lw_g (lw_at lw_m9 29 rfl) rfl
theorem q2100 : (Jvm.Cond.methodLink "CoarserOrdersModel" (112 : Nat) ({ cls := "CoarserOrdersModel", name := "digit", desc := "(II)I" } : Jvm.MethodName)) ∈ lw_all := lw_g (lw_at lw_m9 30 rfl) rfl
theorem q2101 : (Jvm.Cond.privateMethod ({ cls := "CoarserOrdersModel", name := "digit", desc := "(II)I" } : Jvm.MethodName)) ∈ lw_tbl := lw_at lw_m9 31 rfl
theorem q2102 : (Jvm.Cond.instanceMethod ({ cls := "CoarserOrdersModel", name := "digit", desc := "(II)I" } : Jvm.MethodName)) ∈ lw_all := lw_g (lw_at lw_m9 32 rfl) rfl
theorem q2103 : (Jvm.Cond.code ({ cls := "CoarserOrdersModel", name := "digit", desc := "(II)I" } : Jvm.MethodName) prog_32_method_5_code (3 : Nat) (Option.some Jvm.ClassFile.FieldType.int)) ∈ lw_all := lw_g (lw_at lw_m9 33 rfl) rfl
theorem q2104 : (Jvm.Cond.methodLink "CoarserOrdersModel" (145 : Nat) ({ cls := "CoarserOrdersModel", name := "isBelow", desc := "(II)Z" } : Jvm.MethodName)) ∈ lw_all := lw_g (lw_at lw_m9 34 rfl) rfl
theorem q2105 : (Jvm.Cond.privateMethod ({ cls := "CoarserOrdersModel", name := "isBelow", desc := "(II)Z" } : Jvm.MethodName)) ∈ lw_tbl := lw_at lw_m9 35 rfl
theorem q2106 : (Jvm.Cond.instanceMethod ({ cls := "CoarserOrdersModel", name := "isBelow", desc := "(II)Z" } : Jvm.MethodName)) ∈ lw_all := lw_g (lw_at lw_m9 36 rfl) rfl
theorem q2107 : (Jvm.Cond.code ({ cls := "CoarserOrdersModel", name := "isBelow", desc := "(II)Z" } : Jvm.MethodName) prog_32_method_11_code (3 : Nat) (Option.some Jvm.ClassFile.FieldType.boolean)) ∈ lw_all := lw_g (lw_at lw_m9 37 rfl) rfl
theorem q2108 : (Jvm.Cond.methodLink "CoarserOrdersModel" (120 : Nat) ({ cls := "CoarserOrdersModel", name := "swapped", desc := "(I)I" } : Jvm.MethodName)) ∈ lw_all := lw_g (lw_at lw_m9 38 rfl) rfl
theorem q2109 : (Jvm.Cond.privateMethod ({ cls := "CoarserOrdersModel", name := "swapped", desc := "(I)I" } : Jvm.MethodName)) ∈ lw_tbl := lw_at lw_m9 39 rfl
theorem q2110 : (Jvm.Cond.instanceMethod ({ cls := "CoarserOrdersModel", name := "swapped", desc := "(I)I" } : Jvm.MethodName)) ∈ lw_all := lw_g (lw_at lw_m9 40 rfl) rfl
theorem q2111 : (Jvm.Cond.code ({ cls := "CoarserOrdersModel", name := "swapped", desc := "(I)I" } : Jvm.MethodName) prog_32_method_10_code (7 : Nat) (Option.some Jvm.ClassFile.FieldType.int)) ∈ lw_all := lw_g (lw_at lw_m9 41 rfl) rfl
theorem q2113 : (Jvm.Cond.instanceMethod ({ cls := "CoarserOrdersModel", name := "meet", desc := "(II)I" } : Jvm.MethodName)) ∈ lw_all := lw_g (lw_at lw_m9 43 rfl) rfl
theorem q2114 : (Jvm.Cond.selects "CoarserOrdersModel" ({ cls := "CoarserOrdersModel", name := "meet", desc := "(II)I" } : Jvm.MethodName) ({ cls := "CoarserOrdersModel", name := "meet", desc := "(II)I" } : Jvm.MethodName)) ∈ lw_all := lw_g (lw_at lw_m9 44 rfl) rfl
theorem q2115 : (Jvm.Cond.code ({ cls := "CoarserOrdersModel", name := "meet", desc := "(II)I" } : Jvm.MethodName) prog_32_method_18_code (3 : Nat) (Option.some Jvm.ClassFile.FieldType.int)) ∈ lw_all := lw_g (lw_at lw_m9 45 rfl) rfl
theorem q2116 : (Jvm.Cond.methodLink "CoarserOrdersModel" (148 : Nat) ({ cls := "CoarserOrdersModel", name := "meetOf", desc := "(II)I" } : Jvm.MethodName)) ∈ lw_all := lw_g (lw_at lw_m9 46 rfl) rfl
theorem q2117 : (Jvm.Cond.privateMethod ({ cls := "CoarserOrdersModel", name := "meetOf", desc := "(II)I" } : Jvm.MethodName)) ∈ lw_tbl := lw_at lw_m9 47 rfl
theorem q2118 : (Jvm.Cond.instanceMethod ({ cls := "CoarserOrdersModel", name := "meetOf", desc := "(II)I" } : Jvm.MethodName)) ∈ lw_all := lw_g (lw_at lw_m9 48 rfl) rfl
theorem q2119 : (Jvm.Cond.code ({ cls := "CoarserOrdersModel", name := "meetOf", desc := "(II)I" } : Jvm.MethodName) prog_32_method_14_code (8 : Nat) (Option.some Jvm.ClassFile.FieldType.int)) ∈ lw_all := lw_g (lw_at lw_m9 49 rfl) rfl
theorem q2120 : (Jvm.Cond.methodLink "CoarserOrdersModel" (124 : Nat) ({ cls := "CoarserOrdersModel", name := "rowBy", desc := "(I)I" } : Jvm.MethodName)) ∈ lw_all := lw_g (lw_at lw_m9 50 rfl) rfl
theorem q2121 : (Jvm.Cond.privateMethod ({ cls := "CoarserOrdersModel", name := "rowBy", desc := "(I)I" } : Jvm.MethodName)) ∈ lw_tbl := lw_at lw_m9 51 rfl
theorem q2122 : (Jvm.Cond.instanceMethod ({ cls := "CoarserOrdersModel", name := "rowBy", desc := "(I)I" } : Jvm.MethodName)) ∈ lw_all := lw_g (lw_at lw_m9 52 rfl) rfl
theorem q2123 : (Jvm.Cond.code ({ cls := "CoarserOrdersModel", name := "rowBy", desc := "(I)I" } : Jvm.MethodName) prog_32_method_12_code (8 : Nat) (Option.some Jvm.ClassFile.FieldType.int)) ∈ lw_all := lw_g (lw_at lw_m9 53 rfl) rfl
theorem q2124 : (Jvm.Cond.methodLink "CoarserOrdersModel" (127 : Nat) ({ cls := "CoarserOrdersModel", name := "ones", desc := "(J)I" } : Jvm.MethodName)) ∈ lw_all := lw_g (lw_at lw_m9 54 rfl) rfl
theorem q2125 : (Jvm.Cond.static ({ cls := "CoarserOrdersModel", name := "ones", desc := "(J)I" } : Jvm.MethodName)) ∈ lw_all := lw_g (lw_at lw_m9 55 rfl) rfl
theorem q2126 : (Jvm.Cond.code ({ cls := "CoarserOrdersModel", name := "ones", desc := "(J)I" } : Jvm.MethodName) prog_32_method_4_code (4 : Nat) (Option.some Jvm.ClassFile.FieldType.int)) ∈ lw_all := lw_g (lw_at lw_m9 56 rfl) rfl
theorem q2128 : (Jvm.Cond.instanceMethod ({ cls := "CoarserOrdersModel", name := "join", desc := "(II)I" } : Jvm.MethodName)) ∈ lw_all := lw_g (lw_at lw_m9 58 rfl) rfl
theorem q2129 : (Jvm.Cond.selects "CoarserOrdersModel" ({ cls := "CoarserOrdersModel", name := "join", desc := "(II)I" } : Jvm.MethodName) ({ cls := "CoarserOrdersModel", name := "join", desc := "(II)I" } : Jvm.MethodName)) ∈ lw_all := lw_g (lw_at lw_m9 59 rfl) rfl
theorem q2130 : (Jvm.Cond.code ({ cls := "CoarserOrdersModel", name := "join", desc := "(II)I" } : Jvm.MethodName) prog_32_method_19_code (3 : Nat) (Option.some Jvm.ClassFile.FieldType.int)) ∈ lw_all := lw_g (lw_at lw_m9 60 rfl) rfl
theorem q2131 : (Jvm.Cond.methodLink "CoarserOrdersModel" (151 : Nat) ({ cls := "CoarserOrdersModel", name := "joinOf", desc := "(II)I" } : Jvm.MethodName)) ∈ lw_all := lw_g (lw_at lw_m9 61 rfl) rfl
theorem q2132 : (Jvm.Cond.privateMethod ({ cls := "CoarserOrdersModel", name := "joinOf", desc := "(II)I" } : Jvm.MethodName)) ∈ lw_tbl := lw_at lw_m9 62 rfl
theorem q2133 : (Jvm.Cond.instanceMethod ({ cls := "CoarserOrdersModel", name := "joinOf", desc := "(II)I" } : Jvm.MethodName)) ∈ lw_all := lw_g (lw_at lw_m9 63 rfl) rfl
theorem q2134 : (Jvm.Cond.code ({ cls := "CoarserOrdersModel", name := "joinOf", desc := "(II)I" } : Jvm.MethodName) prog_32_method_15_code (8 : Nat) (Option.some Jvm.ClassFile.FieldType.int)) ∈ lw_all := lw_g (lw_at lw_m9 64 rfl) rfl
theorem q2136 : (Jvm.Cond.instanceMethod ({ cls := "CoarserOrdersModel", name := "of", desc := "(II)I" } : Jvm.MethodName)) ∈ lw_all := lw_g (lw_at lw_m9 66 rfl) rfl
theorem q2137 : (Jvm.Cond.selects "CoarserOrdersModel" ({ cls := "CoarserOrdersModel", name := "of", desc := "(II)I" } : Jvm.MethodName) ({ cls := "CoarserOrdersModel", name := "of", desc := "(II)I" } : Jvm.MethodName)) ∈ lw_all := lw_g (lw_at lw_m9 67 rfl) rfl
theorem q2138 : (Jvm.Cond.code ({ cls := "CoarserOrdersModel", name := "of", desc := "(II)I" } : Jvm.MethodName) prog_32_method_22_code (3 : Nat) (Option.some Jvm.ClassFile.FieldType.int)) ∈ lw_all := lw_g (lw_at lw_m9 68 rfl) rfl
theorem q2139 : (Jvm.Cond.constantLong "CoarserOrdersModel" (157 : Nat) (3 : Int64)) ∈ lw_all := lw_g (lw_at lw_m9 69 rfl) rfl
theorem q2140 : (Jvm.Cond.methodLink "CoarserOrdersModel" (159 : Nat) ({ cls := "CoarserOrdersModel", name := "drops", desc := "(I)I" } : Jvm.MethodName)) ∈ lw_all := lw_g (lw_at lw_m9 70 rfl) rfl
theorem q2141 : (Jvm.Cond.privateMethod ({ cls := "CoarserOrdersModel", name := "drops", desc := "(I)I" } : Jvm.MethodName)) ∈ lw_tbl := lw_at lw_m9 71 rfl
theorem q2142 : (Jvm.Cond.instanceMethod ({ cls := "CoarserOrdersModel", name := "drops", desc := "(I)I" } : Jvm.MethodName)) ∈ lw_all := lw_g (lw_at lw_m9 72 rfl) rfl
theorem q2143 : (Jvm.Cond.code ({ cls := "CoarserOrdersModel", name := "drops", desc := "(I)I" } : Jvm.MethodName) prog_32_method_20_code (4 : Nat) (Option.some Jvm.ClassFile.FieldType.int)) ∈ lw_all := lw_g (lw_at lw_m9 73 rfl) rfl
theorem q2144 : (Jvm.Cond.methodLink "CoarserOrdersModel" (154 : Nat) ({ cls := "CoarserOrdersModel", name := "isDrop", desc := "(II)Z" } : Jvm.MethodName)) ∈ lw_all := lw_g (lw_at lw_m9 74 rfl) rfl
theorem q2145 : (Jvm.Cond.privateMethod ({ cls := "CoarserOrdersModel", name := "isDrop", desc := "(II)Z" } : Jvm.MethodName)) ∈ lw_tbl := lw_at lw_m9 75 rfl
theorem q2146 : (Jvm.Cond.instanceMethod ({ cls := "CoarserOrdersModel", name := "isDrop", desc := "(II)Z" } : Jvm.MethodName)) ∈ lw_all := lw_g (lw_at lw_m9 76 rfl) rfl
theorem q2147 : (Jvm.Cond.code ({ cls := "CoarserOrdersModel", name := "isDrop", desc := "(II)Z" } : Jvm.MethodName) prog_32_method_9_code (3 : Nat) (Option.some Jvm.ClassFile.FieldType.boolean)) ∈ lw_all := lw_g (lw_at lw_m9 77 rfl) rfl
theorem q2148 : (Jvm.Cond.methodLink "CoarserOrdersModel" (162 : Nat) ({ cls := "CoarserOrdersModel", name := "rank", desc := "(I)I" } : Jvm.MethodName)) ∈ lw_all := lw_g (lw_at lw_m9 78 rfl) rfl
theorem q2149 : (Jvm.Cond.privateMethod ({ cls := "CoarserOrdersModel", name := "rank", desc := "(I)I" } : Jvm.MethodName)) ∈ lw_tbl := lw_at lw_m9 79 rfl
theorem q2150 : (Jvm.Cond.instanceMethod ({ cls := "CoarserOrdersModel", name := "rank", desc := "(I)I" } : Jvm.MethodName)) ∈ lw_all := lw_g (lw_at lw_m9 80 rfl) rfl
theorem q2151 : (Jvm.Cond.code ({ cls := "CoarserOrdersModel", name := "rank", desc := "(I)I" } : Jvm.MethodName) prog_32_method_13_code (5 : Nat) (Option.some Jvm.ClassFile.FieldType.int)) ∈ lw_all := lw_g (lw_at lw_m9 81 rfl) rfl
theorem q2152 : (Jvm.Cond.methodLink "CoarserOrdersModel" (165 : Nat) ({ cls := "CoarserOrdersModel", name := "turned", desc := "(I)I" } : Jvm.MethodName)) ∈ lw_all := lw_g (lw_at lw_m9 82 rfl) rfl
theorem q2153 : (Jvm.Cond.privateMethod ({ cls := "CoarserOrdersModel", name := "turned", desc := "(I)I" } : Jvm.MethodName)) ∈ lw_tbl := lw_at lw_m9 83 rfl
theorem q2154 : (Jvm.Cond.instanceMethod ({ cls := "CoarserOrdersModel", name := "turned", desc := "(I)I" } : Jvm.MethodName)) ∈ lw_all := lw_g (lw_at lw_m9 84 rfl) rfl
theorem q2155 : (Jvm.Cond.code ({ cls := "CoarserOrdersModel", name := "turned", desc := "(I)I" } : Jvm.MethodName) prog_32_method_21_code (4 : Nat) (Option.some Jvm.ClassFile.FieldType.int)) ∈ lw_all := lw_g (lw_at lw_m9 85 rfl) rfl
theorem q2157 : (Jvm.Cond.instanceMethod ({ cls := "CoarserOrdersModel", name := "rowAt", desc := "(I)I" } : Jvm.MethodName)) ∈ lw_all := lw_g (lw_at lw_m9 87 rfl) rfl
theorem q2158 : (Jvm.Cond.selects "CoarserOrdersModel" ({ cls := "CoarserOrdersModel", name := "rowAt", desc := "(I)I" } : Jvm.MethodName) ({ cls := "CoarserOrdersModel", name := "rowAt", desc := "(I)I" } : Jvm.MethodName)) ∈ lw_all := lw_g (lw_at lw_m9 88 rfl) rfl
theorem q2159 : (Jvm.Cond.code ({ cls := "CoarserOrdersModel", name := "rowAt", desc := "(I)I" } : Jvm.MethodName) prog_32_method_23_code (2 : Nat) (Option.some Jvm.ClassFile.FieldType.int)) ∈ lw_all := lw_g (lw_at lw_m9 89 rfl) rfl
theorem q2161 : (Jvm.Cond.instanceMethod ({ cls := "CoarserOrdersModel", name := "jump", desc := "(III)I" } : Jvm.MethodName)) ∈ lw_all := lw_g (lw_at lw_m9 91 rfl) rfl
theorem q2162 : (Jvm.Cond.selects "CoarserOrdersModel" ({ cls := "CoarserOrdersModel", name := "jump", desc := "(III)I" } : Jvm.MethodName) ({ cls := "CoarserOrdersModel", name := "jump", desc := "(III)I" } : Jvm.MethodName)) ∈ lw_all := lw_g (lw_at lw_m9 92 rfl) rfl
theorem q2163 : (Jvm.Cond.code ({ cls := "CoarserOrdersModel", name := "jump", desc := "(III)I" } : Jvm.MethodName) prog_32_method_26_code (4 : Nat) (Option.some Jvm.ClassFile.FieldType.int)) ∈ lw_all := lw_g (lw_at lw_m9 93 rfl) rfl
theorem q2164 : (Jvm.Cond.methodLink "CoarserOrdersModel" (174 : Nat) ({ cls := "CoarserOrdersModel", name := "jumped", desc := "(III)I" } : Jvm.MethodName)) ∈ lw_all := lw_g (lw_at lw_m9 94 rfl) rfl
theorem q2165 : (Jvm.Cond.privateMethod ({ cls := "CoarserOrdersModel", name := "jumped", desc := "(III)I" } : Jvm.MethodName)) ∈ lw_tbl := lw_at lw_m9 95 rfl
theorem q2166 : (Jvm.Cond.instanceMethod ({ cls := "CoarserOrdersModel", name := "jumped", desc := "(III)I" } : Jvm.MethodName)) ∈ lw_all := lw_g (lw_at lw_m9 96 rfl) rfl
theorem q2167 : (Jvm.Cond.code ({ cls := "CoarserOrdersModel", name := "jumped", desc := "(III)I" } : Jvm.MethodName) prog_32_method_25_code (10 : Nat) (Option.some Jvm.ClassFile.FieldType.int)) ∈ lw_all := lw_g (lw_at lw_m9 97 rfl) rfl
theorem q2168 : (Jvm.Cond.methodLink "CoarserOrdersModel" (168 : Nat) ({ cls := "CoarserOrdersModel", name := "placeOf", desc := "(II)I" } : Jvm.MethodName)) ∈ lw_all := lw_g (lw_at lw_m9 98 rfl) rfl
theorem q2169 : (Jvm.Cond.privateMethod ({ cls := "CoarserOrdersModel", name := "placeOf", desc := "(II)I" } : Jvm.MethodName)) ∈ lw_tbl := lw_at lw_m9 99 rfl
theorem q2170 : (Jvm.Cond.instanceMethod ({ cls := "CoarserOrdersModel", name := "placeOf", desc := "(II)I" } : Jvm.MethodName)) ∈ lw_all := lw_g (lw_at lw_m9 100 rfl) rfl
theorem q2171 : (Jvm.Cond.code ({ cls := "CoarserOrdersModel", name := "placeOf", desc := "(II)I" } : Jvm.MethodName) prog_32_method_24_code (4 : Nat) (Option.some Jvm.ClassFile.FieldType.int)) ∈ lw_all := lw_g (lw_at lw_m9 101 rfl) rfl
theorem q2172 : (Jvm.Cond.methodLink "CoarserOrdersModel" (171 : Nat) ({ cls := "CoarserOrdersModel", name := "swapAt", desc := "(II)I" } : Jvm.MethodName)) ∈ lw_all := lw_g (lw_at lw_m9 102 rfl) rfl
theorem q2173 : (Jvm.Cond.privateMethod ({ cls := "CoarserOrdersModel", name := "swapAt", desc := "(II)I" } : Jvm.MethodName)) ∈ lw_tbl := lw_at lw_m9 103 rfl
theorem q2174 : (Jvm.Cond.instanceMethod ({ cls := "CoarserOrdersModel", name := "swapAt", desc := "(II)I" } : Jvm.MethodName)) ∈ lw_all := lw_g (lw_at lw_m9 104 rfl) rfl
theorem q2175 : (Jvm.Cond.code ({ cls := "CoarserOrdersModel", name := "swapAt", desc := "(II)I" } : Jvm.MethodName) prog_32_method_8_code (3 : Nat) (Option.some Jvm.ClassFile.FieldType.int)) ∈ lw_all := lw_g (lw_at lw_m9 105 rfl) rfl
theorem q2177 : (Jvm.Cond.instanceMethod ({ cls := "CoarserOrdersModel", name := "arc", desc := "(II)I" } : Jvm.MethodName)) ∈ lw_all := lw_g (lw_at lw_m9 107 rfl) rfl
theorem q2178 : (Jvm.Cond.selects "CoarserOrdersModel" ({ cls := "CoarserOrdersModel", name := "arc", desc := "(II)I" } : Jvm.MethodName) ({ cls := "CoarserOrdersModel", name := "arc", desc := "(II)I" } : Jvm.MethodName)) ∈ lw_all := lw_g (lw_at lw_m9 108 rfl) rfl
theorem q2179 : (Jvm.Cond.code ({ cls := "CoarserOrdersModel", name := "arc", desc := "(II)I" } : Jvm.MethodName) prog_32_method_32_code (3 : Nat) (Option.some Jvm.ClassFile.FieldType.int)) ∈ lw_all := lw_g (lw_at lw_m9 109 rfl) rfl
theorem q2180 : (Jvm.Cond.methodLink "CoarserOrdersModel" (187 : Nat) ({ cls := "CoarserOrdersModel", name := "arcAt", desc := "(II)I" } : Jvm.MethodName)) ∈ lw_all := lw_g (lw_at lw_m9 110 rfl) rfl
theorem q2181 : (Jvm.Cond.privateMethod ({ cls := "CoarserOrdersModel", name := "arcAt", desc := "(II)I" } : Jvm.MethodName)) ∈ lw_tbl := lw_at lw_m9 111 rfl
theorem q2182 : (Jvm.Cond.instanceMethod ({ cls := "CoarserOrdersModel", name := "arcAt", desc := "(II)I" } : Jvm.MethodName)) ∈ lw_all := lw_g (lw_at lw_m9 112 rfl) rfl
theorem q2183 : (Jvm.Cond.code ({ cls := "CoarserOrdersModel", name := "arcAt", desc := "(II)I" } : Jvm.MethodName) prog_32_method_31_code (10 : Nat) (Option.some Jvm.ClassFile.FieldType.int)) ∈ lw_all := lw_g (lw_at lw_m9 113 rfl) rfl
theorem q2185 : (Jvm.Cond.instanceMethod ({ cls := "CoarserOrdersModel", name := "arcIs", desc := "(II)I" } : Jvm.MethodName)) ∈ lw_all := lw_g (lw_at lw_m9 115 rfl) rfl
theorem q2186 : (Jvm.Cond.selects "CoarserOrdersModel" ({ cls := "CoarserOrdersModel", name := "arcIs", desc := "(II)I" } : Jvm.MethodName) ({ cls := "CoarserOrdersModel", name := "arcIs", desc := "(II)I" } : Jvm.MethodName)) ∈ lw_all := lw_g (lw_at lw_m9 116 rfl) rfl
theorem q2187 : (Jvm.Cond.code ({ cls := "CoarserOrdersModel", name := "arcIs", desc := "(II)I" } : Jvm.MethodName) prog_32_method_37_code (3 : Nat) (Option.some Jvm.ClassFile.FieldType.int)) ∈ lw_all := lw_g (lw_at lw_m9 117 rfl) rfl
theorem q2188 : (Jvm.Cond.methodLink "CoarserOrdersModel" (194 : Nat) ({ cls := "CoarserOrdersModel", name := "isArc", desc := "(I)Z" } : Jvm.MethodName)) ∈ lw_all := lw_g (lw_at lw_m9 118 rfl) rfl
theorem q2189 : (Jvm.Cond.privateMethod ({ cls := "CoarserOrdersModel", name := "isArc", desc := "(I)Z" } : Jvm.MethodName)) ∈ lw_tbl := lw_at lw_m9 119 rfl
theorem q2190 : (Jvm.Cond.instanceMethod ({ cls := "CoarserOrdersModel", name := "isArc", desc := "(I)Z" } : Jvm.MethodName)) ∈ lw_all := lw_g (lw_at lw_m9 120 rfl) rfl
theorem q2191 : (Jvm.Cond.code ({ cls := "CoarserOrdersModel", name := "isArc", desc := "(I)Z" } : Jvm.MethodName) prog_32_method_30_code (2 : Nat) (Option.some Jvm.ClassFile.FieldType.boolean)) ∈ lw_all := lw_g (lw_at lw_m9 121 rfl) rfl
theorem q2192 : (Jvm.Cond.methodLink "CoarserOrdersModel" (197 : Nat) ({ cls := "CoarserOrdersModel", name := "forcers", desc := "(I)J" } : Jvm.MethodName)) ∈ lw_all := lw_g (lw_at lw_m9 122 rfl) rfl
theorem q2193 : (Jvm.Cond.privateMethod ({ cls := "CoarserOrdersModel", name := "forcers", desc := "(I)J" } : Jvm.MethodName)) ∈ lw_tbl := lw_at lw_m9 123 rfl
theorem q2194 : (Jvm.Cond.instanceMethod ({ cls := "CoarserOrdersModel", name := "forcers", desc := "(I)J" } : Jvm.MethodName)) ∈ lw_all := lw_g (lw_at lw_m9 124 rfl) rfl
theorem q2195 : (Jvm.Cond.code ({ cls := "CoarserOrdersModel", name := "forcers", desc := "(I)J" } : Jvm.MethodName) prog_32_method_35_code (5 : Nat) (Option.some Jvm.ClassFile.FieldType.long)) ∈ lw_all := lw_g (lw_at lw_m9 125 rfl) rfl
theorem q2196 : (Jvm.Cond.methodLink "CoarserOrdersModel" (200 : Nat) ({ cls := "CoarserOrdersModel", name := "leastWith", desc := "(I)I" } : Jvm.MethodName)) ∈ lw_all := lw_g (lw_at lw_m9 126 rfl) rfl
theorem q2197 : (Jvm.Cond.privateMethod ({ cls := "CoarserOrdersModel", name := "leastWith", desc := "(I)I" } : Jvm.MethodName)) ∈ lw_tbl := lw_at lw_m9 127 rfl
theorem q2198 : (Jvm.Cond.instanceMethod ({ cls := "CoarserOrdersModel", name := "leastWith", desc := "(I)I" } : Jvm.MethodName)) ∈ lw_all := lw_g (lw_at lw_m9 128 rfl) rfl
theorem q2199 : (Jvm.Cond.code ({ cls := "CoarserOrdersModel", name := "leastWith", desc := "(I)I" } : Jvm.MethodName) prog_32_method_36_code (6 : Nat) (Option.some Jvm.ClassFile.FieldType.int)) ∈ lw_all := lw_g (lw_at lw_m9 129 rfl) rfl
theorem q2200 : (Jvm.Cond.methodLink "CoarserOrdersModel" (190 : Nat) ({ cls := "CoarserOrdersModel", name := "diagramOf", desc := "(I)J" } : Jvm.MethodName)) ∈ lw_all := lw_g (lw_at lw_m9 130 rfl) rfl
theorem q2201 : (Jvm.Cond.privateMethod ({ cls := "CoarserOrdersModel", name := "diagramOf", desc := "(I)J" } : Jvm.MethodName)) ∈ lw_tbl := lw_at lw_m9 131 rfl
theorem q2202 : (Jvm.Cond.instanceMethod ({ cls := "CoarserOrdersModel", name := "diagramOf", desc := "(I)J" } : Jvm.MethodName)) ∈ lw_all := lw_g (lw_at lw_m9 132 rfl) rfl
theorem q2203 : (Jvm.Cond.code ({ cls := "CoarserOrdersModel", name := "diagramOf", desc := "(I)J" } : Jvm.MethodName) prog_32_method_33_code (5 : Nat) (Option.some Jvm.ClassFile.FieldType.long)) ∈ lw_all := lw_g (lw_at lw_m9 133 rfl) rfl
theorem q2205 : (Jvm.Cond.instanceMethod ({ cls := "CoarserOrdersModel", name := "forces", desc := "(II)I" } : Jvm.MethodName)) ∈ lw_all := lw_g (lw_at lw_m9 135 rfl) rfl
theorem q2206 : (Jvm.Cond.selects "CoarserOrdersModel" ({ cls := "CoarserOrdersModel", name := "forces", desc := "(II)I" } : Jvm.MethodName) ({ cls := "CoarserOrdersModel", name := "forces", desc := "(II)I" } : Jvm.MethodName)) ∈ lw_all := lw_g (lw_at lw_m9 136 rfl) rfl
theorem q2207 : (Jvm.Cond.code ({ cls := "CoarserOrdersModel", name := "forces", desc := "(II)I" } : Jvm.MethodName) prog_32_method_38_code (3 : Nat) (Option.some Jvm.ClassFile.FieldType.int)) ∈ lw_all := lw_g (lw_at lw_m9 137 rfl) rfl
theorem q2209 : (Jvm.Cond.instanceMethod ({ cls := "CoarserOrdersModel", name := "diagram", desc := "(I)J" } : Jvm.MethodName)) ∈ lw_all := lw_g (lw_at lw_m9 139 rfl) rfl
theorem q2210 : (Jvm.Cond.selects "CoarserOrdersModel" ({ cls := "CoarserOrdersModel", name := "diagram", desc := "(I)J" } : Jvm.MethodName) ({ cls := "CoarserOrdersModel", name := "diagram", desc := "(I)J" } : Jvm.MethodName)) ∈ lw_all := lw_g (lw_at lw_m9 140 rfl) rfl
theorem q2211 : (Jvm.Cond.code ({ cls := "CoarserOrdersModel", name := "diagram", desc := "(I)J" } : Jvm.MethodName) prog_32_method_39_code (2 : Nat) (Option.some Jvm.ClassFile.FieldType.long)) ∈ lw_all := lw_g (lw_at lw_m9 141 rfl) rfl
theorem q2212 : (Jvm.Cond.constantLong "CoarserOrdersModel" (203 : Nat) (-1 : Int64)) ∈ lw_all := lw_g (lw_at lw_m9 142 rfl) rfl
theorem q2214 : (Jvm.Cond.instanceMethod ({ cls := "CoarserOrdersModel", name := "rowOf", desc := "(J)I" } : Jvm.MethodName)) ∈ lw_all := lw_g (lw_at lw_m9 144 rfl) rfl
theorem q2215 : (Jvm.Cond.selects "CoarserOrdersModel" ({ cls := "CoarserOrdersModel", name := "rowOf", desc := "(J)I" } : Jvm.MethodName) ({ cls := "CoarserOrdersModel", name := "rowOf", desc := "(J)I" } : Jvm.MethodName)) ∈ lw_all := lw_g (lw_at lw_m9 145 rfl) rfl
theorem q2216 : (Jvm.Cond.code ({ cls := "CoarserOrdersModel", name := "rowOf", desc := "(J)I" } : Jvm.MethodName) prog_32_method_40_code (4 : Nat) (Option.some Jvm.ClassFile.FieldType.int)) ∈ lw_all := lw_g (lw_at lw_m9 146 rfl) rfl
theorem q2218 : (Jvm.Cond.instanceMethod ({ cls := "CoarserOrdersModel", name := "gone", desc := "()J" } : Jvm.MethodName)) ∈ lw_all := lw_g (lw_at lw_m9 148 rfl) rfl
theorem q2219 : (Jvm.Cond.selects "CoarserOrdersModel" ({ cls := "CoarserOrdersModel", name := "gone", desc := "()J" } : Jvm.MethodName) ({ cls := "CoarserOrdersModel", name := "gone", desc := "()J" } : Jvm.MethodName)) ∈ lw_all := lw_g (lw_at lw_m9 149 rfl) rfl
theorem q2220 : (Jvm.Cond.code ({ cls := "CoarserOrdersModel", name := "gone", desc := "()J" } : Jvm.MethodName) prog_32_method_41_code (1 : Nat) (Option.some Jvm.ClassFile.FieldType.long)) ∈ lw_all := lw_g (lw_at lw_m9 150 rfl) rfl
theorem q2222 : (Jvm.Cond.instanceMethod ({ cls := "CoarserOrdersModel", name := "contract", desc := "(I)I" } : Jvm.MethodName)) ∈ lw_all := lw_g (lw_at lw_m9 152 rfl) rfl
theorem q2223 : (Jvm.Cond.selects "CoarserOrdersModel" ({ cls := "CoarserOrdersModel", name := "contract", desc := "(I)I" } : Jvm.MethodName) ({ cls := "CoarserOrdersModel", name := "contract", desc := "(I)I" } : Jvm.MethodName)) ∈ lw_all := lw_g (lw_at lw_m9 153 rfl) rfl
theorem q2224 : (Jvm.Cond.code ({ cls := "CoarserOrdersModel", name := "contract", desc := "(I)I" } : Jvm.MethodName) prog_32_method_42_code (2 : Nat) (Option.some Jvm.ClassFile.FieldType.int)) ∈ lw_all := lw_g (lw_at lw_m9 154 rfl) rfl
theorem q2226 : (Jvm.Cond.instanceMethod ({ cls := "CoarserOrdersModel", name := "restore", desc := "(I)I" } : Jvm.MethodName)) ∈ lw_all := lw_g (lw_at lw_m9 156 rfl) rfl
theorem q2227 : (Jvm.Cond.selects "CoarserOrdersModel" ({ cls := "CoarserOrdersModel", name := "restore", desc := "(I)I" } : Jvm.MethodName) ({ cls := "CoarserOrdersModel", name := "restore", desc := "(I)I" } : Jvm.MethodName)) ∈ lw_all := lw_g (lw_at lw_m9 157 rfl) rfl
theorem q2228 : (Jvm.Cond.code ({ cls := "CoarserOrdersModel", name := "restore", desc := "(I)I" } : Jvm.MethodName) prog_32_method_43_code (2 : Nat) (Option.some Jvm.ClassFile.FieldType.int)) ∈ lw_all := lw_g (lw_at lw_m9 158 rfl) rfl
theorem q2230 : (Jvm.Cond.instanceMethod ({ cls := "CoarserOrdersModel", name := "collapse", desc := "(II)I" } : Jvm.MethodName)) ∈ lw_all := lw_g (lw_at lw_m9 160 rfl) rfl
theorem q2231 : (Jvm.Cond.selects "CoarserOrdersModel" ({ cls := "CoarserOrdersModel", name := "collapse", desc := "(II)I" } : Jvm.MethodName) ({ cls := "CoarserOrdersModel", name := "collapse", desc := "(II)I" } : Jvm.MethodName)) ∈ lw_all := lw_g (lw_at lw_m9 161 rfl) rfl
theorem q2232 : (Jvm.Cond.code ({ cls := "CoarserOrdersModel", name := "collapse", desc := "(II)I" } : Jvm.MethodName) prog_32_method_44_code (6 : Nat) (Option.some Jvm.ClassFile.FieldType.int)) ∈ lw_all := lw_g (lw_at lw_m9 162 rfl) rfl
theorem q2234 : (Jvm.Cond.instanceMethod ({ cls := "CoarserOrdersModel", name := "maker", desc := "(II)I" } : Jvm.MethodName)) ∈ lw_all := lw_g (lw_at lw_m9 164 rfl) rfl
theorem q2235 : (Jvm.Cond.selects "CoarserOrdersModel" ({ cls := "CoarserOrdersModel", name := "maker", desc := "(II)I" } : Jvm.MethodName) ({ cls := "CoarserOrdersModel", name := "maker", desc := "(II)I" } : Jvm.MethodName)) ∈ lw_all := lw_g (lw_at lw_m9 165 rfl) rfl
theorem q2236 : (Jvm.Cond.code ({ cls := "CoarserOrdersModel", name := "maker", desc := "(II)I" } : Jvm.MethodName) prog_32_method_51_code (3 : Nat) (Option.some Jvm.ClassFile.FieldType.int)) ∈ lw_all := lw_g (lw_at lw_m9 166 rfl) rfl
theorem q2237 : (Jvm.Cond.constantLong "CoarserOrdersModel" (219 : Nat) (5 : Int64)) ∈ lw_all := lw_g (lw_at lw_m9 167 rfl) rfl
theorem q2238 : (Jvm.Cond.constantLong "CoarserOrdersModel" (221 : Nat) (15 : Int64)) ∈ lw_all := lw_g (lw_at lw_m9 168 rfl) rfl
theorem q2240 : (Jvm.Cond.instanceMethod ({ cls := "CoarserOrdersModel", name := "makerIs", desc := "(II)I" } : Jvm.MethodName)) ∈ lw_all := lw_g (lw_at lw_m9 170 rfl) rfl
theorem q2241 : (Jvm.Cond.selects "CoarserOrdersModel" ({ cls := "CoarserOrdersModel", name := "makerIs", desc := "(II)I" } : Jvm.MethodName) ({ cls := "CoarserOrdersModel", name := "makerIs", desc := "(II)I" } : Jvm.MethodName)) ∈ lw_all := lw_g (lw_at lw_m9 171 rfl) rfl
theorem q2242 : (Jvm.Cond.code ({ cls := "CoarserOrdersModel", name := "makerIs", desc := "(II)I" } : Jvm.MethodName) prog_32_method_52_code (3 : Nat) (Option.some Jvm.ClassFile.FieldType.int)) ∈ lw_all := lw_g (lw_at lw_m9 172 rfl) rfl
theorem q2243 : (Jvm.Cond.methodLink "CoarserOrdersModel" (223 : Nat) ({ cls := "CoarserOrdersModel", name := "isMaker", desc := "(I)Z" } : Jvm.MethodName)) ∈ lw_all := lw_g (lw_at lw_m9 173 rfl) rfl
theorem q2244 : (Jvm.Cond.privateMethod ({ cls := "CoarserOrdersModel", name := "isMaker", desc := "(I)Z" } : Jvm.MethodName)) ∈ lw_tbl := lw_at lw_m9 174 rfl
theorem q2245 : (Jvm.Cond.instanceMethod ({ cls := "CoarserOrdersModel", name := "isMaker", desc := "(I)Z" } : Jvm.MethodName)) ∈ lw_all := lw_g (lw_at lw_m9 175 rfl) rfl
theorem q2246 : (Jvm.Cond.code ({ cls := "CoarserOrdersModel", name := "isMaker", desc := "(I)Z" } : Jvm.MethodName) prog_32_method_46_code (2 : Nat) (Option.some Jvm.ClassFile.FieldType.boolean)) ∈ lw_all := lw_g (lw_at lw_m9 176 rfl) rfl
theorem q2247 : (Jvm.Cond.constantLong "CoarserOrdersModel" (226 : Nat) (2 : Int64)) ∈ lw_all := lw_g (lw_at lw_m9 177 rfl) rfl
theorem q2248 : (Jvm.Cond.methodLink "CoarserOrdersModel" (228 : Nat) ({ cls := "CoarserOrdersModel", name := "takenBy", desc := "(II)J" } : Jvm.MethodName)) ∈ lw_all := lw_g (lw_at lw_m9 178 rfl) rfl
theorem q2249 : (Jvm.Cond.privateMethod ({ cls := "CoarserOrdersModel", name := "takenBy", desc := "(II)J" } : Jvm.MethodName)) ∈ lw_tbl := lw_at lw_m9 179 rfl
theorem q2250 : (Jvm.Cond.instanceMethod ({ cls := "CoarserOrdersModel", name := "takenBy", desc := "(II)J" } : Jvm.MethodName)) ∈ lw_all := lw_g (lw_at lw_m9 180 rfl) rfl
theorem q2251 : (Jvm.Cond.code ({ cls := "CoarserOrdersModel", name := "takenBy", desc := "(II)J" } : Jvm.MethodName) prog_32_method_49_code (6 : Nat) (Option.some Jvm.ClassFile.FieldType.long)) ∈ lw_all := lw_g (lw_at lw_m9 181 rfl) rfl
theorem q2252 : (Jvm.Cond.methodLink "CoarserOrdersModel" (211 : Nat) ({ cls := "CoarserOrdersModel", name := "takes", desc := "(III)Z" } : Jvm.MethodName)) ∈ lw_all := lw_g (lw_at lw_m9 182 rfl) rfl
theorem q2253 : (Jvm.Cond.privateMethod ({ cls := "CoarserOrdersModel", name := "takes", desc := "(III)Z" } : Jvm.MethodName)) ∈ lw_tbl := lw_at lw_m9 183 rfl
theorem q2254 : (Jvm.Cond.instanceMethod ({ cls := "CoarserOrdersModel", name := "takes", desc := "(III)Z" } : Jvm.MethodName)) ∈ lw_all := lw_g (lw_at lw_m9 184 rfl) rfl
theorem q2255 : (Jvm.Cond.code ({ cls := "CoarserOrdersModel", name := "takes", desc := "(III)Z" } : Jvm.MethodName) prog_32_method_47_code (7 : Nat) (Option.some Jvm.ClassFile.FieldType.boolean)) ∈ lw_all := lw_g (lw_at lw_m9 185 rfl) rfl
theorem q2256 : (Jvm.Cond.methodLink "CoarserOrdersModel" (208 : Nat) ({ cls := "CoarserOrdersModel", name := "isSigned", desc := "(II)Z" } : Jvm.MethodName)) ∈ lw_all := lw_g (lw_at lw_m9 186 rfl) rfl
theorem q2257 : (Jvm.Cond.privateMethod ({ cls := "CoarserOrdersModel", name := "isSigned", desc := "(II)Z" } : Jvm.MethodName)) ∈ lw_tbl := lw_at lw_m9 187 rfl
theorem q2258 : (Jvm.Cond.instanceMethod ({ cls := "CoarserOrdersModel", name := "isSigned", desc := "(II)Z" } : Jvm.MethodName)) ∈ lw_all := lw_g (lw_at lw_m9 188 rfl) rfl
theorem q2259 : (Jvm.Cond.code ({ cls := "CoarserOrdersModel", name := "isSigned", desc := "(II)Z" } : Jvm.MethodName) prog_32_method_48_code (5 : Nat) (Option.some Jvm.ClassFile.FieldType.boolean)) ∈ lw_all := lw_g (lw_at lw_m9 189 rfl) rfl
theorem q2261 : (Jvm.Cond.instanceMethod ({ cls := "CoarserOrdersModel", name := "make", desc := "(II)I" } : Jvm.MethodName)) ∈ lw_all := lw_g (lw_at lw_m9 191 rfl) rfl
theorem q2262 : (Jvm.Cond.selects "CoarserOrdersModel" ({ cls := "CoarserOrdersModel", name := "make", desc := "(II)I" } : Jvm.MethodName) ({ cls := "CoarserOrdersModel", name := "make", desc := "(II)I" } : Jvm.MethodName)) ∈ lw_all := lw_g (lw_at lw_m9 192 rfl) rfl
theorem q2263 : (Jvm.Cond.code ({ cls := "CoarserOrdersModel", name := "make", desc := "(II)I" } : Jvm.MethodName) prog_32_method_53_code (3 : Nat) (Option.some Jvm.ClassFile.FieldType.int)) ∈ lw_all := lw_g (lw_at lw_m9 193 rfl) rfl
theorem q2264 : (Jvm.Cond.methodLink "CoarserOrdersModel" (232 : Nat) ({ cls := "CoarserOrdersModel", name := "comes", desc := "(JI)I" } : Jvm.MethodName)) ∈ lw_all := lw_g (lw_at lw_m9 194 rfl) rfl
theorem q2265 : (Jvm.Cond.privateMethod ({ cls := "CoarserOrdersModel", name := "comes", desc := "(JI)I" } : Jvm.MethodName)) ∈ lw_tbl := lw_at lw_m9 195 rfl
theorem q2266 : (Jvm.Cond.instanceMethod ({ cls := "CoarserOrdersModel", name := "comes", desc := "(JI)I" } : Jvm.MethodName)) ∈ lw_all := lw_g (lw_at lw_m9 196 rfl) rfl
theorem q2267 : (Jvm.Cond.code ({ cls := "CoarserOrdersModel", name := "comes", desc := "(JI)I" } : Jvm.MethodName) prog_32_method_50_code (6 : Nat) (Option.some Jvm.ClassFile.FieldType.int)) ∈ lw_all := lw_g (lw_at lw_m9 197 rfl) rfl
theorem q2268 : (Jvm.Cond.methodLink "CoarserOrdersModel" (215 : Nat) ({ cls := "CoarserOrdersModel", name := "closedBy", desc := "(J)J" } : Jvm.MethodName)) ∈ lw_all := lw_g (lw_at lw_m9 198 rfl) rfl
theorem q2269 : (Jvm.Cond.privateMethod ({ cls := "CoarserOrdersModel", name := "closedBy", desc := "(J)J" } : Jvm.MethodName)) ∈ lw_tbl := lw_at lw_m9 199 rfl
theorem q2270 : (Jvm.Cond.instanceMethod ({ cls := "CoarserOrdersModel", name := "closedBy", desc := "(J)J" } : Jvm.MethodName)) ∈ lw_all := lw_g (lw_at lw_m9 200 rfl) rfl
theorem q2271 : (Jvm.Cond.code ({ cls := "CoarserOrdersModel", name := "closedBy", desc := "(J)J" } : Jvm.MethodName) prog_32_method_34_code (6 : Nat) (Option.some Jvm.ClassFile.FieldType.long)) ∈ lw_all := lw_g (lw_at lw_m9 201 rfl) rfl
theorem q2273 : (Jvm.Cond.instanceMethod ({ cls := "CoarserOrdersModel", name := "feed", desc := "(JI)I" } : Jvm.MethodName)) ∈ lw_all := lw_g (lw_at lw_m9 203 rfl) rfl
theorem q2274 : (Jvm.Cond.selects "CoarserOrdersModel" ({ cls := "CoarserOrdersModel", name := "feed", desc := "(JI)I" } : Jvm.MethodName) ({ cls := "CoarserOrdersModel", name := "feed", desc := "(JI)I" } : Jvm.MethodName)) ∈ lw_all := lw_g (lw_at lw_m9 204 rfl) rfl
theorem q2275 : (Jvm.Cond.code ({ cls := "CoarserOrdersModel", name := "feed", desc := "(JI)I" } : Jvm.MethodName) prog_32_method_54_code (5 : Nat) (Option.some Jvm.ClassFile.FieldType.int)) ∈ lw_all := lw_g (lw_at lw_m9 205 rfl) rfl
theorem q2276 : (Jvm.Cond.constantLong "CoarserOrdersModel" (236 : Nat) (8 : Int64)) ∈ lw_all := lw_g (lw_at lw_m9 206 rfl) rfl
theorem q2277 : (Jvm.Cond.constantLong "CoarserOrdersModel" (241 : Nat) (255 : Int64)) ∈ lw_all := lw_g (lw_at lw_m9 207 rfl) rfl
theorem q2279 : (Jvm.Cond.instanceMethod ({ cls := "CoarserOrdersModel", name := "text", desc := "(I)I" } : Jvm.MethodName)) ∈ lw_all := lw_g (lw_at lw_m9 209 rfl) rfl
theorem q2280 : (Jvm.Cond.selects "CoarserOrdersModel" ({ cls := "CoarserOrdersModel", name := "text", desc := "(I)I" } : Jvm.MethodName) ({ cls := "CoarserOrdersModel", name := "text", desc := "(I)I" } : Jvm.MethodName)) ∈ lw_all := lw_g (lw_at lw_m9 210 rfl) rfl
theorem q2281 : (Jvm.Cond.code ({ cls := "CoarserOrdersModel", name := "text", desc := "(I)I" } : Jvm.MethodName) prog_32_method_69_code (5 : Nat) (Option.some Jvm.ClassFile.FieldType.int)) ∈ lw_all := lw_g (lw_at lw_m9 211 rfl) rfl
theorem q2282 : (Jvm.Cond.methodLink "CoarserOrdersModel" (267 : Nat) ({ cls := "CoarserOrdersModel", name := "next", desc := "()V" } : Jvm.MethodName)) ∈ lw_all := lw_g (lw_at lw_m9 212 rfl) rfl
theorem q2283 : (Jvm.Cond.privateMethod ({ cls := "CoarserOrdersModel", name := "next", desc := "()V" } : Jvm.MethodName)) ∈ lw_tbl := lw_at lw_m9 213 rfl
theorem q2284 : (Jvm.Cond.instanceMethod ({ cls := "CoarserOrdersModel", name := "next", desc := "()V" } : Jvm.MethodName)) ∈ lw_all := lw_g (lw_at lw_m9 214 rfl) rfl
theorem q2285 : (Jvm.Cond.code ({ cls := "CoarserOrdersModel", name := "next", desc := "()V" } : Jvm.MethodName) prog_32_method_57_code (3 : Nat) (Option.none : Option Jvm.ClassFile.FieldType)) ∈ lw_all := lw_g (lw_at lw_m9 215 rfl) rfl
theorem q2286 : (Jvm.Cond.methodLink "CoarserOrdersModel" (249 : Nat) ({ cls := "CoarserOrdersModel", name := "isLetter", desc := "(I)Z" } : Jvm.MethodName)) ∈ lw_all := lw_g (lw_at lw_m9 216 rfl) rfl
theorem q2287 : (Jvm.Cond.static ({ cls := "CoarserOrdersModel", name := "isLetter", desc := "(I)Z" } : Jvm.MethodName)) ∈ lw_all := lw_g (lw_at lw_m9 217 rfl) rfl
theorem q2288 : (Jvm.Cond.code ({ cls := "CoarserOrdersModel", name := "isLetter", desc := "(I)Z" } : Jvm.MethodName) prog_32_method_56_code (1 : Nat) (Option.some Jvm.ClassFile.FieldType.boolean)) ∈ lw_all := lw_g (lw_at lw_m9 218 rfl) rfl
theorem q2289 : (Jvm.Cond.methodLink "CoarserOrdersModel" (252 : Nat) ({ cls := "CoarserOrdersModel", name := "isDigit", desc := "(I)Z" } : Jvm.MethodName)) ∈ lw_all := lw_g (lw_at lw_m9 219 rfl) rfl
theorem q2290 : (Jvm.Cond.static ({ cls := "CoarserOrdersModel", name := "isDigit", desc := "(I)Z" } : Jvm.MethodName)) ∈ lw_all := lw_g (lw_at lw_m9 220 rfl) rfl
theorem q2291 : (Jvm.Cond.code ({ cls := "CoarserOrdersModel", name := "isDigit", desc := "(I)Z" } : Jvm.MethodName) prog_32_method_55_code (1 : Nat) (Option.some Jvm.ClassFile.FieldType.boolean)) ∈ lw_all := lw_g (lw_at lw_m9 221 rfl) rfl
theorem q2292 : (Jvm.Cond.methodLink "CoarserOrdersModel" (309 : Nat) ({ cls := "CoarserOrdersModel", name := "cond", desc := "()V" } : Jvm.MethodName)) ∈ lw_all := lw_g (lw_at lw_m9 222 rfl) rfl
theorem q2293 : (Jvm.Cond.privateMethod ({ cls := "CoarserOrdersModel", name := "cond", desc := "()V" } : Jvm.MethodName)) ∈ lw_tbl := lw_at lw_m9 223 rfl
theorem q2294 : (Jvm.Cond.instanceMethod ({ cls := "CoarserOrdersModel", name := "cond", desc := "()V" } : Jvm.MethodName)) ∈ lw_all := lw_g (lw_at lw_m9 224 rfl) rfl
theorem q2295 : (Jvm.Cond.code ({ cls := "CoarserOrdersModel", name := "cond", desc := "()V" } : Jvm.MethodName) prog_32_method_65_code (1 : Nat) (Option.none : Option Jvm.ClassFile.FieldType)) ∈ lw_all := lw_g (lw_at lw_m9 225 rfl) rfl
theorem q2296 : (Jvm.Cond.methodLink "CoarserOrdersModel" (322 : Nat) ({ cls := "CoarserOrdersModel", name := "all", desc := "()V" } : Jvm.MethodName)) ∈ lw_all := lw_g (lw_at lw_m9 226 rfl) rfl
theorem q2297 : (Jvm.Cond.privateMethod ({ cls := "CoarserOrdersModel", name := "all", desc := "()V" } : Jvm.MethodName)) ∈ lw_tbl := lw_at lw_m9 227 rfl
theorem q2298 : (Jvm.Cond.instanceMethod ({ cls := "CoarserOrdersModel", name := "all", desc := "()V" } : Jvm.MethodName)) ∈ lw_all := lw_g (lw_at lw_m9 228 rfl) rfl
theorem q2299 : (Jvm.Cond.code ({ cls := "CoarserOrdersModel", name := "all", desc := "()V" } : Jvm.MethodName) prog_32_method_64_code (1 : Nat) (Option.none : Option Jvm.ClassFile.FieldType)) ∈ lw_all := lw_g (lw_at lw_m9 229 rfl) rfl
theorem q2300 : (Jvm.Cond.methodLink "CoarserOrdersModel" (317 : Nat) ({ cls := "CoarserOrdersModel", name := "one", desc := "()V" } : Jvm.MethodName)) ∈ lw_all := lw_g (lw_at lw_m9 230 rfl) rfl
theorem q2301 : (Jvm.Cond.privateMethod ({ cls := "CoarserOrdersModel", name := "one", desc := "()V" } : Jvm.MethodName)) ∈ lw_tbl := lw_at lw_m9 231 rfl
theorem q2302 : (Jvm.Cond.instanceMethod ({ cls := "CoarserOrdersModel", name := "one", desc := "()V" } : Jvm.MethodName)) ∈ lw_all := lw_g (lw_at lw_m9 232 rfl) rfl
theorem q2303 : (Jvm.Cond.code ({ cls := "CoarserOrdersModel", name := "one", desc := "()V" } : Jvm.MethodName) prog_32_method_63_code (3 : Nat) (Option.none : Option Jvm.ClassFile.FieldType)) ∈ lw_all := lw_g (lw_at lw_m9 233 rfl) rfl
theorem q2304 : (Jvm.Cond.stringRef "CoarserOrdersModel" (302 : Nat) "not") ∈ lw_tbl := lw_at lw_m9 234 rfl
theorem q2305 : (Jvm.Cond.methodLink "CoarserOrdersModel" (271 : Nat) ({ cls := "CoarserOrdersModel", name := "is", desc := "(Ljava/lang/String;)Z" } : Jvm.MethodName)) ∈ lw_all := lw_g (lw_at lw_m9 235 rfl) rfl
theorem q2306 : (Jvm.Cond.privateMethod ({ cls := "CoarserOrdersModel", name := "is", desc := "(Ljava/lang/String;)Z" } : Jvm.MethodName)) ∈ lw_tbl := lw_at lw_m9 236 rfl
theorem q2307 : (Jvm.Cond.instanceMethod ({ cls := "CoarserOrdersModel", name := "is", desc := "(Ljava/lang/String;)Z" } : Jvm.MethodName)) ∈ lw_all := lw_g (lw_at lw_m9 237 rfl) rfl
theorem q2308 : (Jvm.Cond.code ({ cls := "CoarserOrdersModel", name := "is", desc := "(Ljava/lang/String;)Z" } : Jvm.MethodName) prog_32_method_58_code (4 : Nat) (Option.some Jvm.ClassFile.FieldType.boolean)) ∈ lw_all := lw_g (lw_at lw_m9 238 rfl) rfl
theorem q2309 : (Jvm.Cond.methodLink "CoarserOrdersModel" (255 : Nat) ({ cls := "java/lang/String", name := "length", desc := "()I" } : Jvm.MethodName)) ∈ lw_all := lw_g (lw_at lw_m9 239 rfl) rfl
theorem q2310 : (Jvm.Cond.methodLink "CoarserOrdersModel" (260 : Nat) ({ cls := "java/lang/String", name := "charAt", desc := "(I)C" } : Jvm.MethodName)) ∈ lw_all := lw_g (lw_at lw_m10 0 rfl) rfl
theorem q2311 : (Jvm.Cond.stringRef "CoarserOrdersModel" (304 : Nat) "(") ∈ lw_tbl := lw_at lw_m10 1 rfl
theorem q2312 : (Jvm.Cond.stringRef "CoarserOrdersModel" (312 : Nat) ")") ∈ lw_tbl := lw_at lw_m10 2 rfl
theorem q2313 : (Jvm.Cond.methodLink "CoarserOrdersModel" (314 : Nat) ({ cls := "CoarserOrdersModel", name := "compared", desc := "()V" } : Jvm.MethodName)) ∈ lw_all := lw_g (lw_at lw_m10 3 rfl) rfl
theorem q2314 : (Jvm.Cond.privateMethod ({ cls := "CoarserOrdersModel", name := "compared", desc := "()V" } : Jvm.MethodName)) ∈ lw_tbl := lw_at lw_m10 4 rfl
theorem q2315 : (Jvm.Cond.instanceMethod ({ cls := "CoarserOrdersModel", name := "compared", desc := "()V" } : Jvm.MethodName)) ∈ lw_all := lw_g (lw_at lw_m10 5 rfl) rfl
theorem q2316 : (Jvm.Cond.code ({ cls := "CoarserOrdersModel", name := "compared", desc := "()V" } : Jvm.MethodName) prog_32_method_62_code (2 : Nat) (Option.none : Option Jvm.ClassFile.FieldType)) ∈ lw_all := lw_g (lw_at lw_m10 6 rfl) rfl
theorem q2317 : (Jvm.Cond.methodLink "CoarserOrdersModel" (293 : Nat) ({ cls := "CoarserOrdersModel", name := "value", desc := "()V" } : Jvm.MethodName)) ∈ lw_all := lw_g (lw_at lw_m10 7 rfl) rfl
theorem q2318 : (Jvm.Cond.privateMethod ({ cls := "CoarserOrdersModel", name := "value", desc := "()V" } : Jvm.MethodName)) ∈ lw_tbl := lw_at lw_m10 8 rfl
theorem q2319 : (Jvm.Cond.instanceMethod ({ cls := "CoarserOrdersModel", name := "value", desc := "()V" } : Jvm.MethodName)) ∈ lw_all := lw_g (lw_at lw_m10 9 rfl) rfl
theorem q2320 : (Jvm.Cond.code ({ cls := "CoarserOrdersModel", name := "value", desc := "()V" } : Jvm.MethodName) prog_32_method_61_code (3 : Nat) (Option.none : Option Jvm.ClassFile.FieldType)) ∈ lw_all := lw_g (lw_at lw_m10 10 rfl) rfl
theorem q2321 : (Jvm.Cond.methodLink "CoarserOrdersModel" (282 : Nat) ({ cls := "CoarserOrdersModel", name := "factHere", desc := "()I" } : Jvm.MethodName)) ∈ lw_all := lw_g (lw_at lw_m10 11 rfl) rfl
theorem q2322 : (Jvm.Cond.privateMethod ({ cls := "CoarserOrdersModel", name := "factHere", desc := "()I" } : Jvm.MethodName)) ∈ lw_tbl := lw_at lw_m10 12 rfl
theorem q2323 : (Jvm.Cond.instanceMethod ({ cls := "CoarserOrdersModel", name := "factHere", desc := "()I" } : Jvm.MethodName)) ∈ lw_all := lw_g (lw_at lw_m10 13 rfl) rfl
theorem q2324 : (Jvm.Cond.code ({ cls := "CoarserOrdersModel", name := "factHere", desc := "()I" } : Jvm.MethodName) prog_32_method_60_code (1 : Nat) (Option.some Jvm.ClassFile.FieldType.int)) ∈ lw_all := lw_g (lw_at lw_m10 14 rfl) rfl
theorem q2325 : (Jvm.Cond.stringRef "CoarserOrdersModel" (270 : Nat) "low") ∈ lw_tbl := lw_at lw_m10 15 rfl
theorem q2326 : (Jvm.Cond.stringRef "CoarserOrdersModel" (275 : Nat) "high") ∈ lw_tbl := lw_at lw_m10 16 rfl
theorem q2327 : (Jvm.Cond.stringRef "CoarserOrdersModel" (276 : Nat) "left") ∈ lw_tbl := lw_at lw_m10 17 rfl
theorem q2328 : (Jvm.Cond.stringRef "CoarserOrdersModel" (278 : Nat) "right") ∈ lw_tbl := lw_at lw_m10 18 rfl
theorem q2329 : (Jvm.Cond.stringRef "CoarserOrdersModel" (280 : Nat) "last") ∈ lw_tbl := lw_at lw_m10 19 rfl
theorem q2330 : (Jvm.Cond.methodLink "CoarserOrdersModel" (285 : Nat) ({ cls := "CoarserOrdersModel", name := "emits", desc := "(I)V" } : Jvm.MethodName)) ∈ lw_all := lw_g (lw_at lw_m10 20 rfl) rfl
theorem q2331 : (Jvm.Cond.privateMethod ({ cls := "CoarserOrdersModel", name := "emits", desc := "(I)V" } : Jvm.MethodName)) ∈ lw_tbl := lw_at lw_m10 21 rfl
theorem q2332 : (Jvm.Cond.instanceMethod ({ cls := "CoarserOrdersModel", name := "emits", desc := "(I)V" } : Jvm.MethodName)) ∈ lw_all := lw_g (lw_at lw_m10 22 rfl) rfl
theorem q2333 : (Jvm.Cond.code ({ cls := "CoarserOrdersModel", name := "emits", desc := "(I)V" } : Jvm.MethodName) prog_32_method_59_code (2 : Nat) (Option.none : Option Jvm.ClassFile.FieldType)) ∈ lw_all := lw_g (lw_at lw_m10 23 rfl) rfl
theorem q2334 : (Jvm.Cond.stringRef "CoarserOrdersModel" (296 : Nat) "<") ∈ lw_tbl := lw_at lw_m10 24 rfl
theorem q2335 : (Jvm.Cond.stringRef "CoarserOrdersModel" (298 : Nat) "=") ∈ lw_tbl := lw_at lw_m10 25 rfl
theorem q2336 : (Jvm.Cond.stringRef "CoarserOrdersModel" (300 : Nat) ">") ∈ lw_tbl := lw_at lw_m10 26 rfl
theorem q2337 : (Jvm.Cond.stringRef "CoarserOrdersModel" (320 : Nat) "and") ∈ lw_tbl := lw_at lw_m10 27 rfl
theorem q2338 : (Jvm.Cond.stringRef "CoarserOrdersModel" (325 : Nat) "or") ∈ lw_tbl := lw_at lw_m10 28 rfl
theorem q2339 : (Jvm.Cond.methodLink "CoarserOrdersModel" (333 : Nat) ({ cls := "CoarserOrdersModel", name := "holds", desc := "(I)Z" } : Jvm.MethodName)) ∈ lw_all := lw_g (lw_at lw_m10 29 rfl) rfl
theorem q2340 : (Jvm.Cond.privateMethod ({ cls := "CoarserOrdersModel", name := "holds", desc := "(I)Z" } : Jvm.MethodName)) ∈ lw_tbl := lw_at lw_m10 30 rfl
theorem q2341 : (Jvm.Cond.instanceMethod ({ cls := "CoarserOrdersModel", name := "holds", desc := "(I)Z" } : Jvm.MethodName)) ∈ lw_all := lw_g (lw_at lw_m10 31 rfl) rfl
theorem q2342 : (Jvm.Cond.code ({ cls := "CoarserOrdersModel", name := "holds", desc := "(I)Z" } : Jvm.MethodName) prog_32_method_68_code (4 : Nat) (Option.some Jvm.ClassFile.FieldType.boolean)) ∈ lw_all := lw_g (lw_at lw_m10 32 rfl) rfl
theorem q2343 : (Jvm.Cond.methodLink "CoarserOrdersModel" (327 : Nat) ({ cls := "CoarserOrdersModel", name := "fact", desc := "(II)I" } : Jvm.MethodName)) ∈ lw_all := lw_g (lw_at lw_m10 33 rfl) rfl
theorem q2344 : (Jvm.Cond.privateMethod ({ cls := "CoarserOrdersModel", name := "fact", desc := "(II)I" } : Jvm.MethodName)) ∈ lw_tbl := lw_at lw_m10 34 rfl
theorem q2345 : (Jvm.Cond.instanceMethod ({ cls := "CoarserOrdersModel", name := "fact", desc := "(II)I" } : Jvm.MethodName)) ∈ lw_all := lw_g (lw_at lw_m10 35 rfl) rfl
theorem q2346 : (Jvm.Cond.code ({ cls := "CoarserOrdersModel", name := "fact", desc := "(II)I" } : Jvm.MethodName) prog_32_method_66_code (4 : Nat) (Option.some Jvm.ClassFile.FieldType.int)) ∈ lw_all := lw_g (lw_at lw_m10 36 rfl) rfl
theorem q2347 : (Jvm.Cond.methodLink "CoarserOrdersModel" (330 : Nat) ({ cls := "CoarserOrdersModel", name := "isSo", desc := "(III)Z" } : Jvm.MethodName)) ∈ lw_all := lw_g (lw_at lw_m10 37 rfl) rfl
theorem q2348 : (Jvm.Cond.static ({ cls := "CoarserOrdersModel", name := "isSo", desc := "(III)Z" } : Jvm.MethodName)) ∈ lw_all := lw_g (lw_at lw_m10 38 rfl) rfl
theorem q2349 : (Jvm.Cond.code ({ cls := "CoarserOrdersModel", name := "isSo", desc := "(III)Z" } : Jvm.MethodName) prog_32_method_67_code (3 : Nat) (Option.some Jvm.ClassFile.FieldType.boolean)) ∈ lw_all := lw_g (lw_at lw_m10 39 rfl) rfl
theorem q2351 : (Jvm.Cond.instanceMethod ({ cls := "CoarserOrdersModel", name := "clear", desc := "()I" } : Jvm.MethodName)) ∈ lw_all := lw_g (lw_at lw_m10 41 rfl) rfl
theorem q2352 : (Jvm.Cond.selects "CoarserOrdersModel" ({ cls := "CoarserOrdersModel", name := "clear", desc := "()I" } : Jvm.MethodName) ({ cls := "CoarserOrdersModel", name := "clear", desc := "()I" } : Jvm.MethodName)) ∈ lw_all := lw_g (lw_at lw_m10 42 rfl) rfl
theorem q2353 : (Jvm.Cond.code ({ cls := "CoarserOrdersModel", name := "clear", desc := "()I" } : Jvm.MethodName) prog_32_method_70_code (2 : Nat) (Option.some Jvm.ClassFile.FieldType.int)) ∈ lw_all := lw_g (lw_at lw_m10 43 rfl) rfl
theorem q2355 : (Jvm.Cond.instanceMethod ({ cls := "CoarserOrdersModel", name := "alike", desc := "(II)I" } : Jvm.MethodName)) ∈ lw_all := lw_g (lw_at lw_m10 45 rfl) rfl
theorem q2356 : (Jvm.Cond.selects "CoarserOrdersModel" ({ cls := "CoarserOrdersModel", name := "alike", desc := "(II)I" } : Jvm.MethodName) ({ cls := "CoarserOrdersModel", name := "alike", desc := "(II)I" } : Jvm.MethodName)) ∈ lw_all := lw_g (lw_at lw_m10 46 rfl) rfl
theorem q2357 : (Jvm.Cond.code ({ cls := "CoarserOrdersModel", name := "alike", desc := "(II)I" } : Jvm.MethodName) prog_32_method_77_code (3 : Nat) (Option.some Jvm.ClassFile.FieldType.int)) ∈ lw_all := lw_g (lw_at lw_m10 47 rfl) rfl
theorem q2358 : (Jvm.Cond.methodLink "CoarserOrdersModel" (343 : Nat) ({ cls := "CoarserOrdersModel", name := "leastOf", desc := "(I)I" } : Jvm.MethodName)) ∈ lw_all := lw_g (lw_at lw_m10 48 rfl) rfl
theorem q2359 : (Jvm.Cond.privateMethod ({ cls := "CoarserOrdersModel", name := "leastOf", desc := "(I)I" } : Jvm.MethodName)) ∈ lw_tbl := lw_at lw_m10 49 rfl
theorem q2360 : (Jvm.Cond.instanceMethod ({ cls := "CoarserOrdersModel", name := "leastOf", desc := "(I)I" } : Jvm.MethodName)) ∈ lw_all := lw_g (lw_at lw_m10 50 rfl) rfl
theorem q2361 : (Jvm.Cond.code ({ cls := "CoarserOrdersModel", name := "leastOf", desc := "(I)I" } : Jvm.MethodName) prog_32_method_73_code (2 : Nat) (Option.some Jvm.ClassFile.FieldType.int)) ∈ lw_all := lw_g (lw_at lw_m10 51 rfl) rfl
theorem q2362 : (Jvm.Cond.methodLink "CoarserOrdersModel" (340 : Nat) ({ cls := "CoarserOrdersModel", name := "goes", desc := "(IZJ)I" } : Jvm.MethodName)) ∈ lw_all := lw_g (lw_at lw_m10 52 rfl) rfl
theorem q2363 : (Jvm.Cond.privateMethod ({ cls := "CoarserOrdersModel", name := "goes", desc := "(IZJ)I" } : Jvm.MethodName)) ∈ lw_tbl := lw_at lw_m10 53 rfl
theorem q2364 : (Jvm.Cond.instanceMethod ({ cls := "CoarserOrdersModel", name := "goes", desc := "(IZJ)I" } : Jvm.MethodName)) ∈ lw_all := lw_g (lw_at lw_m10 54 rfl) rfl
theorem q2365 : (Jvm.Cond.code ({ cls := "CoarserOrdersModel", name := "goes", desc := "(IZJ)I" } : Jvm.MethodName) prog_32_method_72_code (7 : Nat) (Option.some Jvm.ClassFile.FieldType.int)) ∈ lw_all := lw_g (lw_at lw_m10 55 rfl) rfl
theorem q2366 : (Jvm.Cond.methodLink "CoarserOrdersModel" (336 : Nat) ({ cls := "CoarserOrdersModel", name := "placeIn", desc := "(IZJ)I" } : Jvm.MethodName)) ∈ lw_all := lw_g (lw_at lw_m10 56 rfl) rfl
theorem q2367 : (Jvm.Cond.privateMethod ({ cls := "CoarserOrdersModel", name := "placeIn", desc := "(IZJ)I" } : Jvm.MethodName)) ∈ lw_tbl := lw_at lw_m10 57 rfl
theorem q2368 : (Jvm.Cond.instanceMethod ({ cls := "CoarserOrdersModel", name := "placeIn", desc := "(IZJ)I" } : Jvm.MethodName)) ∈ lw_all := lw_g (lw_at lw_m10 58 rfl) rfl
theorem q2369 : (Jvm.Cond.code ({ cls := "CoarserOrdersModel", name := "placeIn", desc := "(IZJ)I" } : Jvm.MethodName) prog_32_method_71_code (6 : Nat) (Option.some Jvm.ClassFile.FieldType.int)) ∈ lw_all := lw_g (lw_at lw_m10 59 rfl) rfl
theorem q2370 : (Jvm.Cond.methodLink "CoarserOrdersModel" (346 : Nat) ({ cls := "CoarserOrdersModel", name := "greatestOf", desc := "(I)I" } : Jvm.MethodName)) ∈ lw_all := lw_g (lw_at lw_m10 60 rfl) rfl
theorem q2371 : (Jvm.Cond.privateMethod ({ cls := "CoarserOrdersModel", name := "greatestOf", desc := "(I)I" } : Jvm.MethodName)) ∈ lw_tbl := lw_at lw_m10 61 rfl
theorem q2372 : (Jvm.Cond.instanceMethod ({ cls := "CoarserOrdersModel", name := "greatestOf", desc := "(I)I" } : Jvm.MethodName)) ∈ lw_all := lw_g (lw_at lw_m10 62 rfl) rfl
theorem q2373 : (Jvm.Cond.code ({ cls := "CoarserOrdersModel", name := "greatestOf", desc := "(I)I" } : Jvm.MethodName) prog_32_method_74_code (2 : Nat) (Option.some Jvm.ClassFile.FieldType.int)) ∈ lw_all := lw_g (lw_at lw_m10 63 rfl) rfl
theorem q2374 : (Jvm.Cond.methodLink "CoarserOrdersModel" (349 : Nat) ({ cls := "CoarserOrdersModel", name := "manyAlike", desc := "(I)I" } : Jvm.MethodName)) ∈ lw_all := lw_g (lw_at lw_m10 64 rfl) rfl
theorem q2375 : (Jvm.Cond.privateMethod ({ cls := "CoarserOrdersModel", name := "manyAlike", desc := "(I)I" } : Jvm.MethodName)) ∈ lw_tbl := lw_at lw_m10 65 rfl
theorem q2376 : (Jvm.Cond.instanceMethod ({ cls := "CoarserOrdersModel", name := "manyAlike", desc := "(I)I" } : Jvm.MethodName)) ∈ lw_all := lw_g (lw_at lw_m10 66 rfl) rfl
theorem q2377 : (Jvm.Cond.code ({ cls := "CoarserOrdersModel", name := "manyAlike", desc := "(I)I" } : Jvm.MethodName) prog_32_method_76_code (5 : Nat) (Option.some Jvm.ClassFile.FieldType.int)) ∈ lw_all := lw_g (lw_at lw_m10 67 rfl) rfl
theorem q2379 : (Jvm.Cond.instanceMethod ({ cls := "CoarserOrdersModel", name := "classAt", desc := "(I)I" } : Jvm.MethodName)) ∈ lw_all := lw_g (lw_at lw_m10 69 rfl) rfl
theorem q2380 : (Jvm.Cond.selects "CoarserOrdersModel" ({ cls := "CoarserOrdersModel", name := "classAt", desc := "(I)I" } : Jvm.MethodName) ({ cls := "CoarserOrdersModel", name := "classAt", desc := "(I)I" } : Jvm.MethodName)) ∈ lw_all := lw_g (lw_at lw_m10 70 rfl) rfl
theorem q2381 : (Jvm.Cond.code ({ cls := "CoarserOrdersModel", name := "classAt", desc := "(I)I" } : Jvm.MethodName) prog_32_method_78_code (5 : Nat) (Option.some Jvm.ClassFile.FieldType.int)) ∈ lw_all := lw_g (lw_at lw_m10 71 rfl) rfl
theorem q2382 : (Jvm.Cond.methodLink "CoarserOrdersModel" (352 : Nat) ({ cls := "CoarserOrdersModel", name := "isLeast", desc := "(I)Z" } : Jvm.MethodName)) ∈ lw_all := lw_g (lw_at lw_m10 72 rfl) rfl
theorem q2383 : (Jvm.Cond.privateMethod ({ cls := "CoarserOrdersModel", name := "isLeast", desc := "(I)Z" } : Jvm.MethodName)) ∈ lw_tbl := lw_at lw_m10 73 rfl
theorem q2384 : (Jvm.Cond.instanceMethod ({ cls := "CoarserOrdersModel", name := "isLeast", desc := "(I)Z" } : Jvm.MethodName)) ∈ lw_all := lw_g (lw_at lw_m10 74 rfl) rfl
theorem q2385 : (Jvm.Cond.code ({ cls := "CoarserOrdersModel", name := "isLeast", desc := "(I)Z" } : Jvm.MethodName) prog_32_method_75_code (2 : Nat) (Option.some Jvm.ClassFile.FieldType.boolean)) ∈ lw_all := lw_g (lw_at lw_m10 75 rfl) rfl
theorem q2387 : (Jvm.Cond.instanceMethod ({ cls := "CoarserOrdersModel", name := "classes", desc := "(III)I" } : Jvm.MethodName)) ∈ lw_all := lw_g (lw_at lw_m10 77 rfl) rfl
theorem q2388 : (Jvm.Cond.selects "CoarserOrdersModel" ({ cls := "CoarserOrdersModel", name := "classes", desc := "(III)I" } : Jvm.MethodName) ({ cls := "CoarserOrdersModel", name := "classes", desc := "(III)I" } : Jvm.MethodName)) ∈ lw_all := lw_g (lw_at lw_m10 78 rfl) rfl
theorem q2389 : (Jvm.Cond.code ({ cls := "CoarserOrdersModel", name := "classes", desc := "(III)I" } : Jvm.MethodName) prog_32_method_79_code (6 : Nat) (Option.some Jvm.ClassFile.FieldType.int)) ∈ lw_all := lw_g (lw_at lw_m10 79 rfl) rfl
theorem q2391 : (Jvm.Cond.instanceMethod ({ cls := "CoarserOrdersModel", name := "rotations", desc := "(II)I" } : Jvm.MethodName)) ∈ lw_all := lw_g (lw_at lw_m10 81 rfl) rfl
theorem q2392 : (Jvm.Cond.selects "CoarserOrdersModel" ({ cls := "CoarserOrdersModel", name := "rotations", desc := "(II)I" } : Jvm.MethodName) ({ cls := "CoarserOrdersModel", name := "rotations", desc := "(II)I" } : Jvm.MethodName)) ∈ lw_all := lw_g (lw_at lw_m10 82 rfl) rfl
theorem q2393 : (Jvm.Cond.code ({ cls := "CoarserOrdersModel", name := "rotations", desc := "(II)I" } : Jvm.MethodName) prog_32_method_81_code (3 : Nat) (Option.some Jvm.ClassFile.FieldType.int)) ∈ lw_all := lw_g (lw_at lw_m10 83 rfl) rfl
theorem q2394 : (Jvm.Cond.methodLink "CoarserOrdersModel" (355 : Nat) ({ cls := "CoarserOrdersModel", name := "turnsTo", desc := "(II)I" } : Jvm.MethodName)) ∈ lw_all := lw_g (lw_at lw_m10 84 rfl) rfl
theorem q2395 : (Jvm.Cond.privateMethod ({ cls := "CoarserOrdersModel", name := "turnsTo", desc := "(II)I" } : Jvm.MethodName)) ∈ lw_tbl := lw_at lw_m10 85 rfl
theorem q2396 : (Jvm.Cond.instanceMethod ({ cls := "CoarserOrdersModel", name := "turnsTo", desc := "(II)I" } : Jvm.MethodName)) ∈ lw_all := lw_g (lw_at lw_m10 86 rfl) rfl
theorem q2397 : (Jvm.Cond.code ({ cls := "CoarserOrdersModel", name := "turnsTo", desc := "(II)I" } : Jvm.MethodName) prog_32_method_80_code (8 : Nat) (Option.some Jvm.ClassFile.FieldType.int)) ∈ lw_all := lw_g (lw_at lw_m10 87 rfl) rfl
theorem q2399 : (Jvm.Cond.instanceMethod ({ cls := "CoarserOrdersModel", name := "rotate", desc := "(III)I" } : Jvm.MethodName)) ∈ lw_all := lw_g (lw_at lw_m10 89 rfl) rfl
theorem q2400 : (Jvm.Cond.selects "CoarserOrdersModel" ({ cls := "CoarserOrdersModel", name := "rotate", desc := "(III)I" } : Jvm.MethodName) ({ cls := "CoarserOrdersModel", name := "rotate", desc := "(III)I" } : Jvm.MethodName)) ∈ lw_all := lw_g (lw_at lw_m10 90 rfl) rfl
theorem q2401 : (Jvm.Cond.code ({ cls := "CoarserOrdersModel", name := "rotate", desc := "(III)I" } : Jvm.MethodName) prog_32_method_82_code (4 : Nat) (Option.some Jvm.ClassFile.FieldType.int)) ∈ lw_all := lw_g (lw_at lw_m10 91 rfl) rfl
theorem q2403 : (Jvm.Cond.instanceMethod ({ cls := "CoarserOrdersModel", name := "apart", desc := "(II)I" } : Jvm.MethodName)) ∈ lw_all := lw_g (lw_at lw_m10 93 rfl) rfl
theorem q2404 : (Jvm.Cond.selects "CoarserOrdersModel" ({ cls := "CoarserOrdersModel", name := "apart", desc := "(II)I" } : Jvm.MethodName) ({ cls := "CoarserOrdersModel", name := "apart", desc := "(II)I" } : Jvm.MethodName)) ∈ lw_all := lw_g (lw_at lw_m10 94 rfl) rfl
theorem q2405 : (Jvm.Cond.code ({ cls := "CoarserOrdersModel", name := "apart", desc := "(II)I" } : Jvm.MethodName) prog_32_method_85_code (3 : Nat) (Option.some Jvm.ClassFile.FieldType.int)) ∈ lw_all := lw_g (lw_at lw_m10 95 rfl) rfl
theorem q2406 : (Jvm.Cond.methodLink "CoarserOrdersModel" (361 : Nat) ({ cls := "CoarserOrdersModel", name := "apartOf", desc := "(II)I" } : Jvm.MethodName)) ∈ lw_all := lw_g (lw_at lw_m10 96 rfl) rfl
theorem q2407 : (Jvm.Cond.privateMethod ({ cls := "CoarserOrdersModel", name := "apartOf", desc := "(II)I" } : Jvm.MethodName)) ∈ lw_tbl := lw_at lw_m10 97 rfl
theorem q2408 : (Jvm.Cond.instanceMethod ({ cls := "CoarserOrdersModel", name := "apartOf", desc := "(II)I" } : Jvm.MethodName)) ∈ lw_all := lw_g (lw_at lw_m10 98 rfl) rfl
theorem q2409 : (Jvm.Cond.code ({ cls := "CoarserOrdersModel", name := "apartOf", desc := "(II)I" } : Jvm.MethodName) prog_32_method_84_code (8 : Nat) (Option.some Jvm.ClassFile.FieldType.int)) ∈ lw_all := lw_g (lw_at lw_m10 99 rfl) rfl
theorem q2410 : (Jvm.Cond.methodLink "CoarserOrdersModel" (358 : Nat) ({ cls := "CoarserOrdersModel", name := "begins", desc := "()V" } : Jvm.MethodName)) ∈ lw_all := lw_g (lw_at lw_m10 100 rfl) rfl
theorem q2411 : (Jvm.Cond.privateMethod ({ cls := "CoarserOrdersModel", name := "begins", desc := "()V" } : Jvm.MethodName)) ∈ lw_tbl := lw_at lw_m10 101 rfl
theorem q2412 : (Jvm.Cond.instanceMethod ({ cls := "CoarserOrdersModel", name := "begins", desc := "()V" } : Jvm.MethodName)) ∈ lw_all := lw_g (lw_at lw_m10 102 rfl) rfl
theorem q2413 : (Jvm.Cond.code ({ cls := "CoarserOrdersModel", name := "begins", desc := "()V" } : Jvm.MethodName) prog_32_method_83_code (2 : Nat) (Option.none : Option Jvm.ClassFile.FieldType)) ∈ lw_all := lw_g (lw_at lw_m10 103 rfl) rfl
theorem q2415 : (Jvm.Cond.instanceMethod ({ cls := "CoarserOrdersModel", name := "wayUp", desc := "(I)I" } : Jvm.MethodName)) ∈ lw_all := lw_g (lw_at lw_m10 105 rfl) rfl
theorem q2416 : (Jvm.Cond.selects "CoarserOrdersModel" ({ cls := "CoarserOrdersModel", name := "wayUp", desc := "(I)I" } : Jvm.MethodName) ({ cls := "CoarserOrdersModel", name := "wayUp", desc := "(I)I" } : Jvm.MethodName)) ∈ lw_all := lw_g (lw_at lw_m10 106 rfl) rfl
theorem q2417 : (Jvm.Cond.code ({ cls := "CoarserOrdersModel", name := "wayUp", desc := "(I)I" } : Jvm.MethodName) prog_32_method_87_code (3 : Nat) (Option.some Jvm.ClassFile.FieldType.int)) ∈ lw_all := lw_g (lw_at lw_m10 107 rfl) rfl
theorem q2418 : (Jvm.Cond.methodLink "CoarserOrdersModel" (364 : Nat) ({ cls := "CoarserOrdersModel", name := "climbs", desc := "()V" } : Jvm.MethodName)) ∈ lw_all := lw_g (lw_at lw_m10 108 rfl) rfl
theorem q2419 : (Jvm.Cond.privateMethod ({ cls := "CoarserOrdersModel", name := "climbs", desc := "()V" } : Jvm.MethodName)) ∈ lw_tbl := lw_at lw_m10 109 rfl
theorem q2420 : (Jvm.Cond.instanceMethod ({ cls := "CoarserOrdersModel", name := "climbs", desc := "()V" } : Jvm.MethodName)) ∈ lw_all := lw_g (lw_at lw_m10 110 rfl) rfl
theorem q2421 : (Jvm.Cond.code ({ cls := "CoarserOrdersModel", name := "climbs", desc := "()V" } : Jvm.MethodName) prog_32_method_86_code (7 : Nat) (Option.none : Option Jvm.ClassFile.FieldType)) ∈ lw_all := lw_g (lw_at lw_m10 111 rfl) rfl
theorem q2423 : (Jvm.Cond.instanceMethod ({ cls := "CoarserOrdersModel", name := "listed", desc := "(I)I" } : Jvm.MethodName)) ∈ lw_all := lw_g (lw_at lw_m10 113 rfl) rfl
theorem q2424 : (Jvm.Cond.selects "CoarserOrdersModel" ({ cls := "CoarserOrdersModel", name := "listed", desc := "(I)I" } : Jvm.MethodName) ({ cls := "CoarserOrdersModel", name := "listed", desc := "(I)I" } : Jvm.MethodName)) ∈ lw_all := lw_g (lw_at lw_m10 114 rfl) rfl
theorem q2425 : (Jvm.Cond.code ({ cls := "CoarserOrdersModel", name := "listed", desc := "(I)I" } : Jvm.MethodName) prog_32_method_90_code (4 : Nat) (Option.some Jvm.ClassFile.FieldType.int)) ∈ lw_all := lw_g (lw_at lw_m10 115 rfl) rfl
theorem q2426 : (Jvm.Cond.methodLink "CoarserOrdersModel" (370 : Nat) ({ cls := "CoarserOrdersModel", name := "nextBehind", desc := "(I)I" } : Jvm.MethodName)) ∈ lw_all := lw_g (lw_at lw_m10 116 rfl) rfl
theorem q2427 : (Jvm.Cond.privateMethod ({ cls := "CoarserOrdersModel", name := "nextBehind", desc := "(I)I" } : Jvm.MethodName)) ∈ lw_tbl := lw_at lw_m10 117 rfl
theorem q2428 : (Jvm.Cond.instanceMethod ({ cls := "CoarserOrdersModel", name := "nextBehind", desc := "(I)I" } : Jvm.MethodName)) ∈ lw_all := lw_g (lw_at lw_m10 118 rfl) rfl
theorem q2429 : (Jvm.Cond.code ({ cls := "CoarserOrdersModel", name := "nextBehind", desc := "(I)I" } : Jvm.MethodName) prog_32_method_89_code (5 : Nat) (Option.some Jvm.ClassFile.FieldType.int)) ∈ lw_all := lw_g (lw_at lw_m10 119 rfl) rfl
theorem q2430 : (Jvm.Cond.methodLink "CoarserOrdersModel" (367 : Nat) ({ cls := "CoarserOrdersModel", name := "nearest", desc := "(III)I" } : Jvm.MethodName)) ∈ lw_all := lw_g (lw_at lw_m10 120 rfl) rfl
theorem q2431 : (Jvm.Cond.privateMethod ({ cls := "CoarserOrdersModel", name := "nearest", desc := "(III)I" } : Jvm.MethodName)) ∈ lw_tbl := lw_at lw_m10 121 rfl
theorem q2432 : (Jvm.Cond.instanceMethod ({ cls := "CoarserOrdersModel", name := "nearest", desc := "(III)I" } : Jvm.MethodName)) ∈ lw_all := lw_g (lw_at lw_m10 122 rfl) rfl
theorem q2433 : (Jvm.Cond.code ({ cls := "CoarserOrdersModel", name := "nearest", desc := "(III)I" } : Jvm.MethodName) prog_32_method_88_code (6 : Nat) (Option.some Jvm.ClassFile.FieldType.int)) ∈ lw_all := lw_g (lw_at lw_m10 123 rfl) rfl
theorem q2435 : (Jvm.Cond.instanceMethod ({ cls := "CoarserOrdersModel", name := "closed", desc := "(I)I" } : Jvm.MethodName)) ∈ lw_all := lw_g (lw_at lw_m10 125 rfl) rfl
theorem q2436 : (Jvm.Cond.selects "CoarserOrdersModel" ({ cls := "CoarserOrdersModel", name := "closed", desc := "(I)I" } : Jvm.MethodName) ({ cls := "CoarserOrdersModel", name := "closed", desc := "(I)I" } : Jvm.MethodName)) ∈ lw_all := lw_g (lw_at lw_m10 126 rfl) rfl
theorem q2437 : (Jvm.Cond.code ({ cls := "CoarserOrdersModel", name := "closed", desc := "(I)I" } : Jvm.MethodName) prog_32_method_92_code (2 : Nat) (Option.some Jvm.ClassFile.FieldType.int)) ∈ lw_all := lw_g (lw_at lw_m10 127 rfl) rfl
theorem q2438 : (Jvm.Cond.methodLink "CoarserOrdersModel" (373 : Nat) ({ cls := "CoarserOrdersModel", name := "closedFrom", desc := "(IJJ)I" } : Jvm.MethodName)) ∈ lw_all := lw_g (lw_at lw_m10 128 rfl) rfl
theorem q2439 : (Jvm.Cond.privateMethod ({ cls := "CoarserOrdersModel", name := "closedFrom", desc := "(IJJ)I" } : Jvm.MethodName)) ∈ lw_tbl := lw_at lw_m10 129 rfl
theorem q2440 : (Jvm.Cond.instanceMethod ({ cls := "CoarserOrdersModel", name := "closedFrom", desc := "(IJJ)I" } : Jvm.MethodName)) ∈ lw_all := lw_g (lw_at lw_m10 130 rfl) rfl
theorem q2441 : (Jvm.Cond.code ({ cls := "CoarserOrdersModel", name := "closedFrom", desc := "(IJJ)I" } : Jvm.MethodName) prog_32_method_91_code (6 : Nat) (Option.some Jvm.ClassFile.FieldType.int)) ∈ lw_all := lw_g (lw_at lw_m10 131 rfl) rfl
theorem q2443 : (Jvm.Cond.instanceMethod ({ cls := "CoarserOrdersModel", name := "whatIs", desc := "(II)I" } : Jvm.MethodName)) ∈ lw_all := lw_g (lw_at lw_m10 133 rfl) rfl
theorem q2444 : (Jvm.Cond.selects "CoarserOrdersModel" ({ cls := "CoarserOrdersModel", name := "whatIs", desc := "(II)I" } : Jvm.MethodName) ({ cls := "CoarserOrdersModel", name := "whatIs", desc := "(II)I" } : Jvm.MethodName)) ∈ lw_all := lw_g (lw_at lw_m10 134 rfl) rfl
theorem q2445 : (Jvm.Cond.code ({ cls := "CoarserOrdersModel", name := "whatIs", desc := "(II)I" } : Jvm.MethodName) prog_32_method_95_code (6 : Nat) (Option.some Jvm.ClassFile.FieldType.int)) ∈ lw_all := lw_g (lw_at lw_m10 135 rfl) rfl
theorem q2446 : (Jvm.Cond.methodLink "CoarserOrdersModel" (377 : Nat) ({ cls := "CoarserOrdersModel", name := "isSheet", desc := "(I)Z" } : Jvm.MethodName)) ∈ lw_all := lw_g (lw_at lw_m10 136 rfl) rfl
theorem q2447 : (Jvm.Cond.static ({ cls := "CoarserOrdersModel", name := "isSheet", desc := "(I)Z" } : Jvm.MethodName)) ∈ lw_all := lw_g (lw_at lw_m10 137 rfl) rfl
theorem q2448 : (Jvm.Cond.code ({ cls := "CoarserOrdersModel", name := "isSheet", desc := "(I)Z" } : Jvm.MethodName) prog_32_method_105_code (1 : Nat) (Option.some Jvm.ClassFile.FieldType.boolean)) ∈ lw_all := lw_g (lw_at lw_m10 138 rfl) rfl
theorem q2449 : (Jvm.Cond.methodLink "CoarserOrdersModel" (380 : Nat) ({ cls := "CoarserOrdersModel", name := "areThrees", desc := "(I)Z" } : Jvm.MethodName)) ∈ lw_all := lw_g (lw_at lw_m10 139 rfl) rfl
theorem q2450 : (Jvm.Cond.privateMethod ({ cls := "CoarserOrdersModel", name := "areThrees", desc := "(I)Z" } : Jvm.MethodName)) ∈ lw_tbl := lw_at lw_m10 140 rfl
theorem q2451 : (Jvm.Cond.instanceMethod ({ cls := "CoarserOrdersModel", name := "areThrees", desc := "(I)Z" } : Jvm.MethodName)) ∈ lw_all := lw_g (lw_at lw_m10 141 rfl) rfl
theorem q2452 : (Jvm.Cond.code ({ cls := "CoarserOrdersModel", name := "areThrees", desc := "(I)Z" } : Jvm.MethodName) prog_32_method_93_code (4 : Nat) (Option.some Jvm.ClassFile.FieldType.boolean)) ∈ lw_all := lw_g (lw_at lw_m10 142 rfl) rfl
theorem q2453 : (Jvm.Cond.methodLink "CoarserOrdersModel" (383 : Nat) ({ cls := "CoarserOrdersModel", name := "fits", desc := "(IJ)Z" } : Jvm.MethodName)) ∈ lw_all := lw_g (lw_at lw_m10 143 rfl) rfl
theorem q2454 : (Jvm.Cond.privateMethod ({ cls := "CoarserOrdersModel", name := "fits", desc := "(IJ)Z" } : Jvm.MethodName)) ∈ lw_tbl := lw_at lw_m10 144 rfl
theorem q2455 : (Jvm.Cond.instanceMethod ({ cls := "CoarserOrdersModel", name := "fits", desc := "(IJ)Z" } : Jvm.MethodName)) ∈ lw_all := lw_g (lw_at lw_m10 145 rfl) rfl
theorem q2456 : (Jvm.Cond.code ({ cls := "CoarserOrdersModel", name := "fits", desc := "(IJ)Z" } : Jvm.MethodName) prog_32_method_94_code (7 : Nat) (Option.some Jvm.ClassFile.FieldType.boolean)) ∈ lw_all := lw_g (lw_at lw_m10 146 rfl) rfl
theorem q2458 : (Jvm.Cond.instanceMethod ({ cls := "CoarserOrdersModel", name := "seed", desc := "(I)I" } : Jvm.MethodName)) ∈ lw_all := lw_g (lw_at lw_m10 148 rfl) rfl
theorem q2459 : (Jvm.Cond.selects "CoarserOrdersModel" ({ cls := "CoarserOrdersModel", name := "seed", desc := "(I)I" } : Jvm.MethodName) ({ cls := "CoarserOrdersModel", name := "seed", desc := "(I)I" } : Jvm.MethodName)) ∈ lw_all := lw_g (lw_at lw_m10 149 rfl) rfl
theorem q2460 : (Jvm.Cond.code ({ cls := "CoarserOrdersModel", name := "seed", desc := "(I)I" } : Jvm.MethodName) prog_32_method_96_code (3 : Nat) (Option.some Jvm.ClassFile.FieldType.int)) ∈ lw_all := lw_g (lw_at lw_m10 150 rfl) rfl
theorem q2462 : (Jvm.Cond.instanceMethod ({ cls := "CoarserOrdersModel", name := "drawn", desc := "(I)I" } : Jvm.MethodName)) ∈ lw_all := lw_g (lw_at lw_m10 152 rfl) rfl
theorem q2463 : (Jvm.Cond.selects "CoarserOrdersModel" ({ cls := "CoarserOrdersModel", name := "drawn", desc := "(I)I" } : Jvm.MethodName) ({ cls := "CoarserOrdersModel", name := "drawn", desc := "(I)I" } : Jvm.MethodName)) ∈ lw_all := lw_g (lw_at lw_m10 153 rfl) rfl
theorem q2464 : (Jvm.Cond.code ({ cls := "CoarserOrdersModel", name := "drawn", desc := "(I)I" } : Jvm.MethodName) prog_32_method_98_code (4 : Nat) (Option.some Jvm.ClassFile.FieldType.int)) ∈ lw_all := lw_g (lw_at lw_m10 154 rfl) rfl
theorem q2465 : (Jvm.Cond.constantLong "CoarserOrdersModel" (388 : Nat) (60 : Int64)) ∈ lw_all := lw_g (lw_at lw_m10 155 rfl) rfl
theorem q2466 : (Jvm.Cond.methodLink "CoarserOrdersModel" (390 : Nat) ({ cls := "CoarserOrdersModel", name := "rowByLot", desc := "()I" } : Jvm.MethodName)) ∈ lw_all := lw_g (lw_at lw_m10 156 rfl) rfl
theorem q2467 : (Jvm.Cond.privateMethod ({ cls := "CoarserOrdersModel", name := "rowByLot", desc := "()I" } : Jvm.MethodName)) ∈ lw_tbl := lw_at lw_m10 157 rfl
theorem q2468 : (Jvm.Cond.instanceMethod ({ cls := "CoarserOrdersModel", name := "rowByLot", desc := "()I" } : Jvm.MethodName)) ∈ lw_all := lw_g (lw_at lw_m10 158 rfl) rfl
theorem q2469 : (Jvm.Cond.code ({ cls := "CoarserOrdersModel", name := "rowByLot", desc := "()I" } : Jvm.MethodName) prog_32_method_97_code (4 : Nat) (Option.some Jvm.ClassFile.FieldType.int)) ∈ lw_all := lw_g (lw_at lw_m10 159 rfl) rfl
theorem q2470 : (Jvm.Cond.constant "CoarserOrdersModel" (387 : Nat) (1103515245 : Int32)) ∈ lw_all := lw_g (lw_at lw_m10 160 rfl) rfl
theorem q2472 : (Jvm.Cond.instanceMethod ({ cls := "CoarserOrdersModel", name := "prove", desc := "(I)I" } : Jvm.MethodName)) ∈ lw_all := lw_g (lw_at lw_m10 162 rfl) rfl
theorem q2473 : (Jvm.Cond.selects "CoarserOrdersModel" ({ cls := "CoarserOrdersModel", name := "prove", desc := "(I)I" } : Jvm.MethodName) ({ cls := "CoarserOrdersModel", name := "prove", desc := "(I)I" } : Jvm.MethodName)) ∈ lw_all := lw_g (lw_at lw_m10 163 rfl) rfl
theorem q2474 : (Jvm.Cond.code ({ cls := "CoarserOrdersModel", name := "prove", desc := "(I)I" } : Jvm.MethodName) prog_32_method_99_code (4 : Nat) (Option.some Jvm.ClassFile.FieldType.int)) ∈ lw_all := lw_g (lw_at lw_m10 164 rfl) rfl
theorem q2476 : (Jvm.Cond.instanceMethod ({ cls := "CoarserOrdersModel", name := "step", desc := "(II)I" } : Jvm.MethodName)) ∈ lw_all := lw_g (lw_at lw_m10 166 rfl) rfl
theorem q2477 : (Jvm.Cond.selects "CoarserOrdersModel" ({ cls := "CoarserOrdersModel", name := "step", desc := "(II)I" } : Jvm.MethodName) ({ cls := "CoarserOrdersModel", name := "step", desc := "(II)I" } : Jvm.MethodName)) ∈ lw_all := lw_g (lw_at lw_m10 167 rfl) rfl
theorem q2478 : (Jvm.Cond.code ({ cls := "CoarserOrdersModel", name := "step", desc := "(II)I" } : Jvm.MethodName) prog_32_method_101_code (3 : Nat) (Option.some Jvm.ClassFile.FieldType.int)) ∈ lw_all := lw_g (lw_at lw_m10 168 rfl) rfl
theorem q2479 : (Jvm.Cond.methodLink "CoarserOrdersModel" (396 : Nat) ({ cls := "CoarserOrdersModel", name := "isStep", desc := "(II)Z" } : Jvm.MethodName)) ∈ lw_all := lw_g (lw_at lw_m10 169 rfl) rfl
theorem q2480 : (Jvm.Cond.privateMethod ({ cls := "CoarserOrdersModel", name := "isStep", desc := "(II)Z" } : Jvm.MethodName)) ∈ lw_tbl := lw_at lw_m10 170 rfl
theorem q2481 : (Jvm.Cond.instanceMethod ({ cls := "CoarserOrdersModel", name := "isStep", desc := "(II)Z" } : Jvm.MethodName)) ∈ lw_all := lw_g (lw_at lw_m10 171 rfl) rfl
theorem q2482 : (Jvm.Cond.code ({ cls := "CoarserOrdersModel", name := "isStep", desc := "(II)Z" } : Jvm.MethodName) prog_32_method_100_code (3 : Nat) (Option.some Jvm.ClassFile.FieldType.boolean)) ∈ lw_all := lw_g (lw_at lw_m10 172 rfl) rfl
theorem q2484 : (Jvm.Cond.instanceMethod ({ cls := "CoarserOrdersModel", name := "alterStep", desc := "(III)I" } : Jvm.MethodName)) ∈ lw_all := lw_g (lw_at lw_m10 174 rfl) rfl
theorem q2485 : (Jvm.Cond.selects "CoarserOrdersModel" ({ cls := "CoarserOrdersModel", name := "alterStep", desc := "(III)I" } : Jvm.MethodName) ({ cls := "CoarserOrdersModel", name := "alterStep", desc := "(III)I" } : Jvm.MethodName)) ∈ lw_all := lw_g (lw_at lw_m10 175 rfl) rfl
theorem q2486 : (Jvm.Cond.code ({ cls := "CoarserOrdersModel", name := "alterStep", desc := "(III)I" } : Jvm.MethodName) prog_32_method_102_code (5 : Nat) (Option.some Jvm.ClassFile.FieldType.int)) ∈ lw_all := lw_g (lw_at lw_m10 176 rfl) rfl
theorem q2488 : (Jvm.Cond.instanceMethod ({ cls := "CoarserOrdersModel", name := "judge", desc := "(I)I" } : Jvm.MethodName)) ∈ lw_all := lw_g (lw_at lw_m10 178 rfl) rfl
theorem q2489 : (Jvm.Cond.selects "CoarserOrdersModel" ({ cls := "CoarserOrdersModel", name := "judge", desc := "(I)I" } : Jvm.MethodName) ({ cls := "CoarserOrdersModel", name := "judge", desc := "(I)I" } : Jvm.MethodName)) ∈ lw_all := lw_g (lw_at lw_m10 179 rfl) rfl
theorem q2490 : (Jvm.Cond.code ({ cls := "CoarserOrdersModel", name := "judge", desc := "(I)I" } : Jvm.MethodName) prog_32_method_104_code (4 : Nat) (Option.some Jvm.ClassFile.FieldType.int)) ∈ lw_all := lw_g (lw_at lw_m10 180 rfl) rfl
theorem q2491 : (Jvm.Cond.methodLink "CoarserOrdersModel" (399 : Nat) ({ cls := "CoarserOrdersModel", name := "isRight", desc := "(II)Z" } : Jvm.MethodName)) ∈ lw_all := lw_g (lw_at lw_m10 181 rfl) rfl
theorem q2492 : (Jvm.Cond.privateMethod ({ cls := "CoarserOrdersModel", name := "isRight", desc := "(II)Z" } : Jvm.MethodName)) ∈ lw_tbl := lw_at lw_m10 182 rfl
theorem q2493 : (Jvm.Cond.instanceMethod ({ cls := "CoarserOrdersModel", name := "isRight", desc := "(II)Z" } : Jvm.MethodName)) ∈ lw_all := lw_g (lw_at lw_m10 183 rfl) rfl
theorem q2494 : (Jvm.Cond.code ({ cls := "CoarserOrdersModel", name := "isRight", desc := "(II)Z" } : Jvm.MethodName) prog_32_method_103_code (4 : Nat) (Option.some Jvm.ClassFile.FieldType.boolean)) ∈ lw_all := lw_g (lw_at lw_m10 184 rfl) rfl
theorem q2496 : (Jvm.Cond.instanceMethod ({ cls := "CoarserOrdersModel", name := "sheet", desc := "(III)I" } : Jvm.MethodName)) ∈ lw_all := lw_g (lw_at lw_m10 186 rfl) rfl
theorem q2497 : (Jvm.Cond.selects "CoarserOrdersModel" ({ cls := "CoarserOrdersModel", name := "sheet", desc := "(III)I" } : Jvm.MethodName) ({ cls := "CoarserOrdersModel", name := "sheet", desc := "(III)I" } : Jvm.MethodName)) ∈ lw_all := lw_g (lw_at lw_m10 187 rfl) rfl
theorem q2498 : (Jvm.Cond.code ({ cls := "CoarserOrdersModel", name := "sheet", desc := "(III)I" } : Jvm.MethodName) prog_32_method_106_code (5 : Nat) (Option.some Jvm.ClassFile.FieldType.int)) ∈ lw_all := lw_g (lw_at lw_m10 188 rfl) rfl
theorem q2500 : (Jvm.Cond.instanceMethod ({ cls := "CoarserOrdersModel", name := "put", desc := "(IIJ)I" } : Jvm.MethodName)) ∈ lw_all := lw_g (lw_at lw_m10 190 rfl) rfl
theorem q2501 : (Jvm.Cond.selects "CoarserOrdersModel" ({ cls := "CoarserOrdersModel", name := "put", desc := "(IIJ)I" } : Jvm.MethodName) ({ cls := "CoarserOrdersModel", name := "put", desc := "(IIJ)I" } : Jvm.MethodName)) ∈ lw_all := lw_g (lw_at lw_m10 191 rfl) rfl
theorem q2502 : (Jvm.Cond.code ({ cls := "CoarserOrdersModel", name := "put", desc := "(IIJ)I" } : Jvm.MethodName) prog_32_method_108_code (5 : Nat) (Option.some Jvm.ClassFile.FieldType.int)) ∈ lw_all := lw_g (lw_at lw_m10 192 rfl) rfl
theorem q2503 : (Jvm.Cond.methodLink "CoarserOrdersModel" (402 : Nat) ({ cls := "CoarserOrdersModel", name := "narrowed", desc := "(IJ)J" } : Jvm.MethodName)) ∈ lw_all := lw_g (lw_at lw_m10 193 rfl) rfl
theorem q2504 : (Jvm.Cond.static ({ cls := "CoarserOrdersModel", name := "narrowed", desc := "(IJ)J" } : Jvm.MethodName)) ∈ lw_all := lw_g (lw_at lw_m10 194 rfl) rfl
theorem q2505 : (Jvm.Cond.code ({ cls := "CoarserOrdersModel", name := "narrowed", desc := "(IJ)J" } : Jvm.MethodName) prog_32_method_107_code (3 : Nat) (Option.some Jvm.ClassFile.FieldType.long)) ∈ lw_all := lw_g (lw_at lw_m10 195 rfl) rfl
theorem q2507 : (Jvm.Cond.instanceMethod ({ cls := "CoarserOrdersModel", name := "item", desc := "(III)I" } : Jvm.MethodName)) ∈ lw_all := lw_g (lw_at lw_m10 197 rfl) rfl
theorem q2508 : (Jvm.Cond.selects "CoarserOrdersModel" ({ cls := "CoarserOrdersModel", name := "item", desc := "(III)I" } : Jvm.MethodName) ({ cls := "CoarserOrdersModel", name := "item", desc := "(III)I" } : Jvm.MethodName)) ∈ lw_all := lw_g (lw_at lw_m10 198 rfl) rfl
theorem q2509 : (Jvm.Cond.code ({ cls := "CoarserOrdersModel", name := "item", desc := "(III)I" } : Jvm.MethodName) prog_32_method_109_code (4 : Nat) (Option.some Jvm.ClassFile.FieldType.int)) ∈ lw_all := lw_g (lw_at lw_m10 199 rfl) rfl
theorem q2511 : (Jvm.Cond.instanceMethod ({ cls := "CoarserOrdersModel", name := "move", desc := "(IIIII)I" } : Jvm.MethodName)) ∈ lw_all := lw_g (lw_at lw_m10 201 rfl) rfl
theorem q2512 : (Jvm.Cond.selects "CoarserOrdersModel" ({ cls := "CoarserOrdersModel", name := "move", desc := "(IIIII)I" } : Jvm.MethodName) ({ cls := "CoarserOrdersModel", name := "move", desc := "(IIIII)I" } : Jvm.MethodName)) ∈ lw_all := lw_g (lw_at lw_m10 202 rfl) rfl
theorem q2513 : (Jvm.Cond.code ({ cls := "CoarserOrdersModel", name := "move", desc := "(IIIII)I" } : Jvm.MethodName) prog_32_method_110_code (7 : Nat) (Option.some Jvm.ClassFile.FieldType.int)) ∈ lw_all := lw_g (lw_at lw_m10 203 rfl) rfl
theorem q2515 : (Jvm.Cond.instanceMethod ({ cls := "CoarserOrdersModel", name := "rowFrom", desc := "(II)I" } : Jvm.MethodName)) ∈ lw_all := lw_g (lw_at lw_m10 205 rfl) rfl
theorem q2516 : (Jvm.Cond.selects "CoarserOrdersModel" ({ cls := "CoarserOrdersModel", name := "rowFrom", desc := "(II)I" } : Jvm.MethodName) ({ cls := "CoarserOrdersModel", name := "rowFrom", desc := "(II)I" } : Jvm.MethodName)) ∈ lw_all := lw_g (lw_at lw_m10 206 rfl) rfl
theorem q2517 : (Jvm.Cond.code ({ cls := "CoarserOrdersModel", name := "rowFrom", desc := "(II)I" } : Jvm.MethodName) prog_32_method_111_code (7 : Nat) (Option.some Jvm.ClassFile.FieldType.int)) ∈ lw_all := lw_g (lw_at lw_m10 207 rfl) rfl
theorem q2519 : (Jvm.Cond.instanceMethod ({ cls := "CoarserOrdersModel", name := "shelf", desc := "(III)I" } : Jvm.MethodName)) ∈ lw_all := lw_g (lw_at lw_m10 209 rfl) rfl
theorem q2520 : (Jvm.Cond.selects "CoarserOrdersModel" ({ cls := "CoarserOrdersModel", name := "shelf", desc := "(III)I" } : Jvm.MethodName) ({ cls := "CoarserOrdersModel", name := "shelf", desc := "(III)I" } : Jvm.MethodName)) ∈ lw_all := lw_g (lw_at lw_m10 210 rfl) rfl
theorem q2521 : (Jvm.Cond.code ({ cls := "CoarserOrdersModel", name := "shelf", desc := "(III)I" } : Jvm.MethodName) prog_32_method_113_code (4 : Nat) (Option.some Jvm.ClassFile.FieldType.int)) ∈ lw_all := lw_g (lw_at lw_m10 211 rfl) rfl
theorem q2522 : (Jvm.Cond.methodLink "CoarserOrdersModel" (406 : Nat) ({ cls := "CoarserOrdersModel", name := "isShelf", desc := "(I)Z" } : Jvm.MethodName)) ∈ lw_all := lw_g (lw_at lw_m10 212 rfl) rfl
theorem q2523 : (Jvm.Cond.static ({ cls := "CoarserOrdersModel", name := "isShelf", desc := "(I)Z" } : Jvm.MethodName)) ∈ lw_all := lw_g (lw_at lw_m10 213 rfl) rfl
theorem q2524 : (Jvm.Cond.code ({ cls := "CoarserOrdersModel", name := "isShelf", desc := "(I)Z" } : Jvm.MethodName) prog_32_method_112_code (1 : Nat) (Option.some Jvm.ClassFile.FieldType.boolean)) ∈ lw_all := lw_g (lw_at lw_m10 214 rfl) rfl
theorem q2526 : (Jvm.Cond.instanceMethod ({ cls := "CoarserOrdersModel", name := "taken", desc := "(II)I" } : Jvm.MethodName)) ∈ lw_all := lw_g (lw_at lw_m10 216 rfl) rfl
theorem q2527 : (Jvm.Cond.selects "CoarserOrdersModel" ({ cls := "CoarserOrdersModel", name := "taken", desc := "(II)I" } : Jvm.MethodName) ({ cls := "CoarserOrdersModel", name := "taken", desc := "(II)I" } : Jvm.MethodName)) ∈ lw_all := lw_g (lw_at lw_m10 217 rfl) rfl
theorem q2528 : (Jvm.Cond.code ({ cls := "CoarserOrdersModel", name := "taken", desc := "(II)I" } : Jvm.MethodName) prog_32_method_115_code (4 : Nat) (Option.some Jvm.ClassFile.FieldType.int)) ∈ lw_all := lw_g (lw_at lw_m10 218 rfl) rfl
theorem q2529 : (Jvm.Cond.constantLong "CoarserOrdersModel" (409 : Nat) (10 : Int64)) ∈ lw_all := lw_g (lw_at lw_m10 219 rfl) rfl
theorem q2530 : (Jvm.Cond.constantLong "CoarserOrdersModel" (411 : Nat) (13 : Int64)) ∈ lw_all := lw_g (lw_at lw_m10 220 rfl) rfl
theorem q2531 : (Jvm.Cond.methodLink "CoarserOrdersModel" (413 : Nat) ({ cls := "CoarserOrdersModel", name := "heldBy", desc := "(I)I" } : Jvm.MethodName)) ∈ lw_all := lw_g (lw_at lw_m10 221 rfl) rfl
theorem q2532 : (Jvm.Cond.privateMethod ({ cls := "CoarserOrdersModel", name := "heldBy", desc := "(I)I" } : Jvm.MethodName)) ∈ lw_tbl := lw_at lw_m10 222 rfl
theorem q2533 : (Jvm.Cond.instanceMethod ({ cls := "CoarserOrdersModel", name := "heldBy", desc := "(I)I" } : Jvm.MethodName)) ∈ lw_all := lw_g (lw_at lw_m10 223 rfl) rfl
theorem q2534 : (Jvm.Cond.code ({ cls := "CoarserOrdersModel", name := "heldBy", desc := "(I)I" } : Jvm.MethodName) prog_32_method_114_code (2 : Nat) (Option.some Jvm.ClassFile.FieldType.int)) ∈ lw_all := lw_g (lw_at lw_m10 224 rfl) rfl
theorem q2535 : (Jvm.Cond.methodLink "CoarserOrdersModel" (416 : Nat) ({ cls := "CoarserOrdersModel", name := "isUnder", desc := "(II)Z" } : Jvm.MethodName)) ∈ lw_all := lw_g (lw_at lw_m10 225 rfl) rfl
theorem q2536 : (Jvm.Cond.static ({ cls := "CoarserOrdersModel", name := "isUnder", desc := "(II)Z" } : Jvm.MethodName)) ∈ lw_all := lw_g (lw_at lw_m10 226 rfl) rfl
theorem q2537 : (Jvm.Cond.code ({ cls := "CoarserOrdersModel", name := "isUnder", desc := "(II)Z" } : Jvm.MethodName) prog_32_method_45_code (2 : Nat) (Option.some Jvm.ClassFile.FieldType.boolean)) ∈ lw_all := lw_g (lw_at lw_m10 227 rfl) rfl
theorem q2539 : (Jvm.Cond.instanceMethod ({ cls := "CoarserOrdersModel", name := "act", desc := "(III)I" } : Jvm.MethodName)) ∈ lw_all := lw_g (lw_at lw_m10 229 rfl) rfl
theorem q2540 : (Jvm.Cond.selects "CoarserOrdersModel" ({ cls := "CoarserOrdersModel", name := "act", desc := "(III)I" } : Jvm.MethodName) ({ cls := "CoarserOrdersModel", name := "act", desc := "(III)I" } : Jvm.MethodName)) ∈ lw_all := lw_g (lw_at lw_m10 230 rfl) rfl
theorem q2541 : (Jvm.Cond.code ({ cls := "CoarserOrdersModel", name := "act", desc := "(III)I" } : Jvm.MethodName) prog_32_method_127_code (5 : Nat) (Option.some Jvm.ClassFile.FieldType.int)) ∈ lw_all := lw_g (lw_at lw_m10 231 rfl) rfl
theorem q2542 : (Jvm.Cond.methodLink "CoarserOrdersModel" (437 : Nat) ({ cls := "CoarserOrdersModel", name := "turns", desc := "(I)I" } : Jvm.MethodName)) ∈ lw_all := lw_g (lw_at lw_m10 232 rfl) rfl
theorem q2543 : (Jvm.Cond.privateMethod ({ cls := "CoarserOrdersModel", name := "turns", desc := "(I)I" } : Jvm.MethodName)) ∈ lw_tbl := lw_at lw_m10 233 rfl
theorem q2544 : (Jvm.Cond.instanceMethod ({ cls := "CoarserOrdersModel", name := "turns", desc := "(I)I" } : Jvm.MethodName)) ∈ lw_all := lw_g (lw_at lw_m10 234 rfl) rfl
theorem q2545 : (Jvm.Cond.code ({ cls := "CoarserOrdersModel", name := "turns", desc := "(I)I" } : Jvm.MethodName) prog_32_method_119_code (2 : Nat) (Option.some Jvm.ClassFile.FieldType.int)) ∈ lw_all := lw_g (lw_at lw_m10 235 rfl) rfl
theorem q2546 : (Jvm.Cond.methodLink "CoarserOrdersModel" (422 : Nat) ({ cls := "CoarserOrdersModel", name := "ran", desc := "(I)V" } : Jvm.MethodName)) ∈ lw_all := lw_g (lw_at lw_m10 236 rfl) rfl
theorem q2547 : (Jvm.Cond.privateMethod ({ cls := "CoarserOrdersModel", name := "ran", desc := "(I)V" } : Jvm.MethodName)) ∈ lw_tbl := lw_at lw_m10 237 rfl
theorem q2548 : (Jvm.Cond.instanceMethod ({ cls := "CoarserOrdersModel", name := "ran", desc := "(I)V" } : Jvm.MethodName)) ∈ lw_all := lw_g (lw_at lw_m10 238 rfl) rfl
theorem q2549 : (Jvm.Cond.code ({ cls := "CoarserOrdersModel", name := "ran", desc := "(I)V" } : Jvm.MethodName) prog_32_method_116_code (2 : Nat) (Option.none : Option Jvm.ClassFile.FieldType)) ∈ lw_all := lw_g (lw_at lw_m10 239 rfl) rfl
theorem q2550 : (Jvm.Cond.methodLink "CoarserOrdersModel" (434 : Nat) ({ cls := "CoarserOrdersModel", name := "leftyTurns", desc := "(I)I" } : Jvm.MethodName)) ∈ lw_all := lw_g (lw_at lw_m11 0 rfl) rfl
theorem q2551 : (Jvm.Cond.privateMethod ({ cls := "CoarserOrdersModel", name := "leftyTurns", desc := "(I)I" } : Jvm.MethodName)) ∈ lw_tbl := lw_at lw_m11 1 rfl
theorem q2552 : (Jvm.Cond.instanceMethod ({ cls := "CoarserOrdersModel", name := "leftyTurns", desc := "(I)I" } : Jvm.MethodName)) ∈ lw_all := lw_g (lw_at lw_m11 2 rfl) rfl
theorem q2553 : (Jvm.Cond.code ({ cls := "CoarserOrdersModel", name := "leftyTurns", desc := "(I)I" } : Jvm.MethodName) prog_32_method_118_code (2 : Nat) (Option.some Jvm.ClassFile.FieldType.int)) ∈ lw_all := lw_g (lw_at lw_m11 3 rfl) rfl
theorem q2554 : (Jvm.Cond.methodLink "CoarserOrdersModel" (428 : Nat) ({ cls := "CoarserOrdersModel", name := "plainTurns", desc := "(I)I" } : Jvm.MethodName)) ∈ lw_all := lw_g (lw_at lw_m11 4 rfl) rfl
theorem q2555 : (Jvm.Cond.privateMethod ({ cls := "CoarserOrdersModel", name := "plainTurns", desc := "(I)I" } : Jvm.MethodName)) ∈ lw_tbl := lw_at lw_m11 5 rfl
theorem q2556 : (Jvm.Cond.instanceMethod ({ cls := "CoarserOrdersModel", name := "plainTurns", desc := "(I)I" } : Jvm.MethodName)) ∈ lw_all := lw_g (lw_at lw_m11 6 rfl) rfl
theorem q2557 : (Jvm.Cond.code ({ cls := "CoarserOrdersModel", name := "plainTurns", desc := "(I)I" } : Jvm.MethodName) prog_32_method_117_code (2 : Nat) (Option.some Jvm.ClassFile.FieldType.int)) ∈ lw_all := lw_g (lw_at lw_m11 7 rfl) rfl
theorem q2558 : (Jvm.Cond.methodLink "CoarserOrdersModel" (455 : Nat) ({ cls := "CoarserOrdersModel", name := "bends", desc := "(I)I" } : Jvm.MethodName)) ∈ lw_all := lw_g (lw_at lw_m11 8 rfl) rfl
theorem q2559 : (Jvm.Cond.privateMethod ({ cls := "CoarserOrdersModel", name := "bends", desc := "(I)I" } : Jvm.MethodName)) ∈ lw_tbl := lw_at lw_m11 9 rfl
theorem q2560 : (Jvm.Cond.instanceMethod ({ cls := "CoarserOrdersModel", name := "bends", desc := "(I)I" } : Jvm.MethodName)) ∈ lw_all := lw_g (lw_at lw_m11 10 rfl) rfl
theorem q2561 : (Jvm.Cond.code ({ cls := "CoarserOrdersModel", name := "bends", desc := "(I)I" } : Jvm.MethodName) prog_32_method_121_code (2 : Nat) (Option.some Jvm.ClassFile.FieldType.int)) ∈ lw_all := lw_g (lw_at lw_m11 11 rfl) rfl
theorem q2562 : (Jvm.Cond.methodLink "CoarserOrdersModel" (443 : Nat) ({ cls := "CoarserOrdersModel", name := "plainBends", desc := "(I)I" } : Jvm.MethodName)) ∈ lw_all := lw_g (lw_at lw_m11 12 rfl) rfl
theorem q2563 : (Jvm.Cond.privateMethod ({ cls := "CoarserOrdersModel", name := "plainBends", desc := "(I)I" } : Jvm.MethodName)) ∈ lw_tbl := lw_at lw_m11 13 rfl
theorem q2564 : (Jvm.Cond.instanceMethod ({ cls := "CoarserOrdersModel", name := "plainBends", desc := "(I)I" } : Jvm.MethodName)) ∈ lw_all := lw_g (lw_at lw_m11 14 rfl) rfl
theorem q2565 : (Jvm.Cond.code ({ cls := "CoarserOrdersModel", name := "plainBends", desc := "(I)I" } : Jvm.MethodName) prog_32_method_120_code (2 : Nat) (Option.some Jvm.ClassFile.FieldType.int)) ∈ lw_all := lw_g (lw_at lw_m11 15 rfl) rfl
theorem q2566 : (Jvm.Cond.methodLink "CoarserOrdersModel" (458 : Nat) ({ cls := "CoarserOrdersModel", name := "parts", desc := "(I)I" } : Jvm.MethodName)) ∈ lw_all := lw_g (lw_at lw_m11 16 rfl) rfl
theorem q2567 : (Jvm.Cond.privateMethod ({ cls := "CoarserOrdersModel", name := "parts", desc := "(I)I" } : Jvm.MethodName)) ∈ lw_tbl := lw_at lw_m11 17 rfl
theorem q2568 : (Jvm.Cond.instanceMethod ({ cls := "CoarserOrdersModel", name := "parts", desc := "(I)I" } : Jvm.MethodName)) ∈ lw_all := lw_g (lw_at lw_m11 18 rfl) rfl
theorem q2569 : (Jvm.Cond.code ({ cls := "CoarserOrdersModel", name := "parts", desc := "(I)I" } : Jvm.MethodName) prog_32_method_124_code (2 : Nat) (Option.some Jvm.ClassFile.FieldType.int)) ∈ lw_all := lw_g (lw_at lw_m11 19 rfl) rfl
theorem q2570 : (Jvm.Cond.methodLink "CoarserOrdersModel" (452 : Nat) ({ cls := "CoarserOrdersModel", name := "longerParts", desc := "(I)I" } : Jvm.MethodName)) ∈ lw_all := lw_g (lw_at lw_m11 20 rfl) rfl
theorem q2571 : (Jvm.Cond.privateMethod ({ cls := "CoarserOrdersModel", name := "longerParts", desc := "(I)I" } : Jvm.MethodName)) ∈ lw_tbl := lw_at lw_m11 21 rfl
theorem q2572 : (Jvm.Cond.instanceMethod ({ cls := "CoarserOrdersModel", name := "longerParts", desc := "(I)I" } : Jvm.MethodName)) ∈ lw_all := lw_g (lw_at lw_m11 22 rfl) rfl
theorem q2573 : (Jvm.Cond.code ({ cls := "CoarserOrdersModel", name := "longerParts", desc := "(I)I" } : Jvm.MethodName) prog_32_method_123_code (3 : Nat) (Option.some Jvm.ClassFile.FieldType.int)) ∈ lw_all := lw_g (lw_at lw_m11 23 rfl) rfl
theorem q2574 : (Jvm.Cond.methodLink "CoarserOrdersModel" (449 : Nat) ({ cls := "CoarserOrdersModel", name := "plainParts", desc := "(I)I" } : Jvm.MethodName)) ∈ lw_all := lw_g (lw_at lw_m11 24 rfl) rfl
theorem q2575 : (Jvm.Cond.privateMethod ({ cls := "CoarserOrdersModel", name := "plainParts", desc := "(I)I" } : Jvm.MethodName)) ∈ lw_tbl := lw_at lw_m11 25 rfl
theorem q2576 : (Jvm.Cond.instanceMethod ({ cls := "CoarserOrdersModel", name := "plainParts", desc := "(I)I" } : Jvm.MethodName)) ∈ lw_all := lw_g (lw_at lw_m11 26 rfl) rfl
theorem q2577 : (Jvm.Cond.code ({ cls := "CoarserOrdersModel", name := "plainParts", desc := "(I)I" } : Jvm.MethodName) prog_32_method_122_code (2 : Nat) (Option.some Jvm.ClassFile.FieldType.int)) ∈ lw_all := lw_g (lw_at lw_m11 27 rfl) rfl
theorem q2578 : (Jvm.Cond.methodLink "CoarserOrdersModel" (464 : Nat) ({ cls := "CoarserOrdersModel", name := "joins", desc := "(I)I" } : Jvm.MethodName)) ∈ lw_all := lw_g (lw_at lw_m11 28 rfl) rfl
theorem q2579 : (Jvm.Cond.privateMethod ({ cls := "CoarserOrdersModel", name := "joins", desc := "(I)I" } : Jvm.MethodName)) ∈ lw_tbl := lw_at lw_m11 29 rfl
theorem q2580 : (Jvm.Cond.instanceMethod ({ cls := "CoarserOrdersModel", name := "joins", desc := "(I)I" } : Jvm.MethodName)) ∈ lw_all := lw_g (lw_at lw_m11 30 rfl) rfl
theorem q2581 : (Jvm.Cond.code ({ cls := "CoarserOrdersModel", name := "joins", desc := "(I)I" } : Jvm.MethodName) prog_32_method_126_code (3 : Nat) (Option.some Jvm.ClassFile.FieldType.int)) ∈ lw_all := lw_g (lw_at lw_m11 31 rfl) rfl
theorem q2582 : (Jvm.Cond.methodLink "CoarserOrdersModel" (461 : Nat) ({ cls := "CoarserOrdersModel", name := "plainJoins", desc := "(I)I" } : Jvm.MethodName)) ∈ lw_all := lw_g (lw_at lw_m11 32 rfl) rfl
theorem q2583 : (Jvm.Cond.privateMethod ({ cls := "CoarserOrdersModel", name := "plainJoins", desc := "(I)I" } : Jvm.MethodName)) ∈ lw_tbl := lw_at lw_m11 33 rfl
theorem q2584 : (Jvm.Cond.instanceMethod ({ cls := "CoarserOrdersModel", name := "plainJoins", desc := "(I)I" } : Jvm.MethodName)) ∈ lw_all := lw_g (lw_at lw_m11 34 rfl) rfl
theorem q2585 : (Jvm.Cond.code ({ cls := "CoarserOrdersModel", name := "plainJoins", desc := "(I)I" } : Jvm.MethodName) prog_32_method_125_code (3 : Nat) (Option.some Jvm.ClassFile.FieldType.int)) ∈ lw_all := lw_g (lw_at lw_m11 35 rfl) rfl
theorem q2587 : (Jvm.Cond.instanceMethod ({ cls := "CoarserOrdersModel", name := "trace", desc := "(I)I" } : Jvm.MethodName)) ∈ lw_all := lw_g (lw_at lw_m11 37 rfl) rfl
theorem q2588 : (Jvm.Cond.selects "CoarserOrdersModel" ({ cls := "CoarserOrdersModel", name := "trace", desc := "(I)I" } : Jvm.MethodName) ({ cls := "CoarserOrdersModel", name := "trace", desc := "(I)I" } : Jvm.MethodName)) ∈ lw_all := lw_g (lw_at lw_m11 38 rfl) rfl
theorem q2589 : (Jvm.Cond.code ({ cls := "CoarserOrdersModel", name := "trace", desc := "(I)I" } : Jvm.MethodName) prog_32_method_128_code (2 : Nat) (Option.some Jvm.ClassFile.FieldType.int)) ∈ lw_all := lw_g (lw_at lw_m11 39 rfl) rfl
theorem q2591 : (Jvm.Cond.instanceMethod ({ cls := "CoarserOrdersModel", name := "many", desc := "(I)I" } : Jvm.MethodName)) ∈ lw_all := lw_g (lw_at lw_m11 41 rfl) rfl
theorem q2592 : (Jvm.Cond.selects "CoarserOrdersModel" ({ cls := "CoarserOrdersModel", name := "many", desc := "(I)I" } : Jvm.MethodName) ({ cls := "CoarserOrdersModel", name := "many", desc := "(I)I" } : Jvm.MethodName)) ∈ lw_all := lw_g (lw_at lw_m11 42 rfl) rfl
theorem q2593 : (Jvm.Cond.code ({ cls := "CoarserOrdersModel", name := "many", desc := "(I)I" } : Jvm.MethodName) prog_32_method_130_code (2 : Nat) (Option.some Jvm.ClassFile.FieldType.int)) ∈ lw_all := lw_g (lw_at lw_m11 43 rfl) rfl
theorem q2594 : (Jvm.Cond.methodLink "CoarserOrdersModel" (467 : Nat) ({ cls := "CoarserOrdersModel", name := "manyClasses", desc := "(Z)I" } : Jvm.MethodName)) ∈ lw_all := lw_g (lw_at lw_m11 44 rfl) rfl
theorem q2595 : (Jvm.Cond.privateMethod ({ cls := "CoarserOrdersModel", name := "manyClasses", desc := "(Z)I" } : Jvm.MethodName)) ∈ lw_tbl := lw_at lw_m11 45 rfl
theorem q2596 : (Jvm.Cond.instanceMethod ({ cls := "CoarserOrdersModel", name := "manyClasses", desc := "(Z)I" } : Jvm.MethodName)) ∈ lw_all := lw_g (lw_at lw_m11 46 rfl) rfl
theorem q2597 : (Jvm.Cond.code ({ cls := "CoarserOrdersModel", name := "manyClasses", desc := "(Z)I" } : Jvm.MethodName) prog_32_method_129_code (5 : Nat) (Option.some Jvm.ClassFile.FieldType.int)) ∈ lw_all := lw_g (lw_at lw_m11 47 rfl) rfl
theorem q2599 : (Jvm.Cond.instanceMethod ({ cls := "CoarserOrdersModel", name := "keep", desc := "()I" } : Jvm.MethodName)) ∈ lw_all := lw_g (lw_at lw_m11 49 rfl) rfl
theorem q2600 : (Jvm.Cond.selects "CoarserOrdersModel" ({ cls := "CoarserOrdersModel", name := "keep", desc := "()I" } : Jvm.MethodName) ({ cls := "CoarserOrdersModel", name := "keep", desc := "()I" } : Jvm.MethodName)) ∈ lw_all := lw_g (lw_at lw_m11 50 rfl) rfl
theorem q2601 : (Jvm.Cond.code ({ cls := "CoarserOrdersModel", name := "keep", desc := "()I" } : Jvm.MethodName) prog_32_method_131_code (2 : Nat) (Option.some Jvm.ClassFile.FieldType.int)) ∈ lw_all := lw_g (lw_at lw_m11 51 rfl) rfl
theorem q2603 : (Jvm.Cond.instanceMethod ({ cls := "CoarserOrdersModel", name := "again", desc := "()I" } : Jvm.MethodName)) ∈ lw_all := lw_g (lw_at lw_m11 53 rfl) rfl
theorem q2604 : (Jvm.Cond.selects "CoarserOrdersModel" ({ cls := "CoarserOrdersModel", name := "again", desc := "()I" } : Jvm.MethodName) ({ cls := "CoarserOrdersModel", name := "again", desc := "()I" } : Jvm.MethodName)) ∈ lw_all := lw_g (lw_at lw_m11 54 rfl) rfl
theorem q2605 : (Jvm.Cond.code ({ cls := "CoarserOrdersModel", name := "again", desc := "()I" } : Jvm.MethodName) prog_32_method_132_code (2 : Nat) (Option.some Jvm.ClassFile.FieldType.int)) ∈ lw_all := lw_g (lw_at lw_m11 55 rfl) rfl

