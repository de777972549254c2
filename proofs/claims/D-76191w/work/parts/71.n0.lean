set_option maxRecDepth 100000
abbrev cX0_init : ByteArray := prog_1_method_11_code
def yX0_init : MethodName := ⟨RX0, "<init>", "()V"⟩
def dkwX0_init_13 : List UInt8 := [183, 0, 225, 83, 132, 1, 1, 167, 255, 222, 42, 182, 0, 226, 177]
abbrev dktX0_init_13 : List UInt8 := dkwX0_init_13 ++ []
def dkwX0_init_12 : List UInt8 := [42, 180, 0, 211, 27, 187, 0, 209, 89, 183, 0, 225, 83, 42, 180, 0, 215, 27, 187, 0, 209, 89]
abbrev dktX0_init_12 : List UInt8 := dkwX0_init_12 ++ dktX0_init_13
def dkwX0_init_11 : List UInt8 := [189, 0, 209, 181, 0, 215, 42, 187, 0, 218, 89, 183, 0, 220, 181, 0, 221, 3, 60, 27, 7, 162, 0, 35]
abbrev dktX0_init_11 : List UInt8 := dkwX0_init_11 ++ dktX0_init_12
def dkwX0_init_10 : List UInt8 := [188, 10, 181, 0, 203, 42, 16, 15, 188, 10, 181, 0, 206, 42, 7, 189, 0, 209, 181, 0, 211, 42, 7]
abbrev dktX0_init_10 : List UInt8 := dkwX0_init_10 ++ dktX0_init_11
def dkwX0_init_9 : List UInt8 := [181, 0, 193, 42, 16, 120, 188, 4, 181, 0, 196, 42, 16, 96, 189, 0, 31, 181, 0, 200, 42, 16, 15]
abbrev dktX0_init_9 : List UInt8 := dkwX0_init_9 ++ dktX0_init_10
def dkwX0_init_8 : List UInt8 := [181, 0, 184, 42, 16, 120, 188, 10, 181, 0, 187, 42, 16, 120, 188, 10, 181, 0, 190, 42, 16, 120, 188, 10]
abbrev dktX0_init_8 : List UInt8 := dkwX0_init_8 ++ dktX0_init_9
def dkwX0_init_7 : List UInt8 := [181, 0, 174, 42, 8, 188, 10, 181, 0, 177, 42, 16, 6, 188, 10, 181, 0, 181, 42, 16, 120, 188, 10]
abbrev dktX0_init_7 : List UInt8 := dkwX0_init_7 ++ dktX0_init_8
def dkwX0_init_6 : List UInt8 := [18, 165, 83, 89, 6, 18, 166, 83, 89, 7, 18, 168, 83, 181, 0, 170, 42, 17, 0, 200, 188, 8]
abbrev dktX0_init_6 : List UInt8 := dkwX0_init_6 ++ dktX0_init_7
def dkwX0_init_5 : List UInt8 := [189, 0, 156, 181, 0, 157, 42, 8, 189, 0, 161, 89, 3, 18, 163, 83, 89, 4, 18, 164, 83, 89, 5]
abbrev dktX0_init_5 : List UInt8 := dkwX0_init_5 ++ dktX0_init_6
def dkwX0_init_4 : List UInt8 := [181, 0, 147, 42, 16, 6, 188, 8, 181, 0, 150, 42, 16, 6, 188, 8, 181, 0, 153, 42, 16, 7]
abbrev dktX0_init_4 : List UInt8 := dkwX0_init_4 ++ dktX0_init_5
def dkwX0_init_3 : List UInt8 := [181, 0, 137, 42, 16, 6, 188, 8, 181, 0, 141, 42, 16, 6, 188, 8, 181, 0, 144, 42, 16, 6, 188, 8]
abbrev dktX0_init_3 : List UInt8 := dkwX0_init_3 ++ dktX0_init_4
def dkwX0_init_2 : List UInt8 := [187, 0, 39, 89, 183, 0, 129, 181, 0, 130, 42, 16, 6, 189, 0, 31, 181, 0, 133, 42, 16, 6, 188, 8]
abbrev dktX0_init_2 : List UInt8 := dkwX0_init_2 ++ dktX0_init_3
def dkwX0_init_1 : List UInt8 := [181, 0, 124, 42, 16, 7, 189, 0, 128, 181, 0, 52, 42, 187, 0, 39, 89, 183, 0, 129, 181, 0, 34, 42]
abbrev dktX0_init_1 : List UInt8 := dkwX0_init_1 ++ dktX0_init_2
def dkwX0_init_0 : List UInt8 := [42, 183, 0, 116, 42, 187, 0, 8, 89, 183, 0, 120, 181, 0, 1, 42, 187, 0, 121, 89, 183, 0, 123]
abbrev dktX0_init_0 : List UInt8 := dkwX0_init_0 ++ dktX0_init_1
theorem dksX0_init_0 : cX0_init.data.toList.drop 0 = dktX0_init_0 := by decide +kernel
theorem dksX0_init_1 : cX0_init.data.toList.drop 23 = dktX0_init_1 := dk_seg dksX0_init_0 23 rfl rfl
theorem dksX0_init_2 : cX0_init.data.toList.drop 47 = dktX0_init_2 := dk_seg dksX0_init_1 24 rfl rfl
theorem dksX0_init_3 : cX0_init.data.toList.drop 71 = dktX0_init_3 := dk_seg dksX0_init_2 24 rfl rfl
theorem dksX0_init_4 : cX0_init.data.toList.drop 95 = dktX0_init_4 := dk_seg dksX0_init_3 24 rfl rfl
theorem dksX0_init_5 : cX0_init.data.toList.drop 117 = dktX0_init_5 := dk_seg dksX0_init_4 22 rfl rfl
theorem dksX0_init_6 : cX0_init.data.toList.drop 140 = dktX0_init_6 := dk_seg dksX0_init_5 23 rfl rfl
theorem dksX0_init_7 : cX0_init.data.toList.drop 162 = dktX0_init_7 := dk_seg dksX0_init_6 22 rfl rfl
theorem dksX0_init_8 : cX0_init.data.toList.drop 185 = dktX0_init_8 := dk_seg dksX0_init_7 23 rfl rfl
theorem dksX0_init_9 : cX0_init.data.toList.drop 209 = dktX0_init_9 := dk_seg dksX0_init_8 24 rfl rfl
theorem dksX0_init_10 : cX0_init.data.toList.drop 232 = dktX0_init_10 := dk_seg dksX0_init_9 23 rfl rfl
theorem dksX0_init_11 : cX0_init.data.toList.drop 255 = dktX0_init_11 := dk_seg dksX0_init_10 23 rfl rfl
theorem dksX0_init_12 : cX0_init.data.toList.drop 279 = dktX0_init_12 := dk_seg dksX0_init_11 24 rfl rfl
theorem dksX0_init_13 : cX0_init.data.toList.drop 301 = dktX0_init_13 := dk_seg dksX0_init_12 22 rfl rfl
theorem dX0_init_0 : decode cX0_init 0 = .ok (.aload_n 0, 1) := dk_42 (dk_at dksX0_init_0 0 rfl rfl)
theorem dX0_init_1 : decode cX0_init 1 = .ok (.invokespecial 116, 3) := dk_183 0 116 (dk_at dksX0_init_0 1 rfl rfl)
theorem dX0_init_4 : decode cX0_init 4 = .ok (.aload_n 0, 1) := dk_42 (dk_at dksX0_init_0 4 rfl rfl)
theorem dX0_init_5 : decode cX0_init 5 = .ok (.new 8, 3) := dk_187 0 8 (dk_at dksX0_init_0 5 rfl rfl)
theorem dX0_init_8 : decode cX0_init 8 = .ok (.dup, 1) := dk_89 (dk_at dksX0_init_0 8 rfl rfl)
theorem dX0_init_9 : decode cX0_init 9 = .ok (.invokespecial 120, 3) := dk_183 0 120 (dk_at dksX0_init_0 9 rfl rfl)
theorem dX0_init_12 : decode cX0_init 12 = .ok (.putfield 1, 3) := dk_181 0 1 (dk_at dksX0_init_0 12 rfl rfl)
theorem dX0_init_15 : decode cX0_init 15 = .ok (.aload_n 0, 1) := dk_42 (dk_at dksX0_init_0 15 rfl rfl)
theorem dX0_init_16 : decode cX0_init 16 = .ok (.new 121, 3) := dk_187 0 121 (dk_at dksX0_init_0 16 rfl rfl)
theorem dX0_init_19 : decode cX0_init 19 = .ok (.dup, 1) := dk_89 (dk_at dksX0_init_0 19 rfl rfl)
theorem dX0_init_20 : decode cX0_init 20 = .ok (.invokespecial 123, 3) := dk_183 0 123 (dk_at dksX0_init_0 20 rfl rfl)
theorem dX0_init_23 : decode cX0_init 23 = .ok (.putfield 124, 3) := dk_181 0 124 (dk_at dksX0_init_1 0 rfl rfl)
theorem dX0_init_26 : decode cX0_init 26 = .ok (.aload_n 0, 1) := dk_42 (dk_at dksX0_init_1 3 rfl rfl)
theorem dX0_init_27 : decode cX0_init 27 = .ok (.bipush 7, 2) := dk_16 7 (dk_at dksX0_init_1 4 rfl rfl)
theorem dX0_init_29 : decode cX0_init 29 = .ok (.anewarray 128, 3) := dk_189 0 128 (dk_at dksX0_init_1 6 rfl rfl)
theorem dX0_init_32 : decode cX0_init 32 = .ok (.putfield 52, 3) := dk_181 0 52 (dk_at dksX0_init_1 9 rfl rfl)
theorem dX0_init_35 : decode cX0_init 35 = .ok (.aload_n 0, 1) := dk_42 (dk_at dksX0_init_1 12 rfl rfl)
theorem dX0_init_36 : decode cX0_init 36 = .ok (.new 39, 3) := dk_187 0 39 (dk_at dksX0_init_1 13 rfl rfl)
theorem dX0_init_39 : decode cX0_init 39 = .ok (.dup, 1) := dk_89 (dk_at dksX0_init_1 16 rfl rfl)
theorem dX0_init_40 : decode cX0_init 40 = .ok (.invokespecial 129, 3) := dk_183 0 129 (dk_at dksX0_init_1 17 rfl rfl)
theorem dX0_init_43 : decode cX0_init 43 = .ok (.putfield 34, 3) := dk_181 0 34 (dk_at dksX0_init_1 20 rfl rfl)
theorem dX0_init_46 : decode cX0_init 46 = .ok (.aload_n 0, 1) := dk_42 (dk_at dksX0_init_1 23 rfl rfl)
theorem dX0_init_47 : decode cX0_init 47 = .ok (.new 39, 3) := dk_187 0 39 (dk_at dksX0_init_2 0 rfl rfl)
theorem dX0_init_50 : decode cX0_init 50 = .ok (.dup, 1) := dk_89 (dk_at dksX0_init_2 3 rfl rfl)
theorem dX0_init_51 : decode cX0_init 51 = .ok (.invokespecial 129, 3) := dk_183 0 129 (dk_at dksX0_init_2 4 rfl rfl)
theorem dX0_init_54 : decode cX0_init 54 = .ok (.putfield 130, 3) := dk_181 0 130 (dk_at dksX0_init_2 7 rfl rfl)
theorem dX0_init_57 : decode cX0_init 57 = .ok (.aload_n 0, 1) := dk_42 (dk_at dksX0_init_2 10 rfl rfl)
theorem dX0_init_58 : decode cX0_init 58 = .ok (.bipush 6, 2) := dk_16 6 (dk_at dksX0_init_2 11 rfl rfl)
theorem dX0_init_60 : decode cX0_init 60 = .ok (.anewarray 31, 3) := dk_189 0 31 (dk_at dksX0_init_2 13 rfl rfl)
theorem dX0_init_63 : decode cX0_init 63 = .ok (.putfield 133, 3) := dk_181 0 133 (dk_at dksX0_init_2 16 rfl rfl)
theorem dX0_init_66 : decode cX0_init 66 = .ok (.aload_n 0, 1) := dk_42 (dk_at dksX0_init_2 19 rfl rfl)
theorem dX0_init_67 : decode cX0_init 67 = .ok (.bipush 6, 2) := dk_16 6 (dk_at dksX0_init_2 20 rfl rfl)
theorem dX0_init_69 : decode cX0_init 69 = .ok (.newarray .byte, 2) := dk_188_8 (dk_at dksX0_init_2 22 rfl rfl)
theorem dX0_init_71 : decode cX0_init 71 = .ok (.putfield 137, 3) := dk_181 0 137 (dk_at dksX0_init_3 0 rfl rfl)
theorem dX0_init_74 : decode cX0_init 74 = .ok (.aload_n 0, 1) := dk_42 (dk_at dksX0_init_3 3 rfl rfl)
theorem dX0_init_75 : decode cX0_init 75 = .ok (.bipush 6, 2) := dk_16 6 (dk_at dksX0_init_3 4 rfl rfl)
theorem dX0_init_77 : decode cX0_init 77 = .ok (.newarray .byte, 2) := dk_188_8 (dk_at dksX0_init_3 6 rfl rfl)
theorem dX0_init_79 : decode cX0_init 79 = .ok (.putfield 141, 3) := dk_181 0 141 (dk_at dksX0_init_3 8 rfl rfl)
theorem dX0_init_82 : decode cX0_init 82 = .ok (.aload_n 0, 1) := dk_42 (dk_at dksX0_init_3 11 rfl rfl)
theorem dX0_init_83 : decode cX0_init 83 = .ok (.bipush 6, 2) := dk_16 6 (dk_at dksX0_init_3 12 rfl rfl)
theorem dX0_init_85 : decode cX0_init 85 = .ok (.newarray .byte, 2) := dk_188_8 (dk_at dksX0_init_3 14 rfl rfl)
theorem dX0_init_87 : decode cX0_init 87 = .ok (.putfield 144, 3) := dk_181 0 144 (dk_at dksX0_init_3 16 rfl rfl)
theorem dX0_init_90 : decode cX0_init 90 = .ok (.aload_n 0, 1) := dk_42 (dk_at dksX0_init_3 19 rfl rfl)
theorem dX0_init_91 : decode cX0_init 91 = .ok (.bipush 6, 2) := dk_16 6 (dk_at dksX0_init_3 20 rfl rfl)
theorem dX0_init_93 : decode cX0_init 93 = .ok (.newarray .byte, 2) := dk_188_8 (dk_at dksX0_init_3 22 rfl rfl)
theorem dX0_init_95 : decode cX0_init 95 = .ok (.putfield 147, 3) := dk_181 0 147 (dk_at dksX0_init_4 0 rfl rfl)
theorem dX0_init_98 : decode cX0_init 98 = .ok (.aload_n 0, 1) := dk_42 (dk_at dksX0_init_4 3 rfl rfl)
theorem dX0_init_99 : decode cX0_init 99 = .ok (.bipush 6, 2) := dk_16 6 (dk_at dksX0_init_4 4 rfl rfl)
theorem dX0_init_101 : decode cX0_init 101 = .ok (.newarray .byte, 2) := dk_188_8 (dk_at dksX0_init_4 6 rfl rfl)
theorem dX0_init_103 : decode cX0_init 103 = .ok (.putfield 150, 3) := dk_181 0 150 (dk_at dksX0_init_4 8 rfl rfl)
theorem dX0_init_106 : decode cX0_init 106 = .ok (.aload_n 0, 1) := dk_42 (dk_at dksX0_init_4 11 rfl rfl)
theorem dX0_init_107 : decode cX0_init 107 = .ok (.bipush 6, 2) := dk_16 6 (dk_at dksX0_init_4 12 rfl rfl)
theorem dX0_init_109 : decode cX0_init 109 = .ok (.newarray .byte, 2) := dk_188_8 (dk_at dksX0_init_4 14 rfl rfl)
theorem dX0_init_111 : decode cX0_init 111 = .ok (.putfield 153, 3) := dk_181 0 153 (dk_at dksX0_init_4 16 rfl rfl)
theorem dX0_init_114 : decode cX0_init 114 = .ok (.aload_n 0, 1) := dk_42 (dk_at dksX0_init_4 19 rfl rfl)
theorem dX0_init_115 : decode cX0_init 115 = .ok (.bipush 7, 2) := dk_16 7 (dk_at dksX0_init_4 20 rfl rfl)
theorem dX0_init_117 : decode cX0_init 117 = .ok (.anewarray 156, 3) := dk_189 0 156 (dk_at dksX0_init_5 0 rfl rfl)
theorem dX0_init_120 : decode cX0_init 120 = .ok (.putfield 157, 3) := dk_181 0 157 (dk_at dksX0_init_5 3 rfl rfl)
theorem dX0_init_123 : decode cX0_init 123 = .ok (.aload_n 0, 1) := dk_42 (dk_at dksX0_init_5 6 rfl rfl)
theorem dX0_init_124 : decode cX0_init 124 = .ok (.iconst 5, 1) := dk_8 (dk_at dksX0_init_5 7 rfl rfl)
theorem dX0_init_125 : decode cX0_init 125 = .ok (.anewarray 161, 3) := dk_189 0 161 (dk_at dksX0_init_5 8 rfl rfl)
theorem dX0_init_128 : decode cX0_init 128 = .ok (.dup, 1) := dk_89 (dk_at dksX0_init_5 11 rfl rfl)
theorem dX0_init_129 : decode cX0_init 129 = .ok (.iconst 0, 1) := dk_3 (dk_at dksX0_init_5 12 rfl rfl)
theorem dX0_init_130 : decode cX0_init 130 = .ok (.ldc 163, 2) := dk_18 163 (dk_at dksX0_init_5 13 rfl rfl)
theorem dX0_init_132 : decode cX0_init 132 = .ok (.aastore, 1) := dk_83 (dk_at dksX0_init_5 15 rfl rfl)
theorem dX0_init_133 : decode cX0_init 133 = .ok (.dup, 1) := dk_89 (dk_at dksX0_init_5 16 rfl rfl)
theorem dX0_init_134 : decode cX0_init 134 = .ok (.iconst 1, 1) := dk_4 (dk_at dksX0_init_5 17 rfl rfl)
theorem dX0_init_135 : decode cX0_init 135 = .ok (.ldc 164, 2) := dk_18 164 (dk_at dksX0_init_5 18 rfl rfl)
theorem dX0_init_137 : decode cX0_init 137 = .ok (.aastore, 1) := dk_83 (dk_at dksX0_init_5 20 rfl rfl)
theorem dX0_init_138 : decode cX0_init 138 = .ok (.dup, 1) := dk_89 (dk_at dksX0_init_5 21 rfl rfl)
theorem dX0_init_139 : decode cX0_init 139 = .ok (.iconst 2, 1) := dk_5 (dk_at dksX0_init_5 22 rfl rfl)
theorem dX0_init_140 : decode cX0_init 140 = .ok (.ldc 165, 2) := dk_18 165 (dk_at dksX0_init_6 0 rfl rfl)
theorem dX0_init_142 : decode cX0_init 142 = .ok (.aastore, 1) := dk_83 (dk_at dksX0_init_6 2 rfl rfl)
theorem dX0_init_143 : decode cX0_init 143 = .ok (.dup, 1) := dk_89 (dk_at dksX0_init_6 3 rfl rfl)
theorem dX0_init_144 : decode cX0_init 144 = .ok (.iconst 3, 1) := dk_6 (dk_at dksX0_init_6 4 rfl rfl)
theorem dX0_init_145 : decode cX0_init 145 = .ok (.ldc 166, 2) := dk_18 166 (dk_at dksX0_init_6 5 rfl rfl)
theorem dX0_init_147 : decode cX0_init 147 = .ok (.aastore, 1) := dk_83 (dk_at dksX0_init_6 7 rfl rfl)
theorem dX0_init_148 : decode cX0_init 148 = .ok (.dup, 1) := dk_89 (dk_at dksX0_init_6 8 rfl rfl)
theorem dX0_init_149 : decode cX0_init 149 = .ok (.iconst 4, 1) := dk_7 (dk_at dksX0_init_6 9 rfl rfl)
theorem dX0_init_150 : decode cX0_init 150 = .ok (.ldc 168, 2) := dk_18 168 (dk_at dksX0_init_6 10 rfl rfl)
theorem dX0_init_152 : decode cX0_init 152 = .ok (.aastore, 1) := dk_83 (dk_at dksX0_init_6 12 rfl rfl)
theorem dX0_init_153 : decode cX0_init 153 = .ok (.putfield 170, 3) := dk_181 0 170 (dk_at dksX0_init_6 13 rfl rfl)
theorem dX0_init_156 : decode cX0_init 156 = .ok (.aload_n 0, 1) := dk_42 (dk_at dksX0_init_6 16 rfl rfl)
theorem dX0_init_157 : decode cX0_init 157 = .ok (.sipush 200, 3) := dk_17 0 200 (dk_at dksX0_init_6 17 rfl rfl)
theorem dX0_init_160 : decode cX0_init 160 = .ok (.newarray .byte, 2) := dk_188_8 (dk_at dksX0_init_6 20 rfl rfl)
theorem dX0_init_162 : decode cX0_init 162 = .ok (.putfield 174, 3) := dk_181 0 174 (dk_at dksX0_init_7 0 rfl rfl)
theorem dX0_init_165 : decode cX0_init 165 = .ok (.aload_n 0, 1) := dk_42 (dk_at dksX0_init_7 3 rfl rfl)
theorem dX0_init_166 : decode cX0_init 166 = .ok (.iconst 5, 1) := dk_8 (dk_at dksX0_init_7 4 rfl rfl)
theorem dX0_init_167 : decode cX0_init 167 = .ok (.newarray .int, 2) := dk_188_10 (dk_at dksX0_init_7 5 rfl rfl)
theorem dX0_init_169 : decode cX0_init 169 = .ok (.putfield 177, 3) := dk_181 0 177 (dk_at dksX0_init_7 7 rfl rfl)
theorem dX0_init_172 : decode cX0_init 172 = .ok (.aload_n 0, 1) := dk_42 (dk_at dksX0_init_7 10 rfl rfl)
theorem dX0_init_173 : decode cX0_init 173 = .ok (.bipush 6, 2) := dk_16 6 (dk_at dksX0_init_7 11 rfl rfl)
theorem dX0_init_175 : decode cX0_init 175 = .ok (.newarray .int, 2) := dk_188_10 (dk_at dksX0_init_7 13 rfl rfl)
theorem dX0_init_177 : decode cX0_init 177 = .ok (.putfield 181, 3) := dk_181 0 181 (dk_at dksX0_init_7 15 rfl rfl)
theorem dX0_init_180 : decode cX0_init 180 = .ok (.aload_n 0, 1) := dk_42 (dk_at dksX0_init_7 18 rfl rfl)
theorem dX0_init_181 : decode cX0_init 181 = .ok (.bipush 120, 2) := dk_16 120 (dk_at dksX0_init_7 19 rfl rfl)
theorem dX0_init_183 : decode cX0_init 183 = .ok (.newarray .int, 2) := dk_188_10 (dk_at dksX0_init_7 21 rfl rfl)
theorem dX0_init_185 : decode cX0_init 185 = .ok (.putfield 184, 3) := dk_181 0 184 (dk_at dksX0_init_8 0 rfl rfl)
theorem dX0_init_188 : decode cX0_init 188 = .ok (.aload_n 0, 1) := dk_42 (dk_at dksX0_init_8 3 rfl rfl)
theorem dX0_init_189 : decode cX0_init 189 = .ok (.bipush 120, 2) := dk_16 120 (dk_at dksX0_init_8 4 rfl rfl)
theorem dX0_init_191 : decode cX0_init 191 = .ok (.newarray .int, 2) := dk_188_10 (dk_at dksX0_init_8 6 rfl rfl)
theorem dX0_init_193 : decode cX0_init 193 = .ok (.putfield 187, 3) := dk_181 0 187 (dk_at dksX0_init_8 8 rfl rfl)
theorem dX0_init_196 : decode cX0_init 196 = .ok (.aload_n 0, 1) := dk_42 (dk_at dksX0_init_8 11 rfl rfl)
theorem dX0_init_197 : decode cX0_init 197 = .ok (.bipush 120, 2) := dk_16 120 (dk_at dksX0_init_8 12 rfl rfl)
theorem dX0_init_199 : decode cX0_init 199 = .ok (.newarray .int, 2) := dk_188_10 (dk_at dksX0_init_8 14 rfl rfl)
theorem dX0_init_201 : decode cX0_init 201 = .ok (.putfield 190, 3) := dk_181 0 190 (dk_at dksX0_init_8 16 rfl rfl)
theorem dX0_init_204 : decode cX0_init 204 = .ok (.aload_n 0, 1) := dk_42 (dk_at dksX0_init_8 19 rfl rfl)
theorem dX0_init_205 : decode cX0_init 205 = .ok (.bipush 120, 2) := dk_16 120 (dk_at dksX0_init_8 20 rfl rfl)
theorem dX0_init_207 : decode cX0_init 207 = .ok (.newarray .int, 2) := dk_188_10 (dk_at dksX0_init_8 22 rfl rfl)
theorem dX0_init_209 : decode cX0_init 209 = .ok (.putfield 193, 3) := dk_181 0 193 (dk_at dksX0_init_9 0 rfl rfl)
theorem dX0_init_212 : decode cX0_init 212 = .ok (.aload_n 0, 1) := dk_42 (dk_at dksX0_init_9 3 rfl rfl)
theorem dX0_init_213 : decode cX0_init 213 = .ok (.bipush 120, 2) := dk_16 120 (dk_at dksX0_init_9 4 rfl rfl)
theorem dX0_init_215 : decode cX0_init 215 = .ok (.newarray .boolean, 2) := dk_188_4 (dk_at dksX0_init_9 6 rfl rfl)
theorem dX0_init_217 : decode cX0_init 217 = .ok (.putfield 196, 3) := dk_181 0 196 (dk_at dksX0_init_9 8 rfl rfl)
theorem dX0_init_220 : decode cX0_init 220 = .ok (.aload_n 0, 1) := dk_42 (dk_at dksX0_init_9 11 rfl rfl)
theorem dX0_init_221 : decode cX0_init 221 = .ok (.bipush 96, 2) := dk_16 96 (dk_at dksX0_init_9 12 rfl rfl)
theorem dX0_init_223 : decode cX0_init 223 = .ok (.anewarray 31, 3) := dk_189 0 31 (dk_at dksX0_init_9 14 rfl rfl)
theorem dX0_init_226 : decode cX0_init 226 = .ok (.putfield 200, 3) := dk_181 0 200 (dk_at dksX0_init_9 17 rfl rfl)
theorem dX0_init_229 : decode cX0_init 229 = .ok (.aload_n 0, 1) := dk_42 (dk_at dksX0_init_9 20 rfl rfl)
theorem dX0_init_230 : decode cX0_init 230 = .ok (.bipush 15, 2) := dk_16 15 (dk_at dksX0_init_9 21 rfl rfl)
theorem dX0_init_232 : decode cX0_init 232 = .ok (.newarray .int, 2) := dk_188_10 (dk_at dksX0_init_10 0 rfl rfl)
theorem dX0_init_234 : decode cX0_init 234 = .ok (.putfield 203, 3) := dk_181 0 203 (dk_at dksX0_init_10 2 rfl rfl)
theorem dX0_init_237 : decode cX0_init 237 = .ok (.aload_n 0, 1) := dk_42 (dk_at dksX0_init_10 5 rfl rfl)
theorem dX0_init_238 : decode cX0_init 238 = .ok (.bipush 15, 2) := dk_16 15 (dk_at dksX0_init_10 6 rfl rfl)
theorem dX0_init_240 : decode cX0_init 240 = .ok (.newarray .int, 2) := dk_188_10 (dk_at dksX0_init_10 8 rfl rfl)
theorem dX0_init_242 : decode cX0_init 242 = .ok (.putfield 206, 3) := dk_181 0 206 (dk_at dksX0_init_10 10 rfl rfl)
theorem dX0_init_245 : decode cX0_init 245 = .ok (.aload_n 0, 1) := dk_42 (dk_at dksX0_init_10 13 rfl rfl)
theorem dX0_init_246 : decode cX0_init 246 = .ok (.iconst 4, 1) := dk_7 (dk_at dksX0_init_10 14 rfl rfl)
theorem dX0_init_247 : decode cX0_init 247 = .ok (.anewarray 209, 3) := dk_189 0 209 (dk_at dksX0_init_10 15 rfl rfl)
theorem dX0_init_250 : decode cX0_init 250 = .ok (.putfield 211, 3) := dk_181 0 211 (dk_at dksX0_init_10 18 rfl rfl)
theorem dX0_init_253 : decode cX0_init 253 = .ok (.aload_n 0, 1) := dk_42 (dk_at dksX0_init_10 21 rfl rfl)
theorem dX0_init_254 : decode cX0_init 254 = .ok (.iconst 4, 1) := dk_7 (dk_at dksX0_init_10 22 rfl rfl)
theorem dX0_init_255 : decode cX0_init 255 = .ok (.anewarray 209, 3) := dk_189 0 209 (dk_at dksX0_init_11 0 rfl rfl)
theorem dX0_init_258 : decode cX0_init 258 = .ok (.putfield 215, 3) := dk_181 0 215 (dk_at dksX0_init_11 3 rfl rfl)
theorem dX0_init_261 : decode cX0_init 261 = .ok (.aload_n 0, 1) := dk_42 (dk_at dksX0_init_11 6 rfl rfl)
theorem dX0_init_262 : decode cX0_init 262 = .ok (.new 218, 3) := dk_187 0 218 (dk_at dksX0_init_11 7 rfl rfl)
theorem dX0_init_265 : decode cX0_init 265 = .ok (.dup, 1) := dk_89 (dk_at dksX0_init_11 10 rfl rfl)
theorem dX0_init_266 : decode cX0_init 266 = .ok (.invokespecial 220, 3) := dk_183 0 220 (dk_at dksX0_init_11 11 rfl rfl)
theorem dX0_init_269 : decode cX0_init 269 = .ok (.putfield 221, 3) := dk_181 0 221 (dk_at dksX0_init_11 14 rfl rfl)
theorem dX0_init_272 : decode cX0_init 272 = .ok (.iconst 0, 1) := dk_3 (dk_at dksX0_init_11 17 rfl rfl)
theorem dX0_init_273 : decode cX0_init 273 = .ok (.istore_n 1, 1) := dk_60 (dk_at dksX0_init_11 18 rfl rfl)
theorem dX0_init_274 : decode cX0_init 274 = .ok (.iload_n 1, 1) := dk_27 (dk_at dksX0_init_11 19 rfl rfl)
theorem dX0_init_275 : decode cX0_init 275 = .ok (.iconst 4, 1) := dk_7 (dk_at dksX0_init_11 20 rfl rfl)
theorem dX0_init_276 : decode cX0_init 276 = .ok (.if_icmp .ge 35, 3) := dk_162 0 35 (dk_at dksX0_init_11 21 rfl rfl)
theorem dX0_init_279 : decode cX0_init 279 = .ok (.aload_n 0, 1) := dk_42 (dk_at dksX0_init_12 0 rfl rfl)
theorem dX0_init_280 : decode cX0_init 280 = .ok (.getfield 211, 3) := dk_180 0 211 (dk_at dksX0_init_12 1 rfl rfl)
theorem dX0_init_283 : decode cX0_init 283 = .ok (.iload_n 1, 1) := dk_27 (dk_at dksX0_init_12 4 rfl rfl)
theorem dX0_init_284 : decode cX0_init 284 = .ok (.new 209, 3) := dk_187 0 209 (dk_at dksX0_init_12 5 rfl rfl)
theorem dX0_init_287 : decode cX0_init 287 = .ok (.dup, 1) := dk_89 (dk_at dksX0_init_12 8 rfl rfl)
theorem dX0_init_288 : decode cX0_init 288 = .ok (.invokespecial 225, 3) := dk_183 0 225 (dk_at dksX0_init_12 9 rfl rfl)
theorem dX0_init_291 : decode cX0_init 291 = .ok (.aastore, 1) := dk_83 (dk_at dksX0_init_12 12 rfl rfl)
theorem dX0_init_292 : decode cX0_init 292 = .ok (.aload_n 0, 1) := dk_42 (dk_at dksX0_init_12 13 rfl rfl)
theorem dX0_init_293 : decode cX0_init 293 = .ok (.getfield 215, 3) := dk_180 0 215 (dk_at dksX0_init_12 14 rfl rfl)
theorem dX0_init_296 : decode cX0_init 296 = .ok (.iload_n 1, 1) := dk_27 (dk_at dksX0_init_12 17 rfl rfl)
theorem dX0_init_297 : decode cX0_init 297 = .ok (.new 209, 3) := dk_187 0 209 (dk_at dksX0_init_12 18 rfl rfl)
theorem dX0_init_300 : decode cX0_init 300 = .ok (.dup, 1) := dk_89 (dk_at dksX0_init_12 21 rfl rfl)
theorem dX0_init_301 : decode cX0_init 301 = .ok (.invokespecial 225, 3) := dk_183 0 225 (dk_at dksX0_init_13 0 rfl rfl)
theorem dX0_init_304 : decode cX0_init 304 = .ok (.aastore, 1) := dk_83 (dk_at dksX0_init_13 3 rfl rfl)
theorem dX0_init_305 : decode cX0_init 305 = .ok (.iinc 1 1, 3) := dk_132 1 1 (dk_at dksX0_init_13 4 rfl rfl)
theorem dX0_init_308 : decode cX0_init 308 = .ok (.goto (-34), 3) := dk_167 255 222 (dk_at dksX0_init_13 7 rfl rfl)
theorem dX0_init_311 : decode cX0_init 311 = .ok (.aload_n 0, 1) := dk_42 (dk_at dksX0_init_13 10 rfl rfl)
theorem dX0_init_312 : decode cX0_init 312 = .ok (.invokevirtual 226, 3) := dk_182 0 226 (dk_at dksX0_init_13 11 rfl rfl)
theorem dX0_init_315 : decode cX0_init 315 = .ok (.return_, 1) := dk_177 (dk_at dksX0_init_13 14 rfl rfl)
abbrev cX0_takeArcs : ByteArray := prog_1_method_6_code
def yX0_takeArcs : MethodName := ⟨RX0, "takeArcs", "()V"⟩
def dkwX0_takeArcs_3 : List UInt8 := [42, 42, 180, 0, 52, 42, 180, 0, 34, 180, 0, 38, 50, 181, 0, 44, 177]
abbrev dktX0_takeArcs_3 : List UInt8 := dkwX0_takeArcs_3 ++ []
def dkwX0_takeArcs_2 : List UInt8 := [189, 0, 56, 83, 42, 42, 180, 0, 52, 42, 180, 0, 34, 180, 0, 38, 50, 181, 0, 44, 42, 182, 0, 58]
abbrev dktX0_takeArcs_2 : List UInt8 := dkwX0_takeArcs_2 ++ dktX0_takeArcs_3
def dkwX0_takeArcs_1 : List UInt8 := [180, 0, 38, 4, 42, 180, 0, 34, 180, 0, 38, 120, 4, 100, 42, 180, 0, 34, 180, 0, 38, 100]
abbrev dktX0_takeArcs_1 : List UInt8 := dkwX0_takeArcs_1 ++ dktX0_takeArcs_2
def dkwX0_takeArcs_0 : List UInt8 := [42, 180, 0, 52, 42, 180, 0, 34, 180, 0, 38, 50, 199, 0, 57, 42, 180, 0, 52, 42, 180, 0, 34]
abbrev dktX0_takeArcs_0 : List UInt8 := dkwX0_takeArcs_0 ++ dktX0_takeArcs_1
theorem dksX0_takeArcs_0 : cX0_takeArcs.data.toList.drop 0 = dktX0_takeArcs_0 := by decide +kernel
theorem dksX0_takeArcs_1 : cX0_takeArcs.data.toList.drop 23 = dktX0_takeArcs_1 := dk_seg dksX0_takeArcs_0 23 rfl rfl
theorem dksX0_takeArcs_2 : cX0_takeArcs.data.toList.drop 45 = dktX0_takeArcs_2 := dk_seg dksX0_takeArcs_1 22 rfl rfl
theorem dksX0_takeArcs_3 : cX0_takeArcs.data.toList.drop 69 = dktX0_takeArcs_3 := dk_seg dksX0_takeArcs_2 24 rfl rfl
theorem dX0_takeArcs_0 : decode cX0_takeArcs 0 = .ok (.aload_n 0, 1) := dk_42 (dk_at dksX0_takeArcs_0 0 rfl rfl)
theorem dX0_takeArcs_1 : decode cX0_takeArcs 1 = .ok (.getfield 52, 3) := dk_180 0 52 (dk_at dksX0_takeArcs_0 1 rfl rfl)
theorem dX0_takeArcs_4 : decode cX0_takeArcs 4 = .ok (.aload_n 0, 1) := dk_42 (dk_at dksX0_takeArcs_0 4 rfl rfl)
theorem dX0_takeArcs_5 : decode cX0_takeArcs 5 = .ok (.getfield 34, 3) := dk_180 0 34 (dk_at dksX0_takeArcs_0 5 rfl rfl)
theorem dX0_takeArcs_8 : decode cX0_takeArcs 8 = .ok (.getfield 38, 3) := dk_180 0 38 (dk_at dksX0_takeArcs_0 8 rfl rfl)
theorem dX0_takeArcs_11 : decode cX0_takeArcs 11 = .ok (.aaload, 1) := dk_50 (dk_at dksX0_takeArcs_0 11 rfl rfl)
theorem dX0_takeArcs_12 : decode cX0_takeArcs 12 = .ok (.ifnonnull 57, 3) := dk_199 0 57 (dk_at dksX0_takeArcs_0 12 rfl rfl)
theorem dX0_takeArcs_15 : decode cX0_takeArcs 15 = .ok (.aload_n 0, 1) := dk_42 (dk_at dksX0_takeArcs_0 15 rfl rfl)
theorem dX0_takeArcs_16 : decode cX0_takeArcs 16 = .ok (.getfield 52, 3) := dk_180 0 52 (dk_at dksX0_takeArcs_0 16 rfl rfl)
theorem dX0_takeArcs_19 : decode cX0_takeArcs 19 = .ok (.aload_n 0, 1) := dk_42 (dk_at dksX0_takeArcs_0 19 rfl rfl)
theorem dX0_takeArcs_20 : decode cX0_takeArcs 20 = .ok (.getfield 34, 3) := dk_180 0 34 (dk_at dksX0_takeArcs_0 20 rfl rfl)
theorem dX0_takeArcs_23 : decode cX0_takeArcs 23 = .ok (.getfield 38, 3) := dk_180 0 38 (dk_at dksX0_takeArcs_1 0 rfl rfl)
theorem dX0_takeArcs_26 : decode cX0_takeArcs 26 = .ok (.iconst 1, 1) := dk_4 (dk_at dksX0_takeArcs_1 3 rfl rfl)
theorem dX0_takeArcs_27 : decode cX0_takeArcs 27 = .ok (.aload_n 0, 1) := dk_42 (dk_at dksX0_takeArcs_1 4 rfl rfl)
theorem dX0_takeArcs_28 : decode cX0_takeArcs 28 = .ok (.getfield 34, 3) := dk_180 0 34 (dk_at dksX0_takeArcs_1 5 rfl rfl)
theorem dX0_takeArcs_31 : decode cX0_takeArcs 31 = .ok (.getfield 38, 3) := dk_180 0 38 (dk_at dksX0_takeArcs_1 8 rfl rfl)
theorem dX0_takeArcs_34 : decode cX0_takeArcs 34 = .ok (.ishl, 1) := dk_120 (dk_at dksX0_takeArcs_1 11 rfl rfl)
theorem dX0_takeArcs_35 : decode cX0_takeArcs 35 = .ok (.iconst 1, 1) := dk_4 (dk_at dksX0_takeArcs_1 12 rfl rfl)
theorem dX0_takeArcs_36 : decode cX0_takeArcs 36 = .ok (.isub, 1) := dk_100 (dk_at dksX0_takeArcs_1 13 rfl rfl)
theorem dX0_takeArcs_37 : decode cX0_takeArcs 37 = .ok (.aload_n 0, 1) := dk_42 (dk_at dksX0_takeArcs_1 14 rfl rfl)
theorem dX0_takeArcs_38 : decode cX0_takeArcs 38 = .ok (.getfield 34, 3) := dk_180 0 34 (dk_at dksX0_takeArcs_1 15 rfl rfl)
theorem dX0_takeArcs_41 : decode cX0_takeArcs 41 = .ok (.getfield 38, 3) := dk_180 0 38 (dk_at dksX0_takeArcs_1 18 rfl rfl)
theorem dX0_takeArcs_44 : decode cX0_takeArcs 44 = .ok (.isub, 1) := dk_100 (dk_at dksX0_takeArcs_1 21 rfl rfl)
theorem dX0_takeArcs_45 : decode cX0_takeArcs 45 = .ok (.anewarray 56, 3) := dk_189 0 56 (dk_at dksX0_takeArcs_2 0 rfl rfl)
theorem dX0_takeArcs_48 : decode cX0_takeArcs 48 = .ok (.aastore, 1) := dk_83 (dk_at dksX0_takeArcs_2 3 rfl rfl)
theorem dX0_takeArcs_49 : decode cX0_takeArcs 49 = .ok (.aload_n 0, 1) := dk_42 (dk_at dksX0_takeArcs_2 4 rfl rfl)
theorem dX0_takeArcs_50 : decode cX0_takeArcs 50 = .ok (.aload_n 0, 1) := dk_42 (dk_at dksX0_takeArcs_2 5 rfl rfl)
theorem dX0_takeArcs_51 : decode cX0_takeArcs 51 = .ok (.getfield 52, 3) := dk_180 0 52 (dk_at dksX0_takeArcs_2 6 rfl rfl)
theorem dX0_takeArcs_54 : decode cX0_takeArcs 54 = .ok (.aload_n 0, 1) := dk_42 (dk_at dksX0_takeArcs_2 9 rfl rfl)
theorem dX0_takeArcs_55 : decode cX0_takeArcs 55 = .ok (.getfield 34, 3) := dk_180 0 34 (dk_at dksX0_takeArcs_2 10 rfl rfl)
theorem dX0_takeArcs_58 : decode cX0_takeArcs 58 = .ok (.getfield 38, 3) := dk_180 0 38 (dk_at dksX0_takeArcs_2 13 rfl rfl)
theorem dX0_takeArcs_61 : decode cX0_takeArcs 61 = .ok (.aaload, 1) := dk_50 (dk_at dksX0_takeArcs_2 16 rfl rfl)
theorem dX0_takeArcs_62 : decode cX0_takeArcs 62 = .ok (.putfield 44, 3) := dk_181 0 44 (dk_at dksX0_takeArcs_2 17 rfl rfl)
theorem dX0_takeArcs_65 : decode cX0_takeArcs 65 = .ok (.aload_n 0, 1) := dk_42 (dk_at dksX0_takeArcs_2 20 rfl rfl)
theorem dX0_takeArcs_66 : decode cX0_takeArcs 66 = .ok (.invokevirtual 58, 3) := dk_182 0 58 (dk_at dksX0_takeArcs_2 21 rfl rfl)
theorem dX0_takeArcs_69 : decode cX0_takeArcs 69 = .ok (.aload_n 0, 1) := dk_42 (dk_at dksX0_takeArcs_3 0 rfl rfl)
theorem dX0_takeArcs_70 : decode cX0_takeArcs 70 = .ok (.aload_n 0, 1) := dk_42 (dk_at dksX0_takeArcs_3 1 rfl rfl)
theorem dX0_takeArcs_71 : decode cX0_takeArcs 71 = .ok (.getfield 52, 3) := dk_180 0 52 (dk_at dksX0_takeArcs_3 2 rfl rfl)
theorem dX0_takeArcs_74 : decode cX0_takeArcs 74 = .ok (.aload_n 0, 1) := dk_42 (dk_at dksX0_takeArcs_3 5 rfl rfl)
theorem dX0_takeArcs_75 : decode cX0_takeArcs 75 = .ok (.getfield 34, 3) := dk_180 0 34 (dk_at dksX0_takeArcs_3 6 rfl rfl)
theorem dX0_takeArcs_78 : decode cX0_takeArcs 78 = .ok (.getfield 38, 3) := dk_180 0 38 (dk_at dksX0_takeArcs_3 9 rfl rfl)
theorem dX0_takeArcs_81 : decode cX0_takeArcs 81 = .ok (.aaload, 1) := dk_50 (dk_at dksX0_takeArcs_3 12 rfl rfl)
theorem dX0_takeArcs_82 : decode cX0_takeArcs 82 = .ok (.putfield 44, 3) := dk_181 0 44 (dk_at dksX0_takeArcs_3 13 rfl rfl)
theorem dX0_takeArcs_85 : decode cX0_takeArcs 85 = .ok (.return_, 1) := dk_177 (dk_at dksX0_takeArcs_3 16 rfl rfl)
abbrev cX0_makeArcs : ByteArray := prog_1_method_7_code
def yX0_makeArcs : MethodName := ⟨RX0, "makeArcs", "()V"⟩
def dkwX0_makeArcs_7 : List UInt8 := [180, 0, 44, 27, 50, 9, 3, 182, 0, 69, 181, 0, 77, 132, 1, 1, 167, 255, 204, 177]
abbrev dktX0_makeArcs_7 : List UInt8 := dkwX0_makeArcs_7 ++ []
def dkwX0_makeArcs_6 : List UInt8 := [27, 50, 42, 180, 0, 44, 27, 50, 9, 4, 182, 0, 69, 181, 0, 73, 42, 180, 0, 44, 27, 50, 42]
abbrev dktX0_makeArcs_6 : List UInt8 := dkwX0_makeArcs_6 ++ dktX0_makeArcs_7
def dkwX0_makeArcs_5 : List UInt8 := [182, 0, 65, 132, 1, 1, 167, 255, 234, 3, 60, 27, 42, 180, 0, 44, 190, 162, 0, 49, 42, 180, 0, 44]
abbrev dktX0_makeArcs_5 : List UInt8 := dkwX0_makeArcs_5 ++ dktX0_makeArcs_6
def dkwX0_makeArcs_4 : List UInt8 := [132, 1, 1, 167, 255, 163, 3, 60, 27, 42, 180, 0, 44, 190, 162, 0, 19, 42, 42, 180, 0, 44, 27, 50]
abbrev dktX0_makeArcs_4 : List UInt8 := dkwX0_makeArcs_4 ++ dktX0_makeArcs_5
def dkwX0_makeArcs_3 : List UInt8 := [21, 4, 96, 27, 28, 21, 4, 183, 0, 62, 83, 132, 4, 1, 167, 255, 217, 132, 2, 1, 167, 255, 184]
abbrev dktX0_makeArcs_3 : List UInt8 := dkwX0_makeArcs_3 ++ dktX0_makeArcs_4
def dkwX0_makeArcs_2 : List UInt8 := [4, 28, 27, 100, 4, 100, 120, 162, 0, 33, 42, 180, 0, 44, 29, 21, 4, 96, 187, 0, 56, 89, 29]
abbrev dktX0_makeArcs_2 : List UInt8 := dkwX0_makeArcs_2 ++ dktX0_makeArcs_3
def dkwX0_makeArcs_1 : List UInt8 := [180, 0, 38, 163, 0, 67, 27, 28, 42, 180, 0, 34, 180, 0, 38, 184, 0, 48, 62, 3, 54, 4, 21, 4]
abbrev dktX0_makeArcs_1 : List UInt8 := dkwX0_makeArcs_1 ++ dktX0_makeArcs_2
def dkwX0_makeArcs_0 : List UInt8 := [4, 60, 27, 42, 180, 0, 34, 180, 0, 38, 162, 0, 88, 27, 4, 96, 61, 28, 42, 180, 0, 34]
abbrev dktX0_makeArcs_0 : List UInt8 := dkwX0_makeArcs_0 ++ dktX0_makeArcs_1
theorem dksX0_makeArcs_0 : cX0_makeArcs.data.toList.drop 0 = dktX0_makeArcs_0 := by decide +kernel
theorem dksX0_makeArcs_1 : cX0_makeArcs.data.toList.drop 22 = dktX0_makeArcs_1 := dk_seg dksX0_makeArcs_0 22 rfl rfl
theorem dksX0_makeArcs_2 : cX0_makeArcs.data.toList.drop 46 = dktX0_makeArcs_2 := dk_seg dksX0_makeArcs_1 24 rfl rfl
theorem dksX0_makeArcs_3 : cX0_makeArcs.data.toList.drop 69 = dktX0_makeArcs_3 := dk_seg dksX0_makeArcs_2 23 rfl rfl
theorem dksX0_makeArcs_4 : cX0_makeArcs.data.toList.drop 92 = dktX0_makeArcs_4 := dk_seg dksX0_makeArcs_3 23 rfl rfl
theorem dksX0_makeArcs_5 : cX0_makeArcs.data.toList.drop 116 = dktX0_makeArcs_5 := dk_seg dksX0_makeArcs_4 24 rfl rfl
theorem dksX0_makeArcs_6 : cX0_makeArcs.data.toList.drop 140 = dktX0_makeArcs_6 := dk_seg dksX0_makeArcs_5 24 rfl rfl
theorem dksX0_makeArcs_7 : cX0_makeArcs.data.toList.drop 163 = dktX0_makeArcs_7 := dk_seg dksX0_makeArcs_6 23 rfl rfl
theorem dX0_makeArcs_0 : decode cX0_makeArcs 0 = .ok (.iconst 1, 1) := dk_4 (dk_at dksX0_makeArcs_0 0 rfl rfl)
theorem dX0_makeArcs_1 : decode cX0_makeArcs 1 = .ok (.istore_n 1, 1) := dk_60 (dk_at dksX0_makeArcs_0 1 rfl rfl)
theorem dX0_makeArcs_2 : decode cX0_makeArcs 2 = .ok (.iload_n 1, 1) := dk_27 (dk_at dksX0_makeArcs_0 2 rfl rfl)
theorem dX0_makeArcs_3 : decode cX0_makeArcs 3 = .ok (.aload_n 0, 1) := dk_42 (dk_at dksX0_makeArcs_0 3 rfl rfl)
theorem dX0_makeArcs_4 : decode cX0_makeArcs 4 = .ok (.getfield 34, 3) := dk_180 0 34 (dk_at dksX0_makeArcs_0 4 rfl rfl)
theorem dX0_makeArcs_7 : decode cX0_makeArcs 7 = .ok (.getfield 38, 3) := dk_180 0 38 (dk_at dksX0_makeArcs_0 7 rfl rfl)
theorem dX0_makeArcs_10 : decode cX0_makeArcs 10 = .ok (.if_icmp .ge 88, 3) := dk_162 0 88 (dk_at dksX0_makeArcs_0 10 rfl rfl)
theorem dX0_makeArcs_13 : decode cX0_makeArcs 13 = .ok (.iload_n 1, 1) := dk_27 (dk_at dksX0_makeArcs_0 13 rfl rfl)
theorem dX0_makeArcs_14 : decode cX0_makeArcs 14 = .ok (.iconst 1, 1) := dk_4 (dk_at dksX0_makeArcs_0 14 rfl rfl)
theorem dX0_makeArcs_15 : decode cX0_makeArcs 15 = .ok (.iadd, 1) := dk_96 (dk_at dksX0_makeArcs_0 15 rfl rfl)
theorem dX0_makeArcs_16 : decode cX0_makeArcs 16 = .ok (.istore_n 2, 1) := dk_61 (dk_at dksX0_makeArcs_0 16 rfl rfl)
theorem dX0_makeArcs_17 : decode cX0_makeArcs 17 = .ok (.iload_n 2, 1) := dk_28 (dk_at dksX0_makeArcs_0 17 rfl rfl)
theorem dX0_makeArcs_18 : decode cX0_makeArcs 18 = .ok (.aload_n 0, 1) := dk_42 (dk_at dksX0_makeArcs_0 18 rfl rfl)
theorem dX0_makeArcs_19 : decode cX0_makeArcs 19 = .ok (.getfield 34, 3) := dk_180 0 34 (dk_at dksX0_makeArcs_0 19 rfl rfl)
theorem dX0_makeArcs_22 : decode cX0_makeArcs 22 = .ok (.getfield 38, 3) := dk_180 0 38 (dk_at dksX0_makeArcs_1 0 rfl rfl)
theorem dX0_makeArcs_25 : decode cX0_makeArcs 25 = .ok (.if_icmp .gt 67, 3) := dk_163 0 67 (dk_at dksX0_makeArcs_1 3 rfl rfl)
theorem dX0_makeArcs_28 : decode cX0_makeArcs 28 = .ok (.iload_n 1, 1) := dk_27 (dk_at dksX0_makeArcs_1 6 rfl rfl)
theorem dX0_makeArcs_29 : decode cX0_makeArcs 29 = .ok (.iload_n 2, 1) := dk_28 (dk_at dksX0_makeArcs_1 7 rfl rfl)
theorem dX0_makeArcs_30 : decode cX0_makeArcs 30 = .ok (.aload_n 0, 1) := dk_42 (dk_at dksX0_makeArcs_1 8 rfl rfl)
theorem dX0_makeArcs_31 : decode cX0_makeArcs 31 = .ok (.getfield 34, 3) := dk_180 0 34 (dk_at dksX0_makeArcs_1 9 rfl rfl)
theorem dX0_makeArcs_34 : decode cX0_makeArcs 34 = .ok (.getfield 38, 3) := dk_180 0 38 (dk_at dksX0_makeArcs_1 12 rfl rfl)
theorem dX0_makeArcs_37 : decode cX0_makeArcs 37 = .ok (.invokestatic 48, 3) := dk_184 0 48 (dk_at dksX0_makeArcs_1 15 rfl rfl)
theorem dX0_makeArcs_40 : decode cX0_makeArcs 40 = .ok (.istore_n 3, 1) := dk_62 (dk_at dksX0_makeArcs_1 18 rfl rfl)
theorem dX0_makeArcs_41 : decode cX0_makeArcs 41 = .ok (.iconst 0, 1) := dk_3 (dk_at dksX0_makeArcs_1 19 rfl rfl)
theorem dX0_makeArcs_42 : decode cX0_makeArcs 42 = .ok (.istore 4, 2) := dk_54 4 (dk_at dksX0_makeArcs_1 20 rfl rfl)
theorem dX0_makeArcs_44 : decode cX0_makeArcs 44 = .ok (.iload 4, 2) := dk_21 4 (dk_at dksX0_makeArcs_1 22 rfl rfl)
theorem dX0_makeArcs_46 : decode cX0_makeArcs 46 = .ok (.iconst 1, 1) := dk_4 (dk_at dksX0_makeArcs_2 0 rfl rfl)
theorem dX0_makeArcs_47 : decode cX0_makeArcs 47 = .ok (.iload_n 2, 1) := dk_28 (dk_at dksX0_makeArcs_2 1 rfl rfl)
theorem dX0_makeArcs_48 : decode cX0_makeArcs 48 = .ok (.iload_n 1, 1) := dk_27 (dk_at dksX0_makeArcs_2 2 rfl rfl)
theorem dX0_makeArcs_49 : decode cX0_makeArcs 49 = .ok (.isub, 1) := dk_100 (dk_at dksX0_makeArcs_2 3 rfl rfl)
theorem dX0_makeArcs_50 : decode cX0_makeArcs 50 = .ok (.iconst 1, 1) := dk_4 (dk_at dksX0_makeArcs_2 4 rfl rfl)
theorem dX0_makeArcs_51 : decode cX0_makeArcs 51 = .ok (.isub, 1) := dk_100 (dk_at dksX0_makeArcs_2 5 rfl rfl)
theorem dX0_makeArcs_52 : decode cX0_makeArcs 52 = .ok (.ishl, 1) := dk_120 (dk_at dksX0_makeArcs_2 6 rfl rfl)
theorem dX0_makeArcs_53 : decode cX0_makeArcs 53 = .ok (.if_icmp .ge 33, 3) := dk_162 0 33 (dk_at dksX0_makeArcs_2 7 rfl rfl)
theorem dX0_makeArcs_56 : decode cX0_makeArcs 56 = .ok (.aload_n 0, 1) := dk_42 (dk_at dksX0_makeArcs_2 10 rfl rfl)
theorem dX0_makeArcs_57 : decode cX0_makeArcs 57 = .ok (.getfield 44, 3) := dk_180 0 44 (dk_at dksX0_makeArcs_2 11 rfl rfl)
theorem dX0_makeArcs_60 : decode cX0_makeArcs 60 = .ok (.iload_n 3, 1) := dk_29 (dk_at dksX0_makeArcs_2 14 rfl rfl)
theorem dX0_makeArcs_61 : decode cX0_makeArcs 61 = .ok (.iload 4, 2) := dk_21 4 (dk_at dksX0_makeArcs_2 15 rfl rfl)
theorem dX0_makeArcs_63 : decode cX0_makeArcs 63 = .ok (.iadd, 1) := dk_96 (dk_at dksX0_makeArcs_2 17 rfl rfl)
theorem dX0_makeArcs_64 : decode cX0_makeArcs 64 = .ok (.new 56, 3) := dk_187 0 56 (dk_at dksX0_makeArcs_2 18 rfl rfl)
theorem dX0_makeArcs_67 : decode cX0_makeArcs 67 = .ok (.dup, 1) := dk_89 (dk_at dksX0_makeArcs_2 21 rfl rfl)
theorem dX0_makeArcs_68 : decode cX0_makeArcs 68 = .ok (.iload_n 3, 1) := dk_29 (dk_at dksX0_makeArcs_2 22 rfl rfl)
theorem dX0_makeArcs_69 : decode cX0_makeArcs 69 = .ok (.iload 4, 2) := dk_21 4 (dk_at dksX0_makeArcs_3 0 rfl rfl)
theorem dX0_makeArcs_71 : decode cX0_makeArcs 71 = .ok (.iadd, 1) := dk_96 (dk_at dksX0_makeArcs_3 2 rfl rfl)
theorem dX0_makeArcs_72 : decode cX0_makeArcs 72 = .ok (.iload_n 1, 1) := dk_27 (dk_at dksX0_makeArcs_3 3 rfl rfl)
theorem dX0_makeArcs_73 : decode cX0_makeArcs 73 = .ok (.iload_n 2, 1) := dk_28 (dk_at dksX0_makeArcs_3 4 rfl rfl)
theorem dX0_makeArcs_74 : decode cX0_makeArcs 74 = .ok (.iload 4, 2) := dk_21 4 (dk_at dksX0_makeArcs_3 5 rfl rfl)
theorem dX0_makeArcs_76 : decode cX0_makeArcs 76 = .ok (.invokespecial 62, 3) := dk_183 0 62 (dk_at dksX0_makeArcs_3 7 rfl rfl)
theorem dX0_makeArcs_79 : decode cX0_makeArcs 79 = .ok (.aastore, 1) := dk_83 (dk_at dksX0_makeArcs_3 10 rfl rfl)
theorem dX0_makeArcs_80 : decode cX0_makeArcs 80 = .ok (.iinc 4 1, 3) := dk_132 4 1 (dk_at dksX0_makeArcs_3 11 rfl rfl)
theorem dX0_makeArcs_83 : decode cX0_makeArcs 83 = .ok (.goto (-39), 3) := dk_167 255 217 (dk_at dksX0_makeArcs_3 14 rfl rfl)
theorem dX0_makeArcs_86 : decode cX0_makeArcs 86 = .ok (.iinc 2 1, 3) := dk_132 2 1 (dk_at dksX0_makeArcs_3 17 rfl rfl)
theorem dX0_makeArcs_89 : decode cX0_makeArcs 89 = .ok (.goto (-72), 3) := dk_167 255 184 (dk_at dksX0_makeArcs_3 20 rfl rfl)
theorem dX0_makeArcs_92 : decode cX0_makeArcs 92 = .ok (.iinc 1 1, 3) := dk_132 1 1 (dk_at dksX0_makeArcs_4 0 rfl rfl)
theorem dX0_makeArcs_95 : decode cX0_makeArcs 95 = .ok (.goto (-93), 3) := dk_167 255 163 (dk_at dksX0_makeArcs_4 3 rfl rfl)
theorem dX0_makeArcs_98 : decode cX0_makeArcs 98 = .ok (.iconst 0, 1) := dk_3 (dk_at dksX0_makeArcs_4 6 rfl rfl)
theorem dX0_makeArcs_99 : decode cX0_makeArcs 99 = .ok (.istore_n 1, 1) := dk_60 (dk_at dksX0_makeArcs_4 7 rfl rfl)
theorem dX0_makeArcs_100 : decode cX0_makeArcs 100 = .ok (.iload_n 1, 1) := dk_27 (dk_at dksX0_makeArcs_4 8 rfl rfl)
theorem dX0_makeArcs_101 : decode cX0_makeArcs 101 = .ok (.aload_n 0, 1) := dk_42 (dk_at dksX0_makeArcs_4 9 rfl rfl)
theorem dX0_makeArcs_102 : decode cX0_makeArcs 102 = .ok (.getfield 44, 3) := dk_180 0 44 (dk_at dksX0_makeArcs_4 10 rfl rfl)
theorem dX0_makeArcs_105 : decode cX0_makeArcs 105 = .ok (.arraylength, 1) := dk_190 (dk_at dksX0_makeArcs_4 13 rfl rfl)
theorem dX0_makeArcs_106 : decode cX0_makeArcs 106 = .ok (.if_icmp .ge 19, 3) := dk_162 0 19 (dk_at dksX0_makeArcs_4 14 rfl rfl)
theorem dX0_makeArcs_109 : decode cX0_makeArcs 109 = .ok (.aload_n 0, 1) := dk_42 (dk_at dksX0_makeArcs_4 17 rfl rfl)
theorem dX0_makeArcs_110 : decode cX0_makeArcs 110 = .ok (.aload_n 0, 1) := dk_42 (dk_at dksX0_makeArcs_4 18 rfl rfl)
theorem dX0_makeArcs_111 : decode cX0_makeArcs 111 = .ok (.getfield 44, 3) := dk_180 0 44 (dk_at dksX0_makeArcs_4 19 rfl rfl)
theorem dX0_makeArcs_114 : decode cX0_makeArcs 114 = .ok (.iload_n 1, 1) := dk_27 (dk_at dksX0_makeArcs_4 22 rfl rfl)
theorem dX0_makeArcs_115 : decode cX0_makeArcs 115 = .ok (.aaload, 1) := dk_50 (dk_at dksX0_makeArcs_4 23 rfl rfl)
theorem dX0_makeArcs_116 : decode cX0_makeArcs 116 = .ok (.invokevirtual 65, 3) := dk_182 0 65 (dk_at dksX0_makeArcs_5 0 rfl rfl)
theorem dX0_makeArcs_119 : decode cX0_makeArcs 119 = .ok (.iinc 1 1, 3) := dk_132 1 1 (dk_at dksX0_makeArcs_5 3 rfl rfl)
theorem dX0_makeArcs_122 : decode cX0_makeArcs 122 = .ok (.goto (-22), 3) := dk_167 255 234 (dk_at dksX0_makeArcs_5 6 rfl rfl)
theorem dX0_makeArcs_125 : decode cX0_makeArcs 125 = .ok (.iconst 0, 1) := dk_3 (dk_at dksX0_makeArcs_5 9 rfl rfl)
theorem dX0_makeArcs_126 : decode cX0_makeArcs 126 = .ok (.istore_n 1, 1) := dk_60 (dk_at dksX0_makeArcs_5 10 rfl rfl)
theorem dX0_makeArcs_127 : decode cX0_makeArcs 127 = .ok (.iload_n 1, 1) := dk_27 (dk_at dksX0_makeArcs_5 11 rfl rfl)
theorem dX0_makeArcs_128 : decode cX0_makeArcs 128 = .ok (.aload_n 0, 1) := dk_42 (dk_at dksX0_makeArcs_5 12 rfl rfl)
theorem dX0_makeArcs_129 : decode cX0_makeArcs 129 = .ok (.getfield 44, 3) := dk_180 0 44 (dk_at dksX0_makeArcs_5 13 rfl rfl)
theorem dX0_makeArcs_132 : decode cX0_makeArcs 132 = .ok (.arraylength, 1) := dk_190 (dk_at dksX0_makeArcs_5 16 rfl rfl)
theorem dX0_makeArcs_133 : decode cX0_makeArcs 133 = .ok (.if_icmp .ge 49, 3) := dk_162 0 49 (dk_at dksX0_makeArcs_5 17 rfl rfl)
theorem dX0_makeArcs_136 : decode cX0_makeArcs 136 = .ok (.aload_n 0, 1) := dk_42 (dk_at dksX0_makeArcs_5 20 rfl rfl)
theorem dX0_makeArcs_137 : decode cX0_makeArcs 137 = .ok (.getfield 44, 3) := dk_180 0 44 (dk_at dksX0_makeArcs_5 21 rfl rfl)
theorem dX0_makeArcs_140 : decode cX0_makeArcs 140 = .ok (.iload_n 1, 1) := dk_27 (dk_at dksX0_makeArcs_6 0 rfl rfl)
theorem dX0_makeArcs_141 : decode cX0_makeArcs 141 = .ok (.aaload, 1) := dk_50 (dk_at dksX0_makeArcs_6 1 rfl rfl)
theorem dX0_makeArcs_142 : decode cX0_makeArcs 142 = .ok (.aload_n 0, 1) := dk_42 (dk_at dksX0_makeArcs_6 2 rfl rfl)
theorem dX0_makeArcs_143 : decode cX0_makeArcs 143 = .ok (.getfield 44, 3) := dk_180 0 44 (dk_at dksX0_makeArcs_6 3 rfl rfl)
theorem dX0_makeArcs_146 : decode cX0_makeArcs 146 = .ok (.iload_n 1, 1) := dk_27 (dk_at dksX0_makeArcs_6 6 rfl rfl)
theorem dX0_makeArcs_147 : decode cX0_makeArcs 147 = .ok (.aaload, 1) := dk_50 (dk_at dksX0_makeArcs_6 7 rfl rfl)
theorem dX0_makeArcs_148 : decode cX0_makeArcs 148 = .ok (.lconst 0, 1) := dk_9 (dk_at dksX0_makeArcs_6 8 rfl rfl)
theorem dX0_makeArcs_149 : decode cX0_makeArcs 149 = .ok (.iconst 1, 1) := dk_4 (dk_at dksX0_makeArcs_6 9 rfl rfl)
theorem dX0_makeArcs_150 : decode cX0_makeArcs 150 = .ok (.invokevirtual 69, 3) := dk_182 0 69 (dk_at dksX0_makeArcs_6 10 rfl rfl)
theorem dX0_makeArcs_153 : decode cX0_makeArcs 153 = .ok (.putfield 73, 3) := dk_181 0 73 (dk_at dksX0_makeArcs_6 13 rfl rfl)
theorem dX0_makeArcs_156 : decode cX0_makeArcs 156 = .ok (.aload_n 0, 1) := dk_42 (dk_at dksX0_makeArcs_6 16 rfl rfl)
theorem dX0_makeArcs_157 : decode cX0_makeArcs 157 = .ok (.getfield 44, 3) := dk_180 0 44 (dk_at dksX0_makeArcs_6 17 rfl rfl)
theorem dX0_makeArcs_160 : decode cX0_makeArcs 160 = .ok (.iload_n 1, 1) := dk_27 (dk_at dksX0_makeArcs_6 20 rfl rfl)
theorem dX0_makeArcs_161 : decode cX0_makeArcs 161 = .ok (.aaload, 1) := dk_50 (dk_at dksX0_makeArcs_6 21 rfl rfl)
theorem dX0_makeArcs_162 : decode cX0_makeArcs 162 = .ok (.aload_n 0, 1) := dk_42 (dk_at dksX0_makeArcs_6 22 rfl rfl)
theorem dX0_makeArcs_163 : decode cX0_makeArcs 163 = .ok (.getfield 44, 3) := dk_180 0 44 (dk_at dksX0_makeArcs_7 0 rfl rfl)
theorem dX0_makeArcs_166 : decode cX0_makeArcs 166 = .ok (.iload_n 1, 1) := dk_27 (dk_at dksX0_makeArcs_7 3 rfl rfl)
theorem dX0_makeArcs_167 : decode cX0_makeArcs 167 = .ok (.aaload, 1) := dk_50 (dk_at dksX0_makeArcs_7 4 rfl rfl)
theorem dX0_makeArcs_168 : decode cX0_makeArcs 168 = .ok (.lconst 0, 1) := dk_9 (dk_at dksX0_makeArcs_7 5 rfl rfl)
theorem dX0_makeArcs_169 : decode cX0_makeArcs 169 = .ok (.iconst 0, 1) := dk_3 (dk_at dksX0_makeArcs_7 6 rfl rfl)
theorem dX0_makeArcs_170 : decode cX0_makeArcs 170 = .ok (.invokevirtual 69, 3) := dk_182 0 69 (dk_at dksX0_makeArcs_7 7 rfl rfl)
theorem dX0_makeArcs_173 : decode cX0_makeArcs 173 = .ok (.putfield 77, 3) := dk_181 0 77 (dk_at dksX0_makeArcs_7 10 rfl rfl)
theorem dX0_makeArcs_176 : decode cX0_makeArcs 176 = .ok (.iinc 1 1, 3) := dk_132 1 1 (dk_at dksX0_makeArcs_7 13 rfl rfl)
theorem dX0_makeArcs_179 : decode cX0_makeArcs 179 = .ok (.goto (-52), 3) := dk_167 255 204 (dk_at dksX0_makeArcs_7 16 rfl rfl)
theorem dX0_makeArcs_182 : decode cX0_makeArcs 182 = .ok (.return_, 1) := dk_177 (dk_at dksX0_makeArcs_7 19 rfl rfl)
abbrev cX0_firstOf : ByteArray := prog_1_method_4_code
def yX0_firstOf : MethodName := ⟨RX0, "firstOf", "(III)I"⟩
def dkwX0_firstOf_1 : List UInt8 := [132, 4, 1, 167, 255, 236, 29, 4, 27, 26, 100, 4, 100, 120, 96, 4, 100, 172]
abbrev dktX0_firstOf_1 : List UInt8 := dkwX0_firstOf_1 ++ []
def dkwX0_firstOf_0 : List UInt8 := [3, 62, 4, 54, 4, 21, 4, 26, 162, 0, 20, 29, 4, 28, 21, 4, 100, 120, 4, 100, 96, 62]
abbrev dktX0_firstOf_0 : List UInt8 := dkwX0_firstOf_0 ++ dktX0_firstOf_1
theorem dksX0_firstOf_0 : cX0_firstOf.data.toList.drop 0 = dktX0_firstOf_0 := by decide +kernel
theorem dksX0_firstOf_1 : cX0_firstOf.data.toList.drop 22 = dktX0_firstOf_1 := dk_seg dksX0_firstOf_0 22 rfl rfl
theorem dX0_firstOf_0 : decode cX0_firstOf 0 = .ok (.iconst 0, 1) := dk_3 (dk_at dksX0_firstOf_0 0 rfl rfl)
theorem dX0_firstOf_1 : decode cX0_firstOf 1 = .ok (.istore_n 3, 1) := dk_62 (dk_at dksX0_firstOf_0 1 rfl rfl)
theorem dX0_firstOf_2 : decode cX0_firstOf 2 = .ok (.iconst 1, 1) := dk_4 (dk_at dksX0_firstOf_0 2 rfl rfl)
theorem dX0_firstOf_3 : decode cX0_firstOf 3 = .ok (.istore 4, 2) := dk_54 4 (dk_at dksX0_firstOf_0 3 rfl rfl)
theorem dX0_firstOf_5 : decode cX0_firstOf 5 = .ok (.iload 4, 2) := dk_21 4 (dk_at dksX0_firstOf_0 5 rfl rfl)
theorem dX0_firstOf_7 : decode cX0_firstOf 7 = .ok (.iload_n 0, 1) := dk_26 (dk_at dksX0_firstOf_0 7 rfl rfl)
theorem dX0_firstOf_8 : decode cX0_firstOf 8 = .ok (.if_icmp .ge 20, 3) := dk_162 0 20 (dk_at dksX0_firstOf_0 8 rfl rfl)
theorem dX0_firstOf_11 : decode cX0_firstOf 11 = .ok (.iload_n 3, 1) := dk_29 (dk_at dksX0_firstOf_0 11 rfl rfl)
theorem dX0_firstOf_12 : decode cX0_firstOf 12 = .ok (.iconst 1, 1) := dk_4 (dk_at dksX0_firstOf_0 12 rfl rfl)
theorem dX0_firstOf_13 : decode cX0_firstOf 13 = .ok (.iload_n 2, 1) := dk_28 (dk_at dksX0_firstOf_0 13 rfl rfl)
theorem dX0_firstOf_14 : decode cX0_firstOf 14 = .ok (.iload 4, 2) := dk_21 4 (dk_at dksX0_firstOf_0 14 rfl rfl)
theorem dX0_firstOf_16 : decode cX0_firstOf 16 = .ok (.isub, 1) := dk_100 (dk_at dksX0_firstOf_0 16 rfl rfl)
theorem dX0_firstOf_17 : decode cX0_firstOf 17 = .ok (.ishl, 1) := dk_120 (dk_at dksX0_firstOf_0 17 rfl rfl)
theorem dX0_firstOf_18 : decode cX0_firstOf 18 = .ok (.iconst 1, 1) := dk_4 (dk_at dksX0_firstOf_0 18 rfl rfl)
theorem dX0_firstOf_19 : decode cX0_firstOf 19 = .ok (.isub, 1) := dk_100 (dk_at dksX0_firstOf_0 19 rfl rfl)
theorem dX0_firstOf_20 : decode cX0_firstOf 20 = .ok (.iadd, 1) := dk_96 (dk_at dksX0_firstOf_0 20 rfl rfl)
theorem dX0_firstOf_21 : decode cX0_firstOf 21 = .ok (.istore_n 3, 1) := dk_62 (dk_at dksX0_firstOf_0 21 rfl rfl)
theorem dX0_firstOf_22 : decode cX0_firstOf 22 = .ok (.iinc 4 1, 3) := dk_132 4 1 (dk_at dksX0_firstOf_1 0 rfl rfl)
theorem dX0_firstOf_25 : decode cX0_firstOf 25 = .ok (.goto (-20), 3) := dk_167 255 236 (dk_at dksX0_firstOf_1 3 rfl rfl)
theorem dX0_firstOf_28 : decode cX0_firstOf 28 = .ok (.iload_n 3, 1) := dk_29 (dk_at dksX0_firstOf_1 6 rfl rfl)
theorem dX0_firstOf_29 : decode cX0_firstOf 29 = .ok (.iconst 1, 1) := dk_4 (dk_at dksX0_firstOf_1 7 rfl rfl)
theorem dX0_firstOf_30 : decode cX0_firstOf 30 = .ok (.iload_n 1, 1) := dk_27 (dk_at dksX0_firstOf_1 8 rfl rfl)
theorem dX0_firstOf_31 : decode cX0_firstOf 31 = .ok (.iload_n 0, 1) := dk_26 (dk_at dksX0_firstOf_1 9 rfl rfl)
theorem dX0_firstOf_32 : decode cX0_firstOf 32 = .ok (.isub, 1) := dk_100 (dk_at dksX0_firstOf_1 10 rfl rfl)
theorem dX0_firstOf_33 : decode cX0_firstOf 33 = .ok (.iconst 1, 1) := dk_4 (dk_at dksX0_firstOf_1 11 rfl rfl)
theorem dX0_firstOf_34 : decode cX0_firstOf 34 = .ok (.isub, 1) := dk_100 (dk_at dksX0_firstOf_1 12 rfl rfl)
theorem dX0_firstOf_35 : decode cX0_firstOf 35 = .ok (.ishl, 1) := dk_120 (dk_at dksX0_firstOf_1 13 rfl rfl)
theorem dX0_firstOf_36 : decode cX0_firstOf 36 = .ok (.iadd, 1) := dk_96 (dk_at dksX0_firstOf_1 14 rfl rfl)
theorem dX0_firstOf_37 : decode cX0_firstOf 37 = .ok (.iconst 1, 1) := dk_4 (dk_at dksX0_firstOf_1 15 rfl rfl)
theorem dX0_firstOf_38 : decode cX0_firstOf 38 = .ok (.isub, 1) := dk_100 (dk_at dksX0_firstOf_1 16 rfl rfl)
theorem dX0_firstOf_39 : decode cX0_firstOf 39 = .ok (.ireturn, 1) := dk_172 (dk_at dksX0_firstOf_1 17 rfl rfl)
abbrev cX0_link : ByteArray := prog_1_method_8_code
def yX0_link : MethodName := ⟨RX0, "link", "(LCoarserOrders$Arc;)V"⟩
def dkwX0_link_7 : List UInt8 := [181, 0, 109, 177]
abbrev dktX0_link_7 : List UInt8 := dkwX0_link_7 ++ []
def dkwX0_link_6 : List UInt8 := [42, 43, 180, 0, 83, 43, 180, 0, 80, 4, 100, 43, 180, 0, 86, 28, 4, 122, 4, 100, 126, 182, 0, 89]
abbrev dktX0_link_6 : List UInt8 := dkwX0_link_6 ++ dktX0_link_7
def dkwX0_link_5 : List UInt8 := [42, 43, 180, 0, 83, 4, 96, 43, 180, 0, 80, 43, 180, 0, 86, 4, 122, 182, 0, 89, 181, 0, 106, 43]
abbrev dktX0_link_5 : List UInt8 := dkwX0_link_5 ++ dktX0_link_6
def dkwX0_link_4 : List UInt8 := [180, 0, 80, 4, 96, 43, 180, 0, 86, 28, 128, 182, 0, 89, 181, 0, 103, 28, 4, 160, 0, 4, 177, 43]
abbrev dktX0_link_4 : List UInt8 := dkwX0_link_4 ++ dktX0_link_5
def dkwX0_link_3 : List UInt8 := [180, 0, 80, 4, 96, 43, 180, 0, 86, 182, 0, 89, 181, 0, 100, 43, 42, 43, 180, 0, 83, 43]
abbrev dktX0_link_3 : List UInt8 := dkwX0_link_3 ++ dktX0_link_4
def dkwX0_link_2 : List UInt8 := [180, 0, 80, 5, 43, 180, 0, 86, 104, 4, 96, 182, 0, 89, 181, 0, 97, 43, 42, 43, 180, 0, 83, 43]
abbrev dktX0_link_2 : List UInt8 := dkwX0_link_2 ++ dktX0_link_3
def dkwX0_link_1 : List UInt8 := [180, 0, 80, 5, 43, 180, 0, 86, 104, 182, 0, 89, 181, 0, 93, 43, 42, 43, 180, 0, 83, 4, 100, 43]
abbrev dktX0_link_1 : List UInt8 := dkwX0_link_1 ++ dktX0_link_2
def dkwX0_link_0 : List UInt8 := [4, 43, 180, 0, 80, 43, 180, 0, 83, 100, 4, 100, 120, 61, 43, 42, 43, 180, 0, 83, 4, 100, 43]
abbrev dktX0_link_0 : List UInt8 := dkwX0_link_0 ++ dktX0_link_1
theorem dksX0_link_0 : cX0_link.data.toList.drop 0 = dktX0_link_0 := by decide +kernel
theorem dksX0_link_1 : cX0_link.data.toList.drop 23 = dktX0_link_1 := dk_seg dksX0_link_0 23 rfl rfl
theorem dksX0_link_2 : cX0_link.data.toList.drop 47 = dktX0_link_2 := dk_seg dksX0_link_1 24 rfl rfl
theorem dksX0_link_3 : cX0_link.data.toList.drop 71 = dktX0_link_3 := dk_seg dksX0_link_2 24 rfl rfl
theorem dksX0_link_4 : cX0_link.data.toList.drop 93 = dktX0_link_4 := dk_seg dksX0_link_3 22 rfl rfl
theorem dksX0_link_5 : cX0_link.data.toList.drop 117 = dktX0_link_5 := dk_seg dksX0_link_4 24 rfl rfl
theorem dksX0_link_6 : cX0_link.data.toList.drop 141 = dktX0_link_6 := dk_seg dksX0_link_5 24 rfl rfl
theorem dksX0_link_7 : cX0_link.data.toList.drop 165 = dktX0_link_7 := dk_seg dksX0_link_6 24 rfl rfl
theorem dX0_link_0 : decode cX0_link 0 = .ok (.iconst 1, 1) := dk_4 (dk_at dksX0_link_0 0 rfl rfl)
theorem dX0_link_1 : decode cX0_link 1 = .ok (.aload_n 1, 1) := dk_43 (dk_at dksX0_link_0 1 rfl rfl)
theorem dX0_link_2 : decode cX0_link 2 = .ok (.getfield 80, 3) := dk_180 0 80 (dk_at dksX0_link_0 2 rfl rfl)
theorem dX0_link_5 : decode cX0_link 5 = .ok (.aload_n 1, 1) := dk_43 (dk_at dksX0_link_0 5 rfl rfl)
theorem dX0_link_6 : decode cX0_link 6 = .ok (.getfield 83, 3) := dk_180 0 83 (dk_at dksX0_link_0 6 rfl rfl)
theorem dX0_link_9 : decode cX0_link 9 = .ok (.isub, 1) := dk_100 (dk_at dksX0_link_0 9 rfl rfl)
theorem dX0_link_10 : decode cX0_link 10 = .ok (.iconst 1, 1) := dk_4 (dk_at dksX0_link_0 10 rfl rfl)
theorem dX0_link_11 : decode cX0_link 11 = .ok (.isub, 1) := dk_100 (dk_at dksX0_link_0 11 rfl rfl)
theorem dX0_link_12 : decode cX0_link 12 = .ok (.ishl, 1) := dk_120 (dk_at dksX0_link_0 12 rfl rfl)
theorem dX0_link_13 : decode cX0_link 13 = .ok (.istore_n 2, 1) := dk_61 (dk_at dksX0_link_0 13 rfl rfl)
theorem dX0_link_14 : decode cX0_link 14 = .ok (.aload_n 1, 1) := dk_43 (dk_at dksX0_link_0 14 rfl rfl)
theorem dX0_link_15 : decode cX0_link 15 = .ok (.aload_n 0, 1) := dk_42 (dk_at dksX0_link_0 15 rfl rfl)
theorem dX0_link_16 : decode cX0_link 16 = .ok (.aload_n 1, 1) := dk_43 (dk_at dksX0_link_0 16 rfl rfl)
theorem dX0_link_17 : decode cX0_link 17 = .ok (.getfield 83, 3) := dk_180 0 83 (dk_at dksX0_link_0 17 rfl rfl)
theorem dX0_link_20 : decode cX0_link 20 = .ok (.iconst 1, 1) := dk_4 (dk_at dksX0_link_0 20 rfl rfl)
theorem dX0_link_21 : decode cX0_link 21 = .ok (.isub, 1) := dk_100 (dk_at dksX0_link_0 21 rfl rfl)
theorem dX0_link_22 : decode cX0_link 22 = .ok (.aload_n 1, 1) := dk_43 (dk_at dksX0_link_0 22 rfl rfl)
theorem dX0_link_23 : decode cX0_link 23 = .ok (.getfield 80, 3) := dk_180 0 80 (dk_at dksX0_link_1 0 rfl rfl)
theorem dX0_link_26 : decode cX0_link 26 = .ok (.iconst 2, 1) := dk_5 (dk_at dksX0_link_1 3 rfl rfl)
theorem dX0_link_27 : decode cX0_link 27 = .ok (.aload_n 1, 1) := dk_43 (dk_at dksX0_link_1 4 rfl rfl)
theorem dX0_link_28 : decode cX0_link 28 = .ok (.getfield 86, 3) := dk_180 0 86 (dk_at dksX0_link_1 5 rfl rfl)
theorem dX0_link_31 : decode cX0_link 31 = .ok (.imul, 1) := dk_104 (dk_at dksX0_link_1 8 rfl rfl)
theorem dX0_link_32 : decode cX0_link 32 = .ok (.invokevirtual 89, 3) := dk_182 0 89 (dk_at dksX0_link_1 9 rfl rfl)
theorem dX0_link_35 : decode cX0_link 35 = .ok (.putfield 93, 3) := dk_181 0 93 (dk_at dksX0_link_1 12 rfl rfl)
theorem dX0_link_38 : decode cX0_link 38 = .ok (.aload_n 1, 1) := dk_43 (dk_at dksX0_link_1 15 rfl rfl)
theorem dX0_link_39 : decode cX0_link 39 = .ok (.aload_n 0, 1) := dk_42 (dk_at dksX0_link_1 16 rfl rfl)
theorem dX0_link_40 : decode cX0_link 40 = .ok (.aload_n 1, 1) := dk_43 (dk_at dksX0_link_1 17 rfl rfl)
theorem dX0_link_41 : decode cX0_link 41 = .ok (.getfield 83, 3) := dk_180 0 83 (dk_at dksX0_link_1 18 rfl rfl)
theorem dX0_link_44 : decode cX0_link 44 = .ok (.iconst 1, 1) := dk_4 (dk_at dksX0_link_1 21 rfl rfl)
theorem dX0_link_45 : decode cX0_link 45 = .ok (.isub, 1) := dk_100 (dk_at dksX0_link_1 22 rfl rfl)
theorem dX0_link_46 : decode cX0_link 46 = .ok (.aload_n 1, 1) := dk_43 (dk_at dksX0_link_1 23 rfl rfl)
theorem dX0_link_47 : decode cX0_link 47 = .ok (.getfield 80, 3) := dk_180 0 80 (dk_at dksX0_link_2 0 rfl rfl)
theorem dX0_link_50 : decode cX0_link 50 = .ok (.iconst 2, 1) := dk_5 (dk_at dksX0_link_2 3 rfl rfl)
theorem dX0_link_51 : decode cX0_link 51 = .ok (.aload_n 1, 1) := dk_43 (dk_at dksX0_link_2 4 rfl rfl)
theorem dX0_link_52 : decode cX0_link 52 = .ok (.getfield 86, 3) := dk_180 0 86 (dk_at dksX0_link_2 5 rfl rfl)
theorem dX0_link_55 : decode cX0_link 55 = .ok (.imul, 1) := dk_104 (dk_at dksX0_link_2 8 rfl rfl)
theorem dX0_link_56 : decode cX0_link 56 = .ok (.iconst 1, 1) := dk_4 (dk_at dksX0_link_2 9 rfl rfl)
theorem dX0_link_57 : decode cX0_link 57 = .ok (.iadd, 1) := dk_96 (dk_at dksX0_link_2 10 rfl rfl)
theorem dX0_link_58 : decode cX0_link 58 = .ok (.invokevirtual 89, 3) := dk_182 0 89 (dk_at dksX0_link_2 11 rfl rfl)
theorem dX0_link_61 : decode cX0_link 61 = .ok (.putfield 97, 3) := dk_181 0 97 (dk_at dksX0_link_2 14 rfl rfl)
theorem dX0_link_64 : decode cX0_link 64 = .ok (.aload_n 1, 1) := dk_43 (dk_at dksX0_link_2 17 rfl rfl)
theorem dX0_link_65 : decode cX0_link 65 = .ok (.aload_n 0, 1) := dk_42 (dk_at dksX0_link_2 18 rfl rfl)
theorem dX0_link_66 : decode cX0_link 66 = .ok (.aload_n 1, 1) := dk_43 (dk_at dksX0_link_2 19 rfl rfl)
theorem dX0_link_67 : decode cX0_link 67 = .ok (.getfield 83, 3) := dk_180 0 83 (dk_at dksX0_link_2 20 rfl rfl)
theorem dX0_link_70 : decode cX0_link 70 = .ok (.aload_n 1, 1) := dk_43 (dk_at dksX0_link_2 23 rfl rfl)
theorem dX0_link_71 : decode cX0_link 71 = .ok (.getfield 80, 3) := dk_180 0 80 (dk_at dksX0_link_3 0 rfl rfl)
theorem dX0_link_74 : decode cX0_link 74 = .ok (.iconst 1, 1) := dk_4 (dk_at dksX0_link_3 3 rfl rfl)
theorem dX0_link_75 : decode cX0_link 75 = .ok (.iadd, 1) := dk_96 (dk_at dksX0_link_3 4 rfl rfl)
theorem dX0_link_76 : decode cX0_link 76 = .ok (.aload_n 1, 1) := dk_43 (dk_at dksX0_link_3 5 rfl rfl)
theorem dX0_link_77 : decode cX0_link 77 = .ok (.getfield 86, 3) := dk_180 0 86 (dk_at dksX0_link_3 6 rfl rfl)
theorem dX0_link_80 : decode cX0_link 80 = .ok (.invokevirtual 89, 3) := dk_182 0 89 (dk_at dksX0_link_3 9 rfl rfl)
theorem dX0_link_83 : decode cX0_link 83 = .ok (.putfield 100, 3) := dk_181 0 100 (dk_at dksX0_link_3 12 rfl rfl)
theorem dX0_link_86 : decode cX0_link 86 = .ok (.aload_n 1, 1) := dk_43 (dk_at dksX0_link_3 15 rfl rfl)
theorem dX0_link_87 : decode cX0_link 87 = .ok (.aload_n 0, 1) := dk_42 (dk_at dksX0_link_3 16 rfl rfl)
theorem dX0_link_88 : decode cX0_link 88 = .ok (.aload_n 1, 1) := dk_43 (dk_at dksX0_link_3 17 rfl rfl)
theorem dX0_link_89 : decode cX0_link 89 = .ok (.getfield 83, 3) := dk_180 0 83 (dk_at dksX0_link_3 18 rfl rfl)
theorem dX0_link_92 : decode cX0_link 92 = .ok (.aload_n 1, 1) := dk_43 (dk_at dksX0_link_3 21 rfl rfl)
theorem dX0_link_93 : decode cX0_link 93 = .ok (.getfield 80, 3) := dk_180 0 80 (dk_at dksX0_link_4 0 rfl rfl)
theorem dX0_link_96 : decode cX0_link 96 = .ok (.iconst 1, 1) := dk_4 (dk_at dksX0_link_4 3 rfl rfl)
theorem dX0_link_97 : decode cX0_link 97 = .ok (.iadd, 1) := dk_96 (dk_at dksX0_link_4 4 rfl rfl)
theorem dX0_link_98 : decode cX0_link 98 = .ok (.aload_n 1, 1) := dk_43 (dk_at dksX0_link_4 5 rfl rfl)
theorem dX0_link_99 : decode cX0_link 99 = .ok (.getfield 86, 3) := dk_180 0 86 (dk_at dksX0_link_4 6 rfl rfl)
theorem dX0_link_102 : decode cX0_link 102 = .ok (.iload_n 2, 1) := dk_28 (dk_at dksX0_link_4 9 rfl rfl)
theorem dX0_link_103 : decode cX0_link 103 = .ok (.ior, 1) := dk_128 (dk_at dksX0_link_4 10 rfl rfl)
theorem dX0_link_104 : decode cX0_link 104 = .ok (.invokevirtual 89, 3) := dk_182 0 89 (dk_at dksX0_link_4 11 rfl rfl)
theorem dX0_link_107 : decode cX0_link 107 = .ok (.putfield 103, 3) := dk_181 0 103 (dk_at dksX0_link_4 14 rfl rfl)
theorem dX0_link_110 : decode cX0_link 110 = .ok (.iload_n 2, 1) := dk_28 (dk_at dksX0_link_4 17 rfl rfl)
theorem dX0_link_111 : decode cX0_link 111 = .ok (.iconst 1, 1) := dk_4 (dk_at dksX0_link_4 18 rfl rfl)
theorem dX0_link_112 : decode cX0_link 112 = .ok (.if_icmp .ne 4, 3) := dk_160 0 4 (dk_at dksX0_link_4 19 rfl rfl)
theorem dX0_link_115 : decode cX0_link 115 = .ok (.return_, 1) := dk_177 (dk_at dksX0_link_4 22 rfl rfl)
theorem dX0_link_116 : decode cX0_link 116 = .ok (.aload_n 1, 1) := dk_43 (dk_at dksX0_link_4 23 rfl rfl)
theorem dX0_link_117 : decode cX0_link 117 = .ok (.aload_n 0, 1) := dk_42 (dk_at dksX0_link_5 0 rfl rfl)
theorem dX0_link_118 : decode cX0_link 118 = .ok (.aload_n 1, 1) := dk_43 (dk_at dksX0_link_5 1 rfl rfl)
theorem dX0_link_119 : decode cX0_link 119 = .ok (.getfield 83, 3) := dk_180 0 83 (dk_at dksX0_link_5 2 rfl rfl)
theorem dX0_link_122 : decode cX0_link 122 = .ok (.iconst 1, 1) := dk_4 (dk_at dksX0_link_5 5 rfl rfl)
theorem dX0_link_123 : decode cX0_link 123 = .ok (.iadd, 1) := dk_96 (dk_at dksX0_link_5 6 rfl rfl)
theorem dX0_link_124 : decode cX0_link 124 = .ok (.aload_n 1, 1) := dk_43 (dk_at dksX0_link_5 7 rfl rfl)
theorem dX0_link_125 : decode cX0_link 125 = .ok (.getfield 80, 3) := dk_180 0 80 (dk_at dksX0_link_5 8 rfl rfl)
theorem dX0_link_128 : decode cX0_link 128 = .ok (.aload_n 1, 1) := dk_43 (dk_at dksX0_link_5 11 rfl rfl)
theorem dX0_link_129 : decode cX0_link 129 = .ok (.getfield 86, 3) := dk_180 0 86 (dk_at dksX0_link_5 12 rfl rfl)
theorem dX0_link_132 : decode cX0_link 132 = .ok (.iconst 1, 1) := dk_4 (dk_at dksX0_link_5 15 rfl rfl)
theorem dX0_link_133 : decode cX0_link 133 = .ok (.ishr, 1) := dk_122 (dk_at dksX0_link_5 16 rfl rfl)
theorem dX0_link_134 : decode cX0_link 134 = .ok (.invokevirtual 89, 3) := dk_182 0 89 (dk_at dksX0_link_5 17 rfl rfl)
theorem dX0_link_137 : decode cX0_link 137 = .ok (.putfield 106, 3) := dk_181 0 106 (dk_at dksX0_link_5 20 rfl rfl)
theorem dX0_link_140 : decode cX0_link 140 = .ok (.aload_n 1, 1) := dk_43 (dk_at dksX0_link_5 23 rfl rfl)
theorem dX0_link_141 : decode cX0_link 141 = .ok (.aload_n 0, 1) := dk_42 (dk_at dksX0_link_6 0 rfl rfl)
theorem dX0_link_142 : decode cX0_link 142 = .ok (.aload_n 1, 1) := dk_43 (dk_at dksX0_link_6 1 rfl rfl)
theorem dX0_link_143 : decode cX0_link 143 = .ok (.getfield 83, 3) := dk_180 0 83 (dk_at dksX0_link_6 2 rfl rfl)
theorem dX0_link_146 : decode cX0_link 146 = .ok (.aload_n 1, 1) := dk_43 (dk_at dksX0_link_6 5 rfl rfl)
theorem dX0_link_147 : decode cX0_link 147 = .ok (.getfield 80, 3) := dk_180 0 80 (dk_at dksX0_link_6 6 rfl rfl)
theorem dX0_link_150 : decode cX0_link 150 = .ok (.iconst 1, 1) := dk_4 (dk_at dksX0_link_6 9 rfl rfl)
theorem dX0_link_151 : decode cX0_link 151 = .ok (.isub, 1) := dk_100 (dk_at dksX0_link_6 10 rfl rfl)
theorem dX0_link_152 : decode cX0_link 152 = .ok (.aload_n 1, 1) := dk_43 (dk_at dksX0_link_6 11 rfl rfl)
theorem dX0_link_153 : decode cX0_link 153 = .ok (.getfield 86, 3) := dk_180 0 86 (dk_at dksX0_link_6 12 rfl rfl)
theorem dX0_link_156 : decode cX0_link 156 = .ok (.iload_n 2, 1) := dk_28 (dk_at dksX0_link_6 15 rfl rfl)
theorem dX0_link_157 : decode cX0_link 157 = .ok (.iconst 1, 1) := dk_4 (dk_at dksX0_link_6 16 rfl rfl)
theorem dX0_link_158 : decode cX0_link 158 = .ok (.ishr, 1) := dk_122 (dk_at dksX0_link_6 17 rfl rfl)
theorem dX0_link_159 : decode cX0_link 159 = .ok (.iconst 1, 1) := dk_4 (dk_at dksX0_link_6 18 rfl rfl)
theorem dX0_link_160 : decode cX0_link 160 = .ok (.isub, 1) := dk_100 (dk_at dksX0_link_6 19 rfl rfl)
theorem dX0_link_161 : decode cX0_link 161 = .ok (.iand, 1) := dk_126 (dk_at dksX0_link_6 20 rfl rfl)
theorem dX0_link_162 : decode cX0_link 162 = .ok (.invokevirtual 89, 3) := dk_182 0 89 (dk_at dksX0_link_6 21 rfl rfl)
theorem dX0_link_165 : decode cX0_link 165 = .ok (.putfield 109, 3) := dk_181 0 109 (dk_at dksX0_link_7 0 rfl rfl)
theorem dX0_link_168 : decode cX0_link 168 = .ok (.return_, 1) := dk_177 (dk_at dksX0_link_7 3 rfl rfl)
abbrev cX0_arcOf : ByteArray := prog_1_method_5_code
def yX0_arcOf : MethodName := ⟨RX0, "arcOf", "(III)LCoarserOrders$Arc;"⟩
def dkwX0_arcOf_1 : List UInt8 := [27, 28, 42, 180, 0, 34, 180, 0, 38, 184, 0, 48, 29, 96, 50, 176]
abbrev dktX0_arcOf_1 : List UInt8 := dkwX0_arcOf_1 ++ []
def dkwX0_arcOf_0 : List UInt8 := [27, 4, 161, 0, 14, 28, 42, 180, 0, 34, 180, 0, 38, 164, 0, 7, 1, 167, 0, 22, 42, 180, 0, 44]
abbrev dktX0_arcOf_0 : List UInt8 := dkwX0_arcOf_0 ++ dktX0_arcOf_1
theorem dksX0_arcOf_0 : cX0_arcOf.data.toList.drop 0 = dktX0_arcOf_0 := by decide +kernel
theorem dksX0_arcOf_1 : cX0_arcOf.data.toList.drop 24 = dktX0_arcOf_1 := dk_seg dksX0_arcOf_0 24 rfl rfl
theorem dX0_arcOf_0 : decode cX0_arcOf 0 = .ok (.iload_n 1, 1) := dk_27 (dk_at dksX0_arcOf_0 0 rfl rfl)
theorem dX0_arcOf_1 : decode cX0_arcOf 1 = .ok (.iconst 1, 1) := dk_4 (dk_at dksX0_arcOf_0 1 rfl rfl)
theorem dX0_arcOf_2 : decode cX0_arcOf 2 = .ok (.if_icmp .lt 14, 3) := dk_161 0 14 (dk_at dksX0_arcOf_0 2 rfl rfl)
theorem dX0_arcOf_5 : decode cX0_arcOf 5 = .ok (.iload_n 2, 1) := dk_28 (dk_at dksX0_arcOf_0 5 rfl rfl)
theorem dX0_arcOf_6 : decode cX0_arcOf 6 = .ok (.aload_n 0, 1) := dk_42 (dk_at dksX0_arcOf_0 6 rfl rfl)
theorem dX0_arcOf_7 : decode cX0_arcOf 7 = .ok (.getfield 34, 3) := dk_180 0 34 (dk_at dksX0_arcOf_0 7 rfl rfl)
theorem dX0_arcOf_10 : decode cX0_arcOf 10 = .ok (.getfield 38, 3) := dk_180 0 38 (dk_at dksX0_arcOf_0 10 rfl rfl)
theorem dX0_arcOf_13 : decode cX0_arcOf 13 = .ok (.if_icmp .le 7, 3) := dk_164 0 7 (dk_at dksX0_arcOf_0 13 rfl rfl)
theorem dX0_arcOf_16 : decode cX0_arcOf 16 = .ok (.aconst_null, 1) := dk_1 (dk_at dksX0_arcOf_0 16 rfl rfl)
theorem dX0_arcOf_17 : decode cX0_arcOf 17 = .ok (.goto 22, 3) := dk_167 0 22 (dk_at dksX0_arcOf_0 17 rfl rfl)
theorem dX0_arcOf_20 : decode cX0_arcOf 20 = .ok (.aload_n 0, 1) := dk_42 (dk_at dksX0_arcOf_0 20 rfl rfl)
theorem dX0_arcOf_21 : decode cX0_arcOf 21 = .ok (.getfield 44, 3) := dk_180 0 44 (dk_at dksX0_arcOf_0 21 rfl rfl)
theorem dX0_arcOf_24 : decode cX0_arcOf 24 = .ok (.iload_n 1, 1) := dk_27 (dk_at dksX0_arcOf_1 0 rfl rfl)
theorem dX0_arcOf_25 : decode cX0_arcOf 25 = .ok (.iload_n 2, 1) := dk_28 (dk_at dksX0_arcOf_1 1 rfl rfl)
theorem dX0_arcOf_26 : decode cX0_arcOf 26 = .ok (.aload_n 0, 1) := dk_42 (dk_at dksX0_arcOf_1 2 rfl rfl)
theorem dX0_arcOf_27 : decode cX0_arcOf 27 = .ok (.getfield 34, 3) := dk_180 0 34 (dk_at dksX0_arcOf_1 3 rfl rfl)
theorem dX0_arcOf_30 : decode cX0_arcOf 30 = .ok (.getfield 38, 3) := dk_180 0 38 (dk_at dksX0_arcOf_1 6 rfl rfl)
theorem dX0_arcOf_33 : decode cX0_arcOf 33 = .ok (.invokestatic 48, 3) := dk_184 0 48 (dk_at dksX0_arcOf_1 9 rfl rfl)
theorem dX0_arcOf_36 : decode cX0_arcOf 36 = .ok (.iload_n 3, 1) := dk_29 (dk_at dksX0_arcOf_1 12 rfl rfl)
theorem dX0_arcOf_37 : decode cX0_arcOf 37 = .ok (.iadd, 1) := dk_96 (dk_at dksX0_arcOf_1 13 rfl rfl)
theorem dX0_arcOf_38 : decode cX0_arcOf 38 = .ok (.aaload, 1) := dk_50 (dk_at dksX0_arcOf_1 14 rfl rfl)
theorem dX0_arcOf_39 : decode cX0_arcOf 39 = .ok (.areturn, 1) := dk_176 (dk_at dksX0_arcOf_1 15 rfl rfl)
abbrev cX0_size : ByteArray := prog_1_method_37_code
def yX0_size : MethodName := ⟨RX0, "size", "(I)I"⟩
def dkwX0_size_2 : List UInt8 := [182, 0, 226, 28, 172]
abbrev dktX0_size_2 : List UInt8 := dkwX0_size_2 ++ []
def dkwX0_size_1 : List UInt8 := [160, 0, 5, 28, 172, 42, 180, 0, 34, 27, 181, 0, 38, 42, 180, 0, 34, 9, 181, 0, 229, 42]
abbrev dktX0_size_1 : List UInt8 := dkwX0_size_1 ++ dktX0_size_2
def dkwX0_size_0 : List UInt8 := [27, 4, 16, 6, 184, 0, 112, 154, 0, 5, 2, 172, 42, 180, 0, 34, 180, 0, 38, 61, 27, 28]
abbrev dktX0_size_0 : List UInt8 := dkwX0_size_0 ++ dktX0_size_1
theorem dksX0_size_0 : cX0_size.data.toList.drop 0 = dktX0_size_0 := by decide +kernel
theorem dksX0_size_1 : cX0_size.data.toList.drop 22 = dktX0_size_1 := dk_seg dksX0_size_0 22 rfl rfl
theorem dksX0_size_2 : cX0_size.data.toList.drop 44 = dktX0_size_2 := dk_seg dksX0_size_1 22 rfl rfl
theorem dX0_size_0 : decode cX0_size 0 = .ok (.iload_n 1, 1) := dk_27 (dk_at dksX0_size_0 0 rfl rfl)
theorem dX0_size_1 : decode cX0_size 1 = .ok (.iconst 1, 1) := dk_4 (dk_at dksX0_size_0 1 rfl rfl)
theorem dX0_size_2 : decode cX0_size 2 = .ok (.bipush 6, 2) := dk_16 6 (dk_at dksX0_size_0 2 rfl rfl)
theorem dX0_size_4 : decode cX0_size 4 = .ok (.invokestatic 112, 3) := dk_184 0 112 (dk_at dksX0_size_0 4 rfl rfl)
theorem dX0_size_7 : decode cX0_size 7 = .ok (.ifCond .ne 5, 3) := dk_154 0 5 (dk_at dksX0_size_0 7 rfl rfl)
theorem dX0_size_10 : decode cX0_size 10 = .ok (.iconst (-1), 1) := dk_2 (dk_at dksX0_size_0 10 rfl rfl)
theorem dX0_size_11 : decode cX0_size 11 = .ok (.ireturn, 1) := dk_172 (dk_at dksX0_size_0 11 rfl rfl)
theorem dX0_size_12 : decode cX0_size 12 = .ok (.aload_n 0, 1) := dk_42 (dk_at dksX0_size_0 12 rfl rfl)
theorem dX0_size_13 : decode cX0_size 13 = .ok (.getfield 34, 3) := dk_180 0 34 (dk_at dksX0_size_0 13 rfl rfl)
theorem dX0_size_16 : decode cX0_size 16 = .ok (.getfield 38, 3) := dk_180 0 38 (dk_at dksX0_size_0 16 rfl rfl)
theorem dX0_size_19 : decode cX0_size 19 = .ok (.istore_n 2, 1) := dk_61 (dk_at dksX0_size_0 19 rfl rfl)
theorem dX0_size_20 : decode cX0_size 20 = .ok (.iload_n 1, 1) := dk_27 (dk_at dksX0_size_0 20 rfl rfl)
theorem dX0_size_21 : decode cX0_size 21 = .ok (.iload_n 2, 1) := dk_28 (dk_at dksX0_size_0 21 rfl rfl)
theorem dX0_size_22 : decode cX0_size 22 = .ok (.if_icmp .ne 5, 3) := dk_160 0 5 (dk_at dksX0_size_1 0 rfl rfl)
theorem dX0_size_25 : decode cX0_size 25 = .ok (.iload_n 2, 1) := dk_28 (dk_at dksX0_size_1 3 rfl rfl)
theorem dX0_size_26 : decode cX0_size 26 = .ok (.ireturn, 1) := dk_172 (dk_at dksX0_size_1 4 rfl rfl)
theorem dX0_size_27 : decode cX0_size 27 = .ok (.aload_n 0, 1) := dk_42 (dk_at dksX0_size_1 5 rfl rfl)
theorem dX0_size_28 : decode cX0_size 28 = .ok (.getfield 34, 3) := dk_180 0 34 (dk_at dksX0_size_1 6 rfl rfl)
theorem dX0_size_31 : decode cX0_size 31 = .ok (.iload_n 1, 1) := dk_27 (dk_at dksX0_size_1 9 rfl rfl)
theorem dX0_size_32 : decode cX0_size 32 = .ok (.putfield 38, 3) := dk_181 0 38 (dk_at dksX0_size_1 10 rfl rfl)
theorem dX0_size_35 : decode cX0_size 35 = .ok (.aload_n 0, 1) := dk_42 (dk_at dksX0_size_1 13 rfl rfl)
theorem dX0_size_36 : decode cX0_size 36 = .ok (.getfield 34, 3) := dk_180 0 34 (dk_at dksX0_size_1 14 rfl rfl)
theorem dX0_size_39 : decode cX0_size 39 = .ok (.lconst 0, 1) := dk_9 (dk_at dksX0_size_1 17 rfl rfl)
theorem dX0_size_40 : decode cX0_size 40 = .ok (.putfield 229, 3) := dk_181 0 229 (dk_at dksX0_size_1 18 rfl rfl)
theorem dX0_size_43 : decode cX0_size 43 = .ok (.aload_n 0, 1) := dk_42 (dk_at dksX0_size_1 21 rfl rfl)
theorem dX0_size_44 : decode cX0_size 44 = .ok (.invokevirtual 226, 3) := dk_182 0 226 (dk_at dksX0_size_2 0 rfl rfl)
theorem dX0_size_47 : decode cX0_size 47 = .ok (.iload_n 2, 1) := dk_28 (dk_at dksX0_size_2 3 rfl rfl)
theorem dX0_size_48 : decode cX0_size 48 = .ok (.ireturn, 1) := dk_172 (dk_at dksX0_size_2 4 rfl rfl)
abbrev cX0_isIn : ByteArray := prog_1_method_1_code
def yX0_isIn : MethodName := ⟨RX0, "isIn", "(III)Z"⟩
def dkwX0_isIn_0 : List UInt8 := [26, 27, 161, 0, 12, 26, 28, 163, 0, 7, 4, 167, 0, 4, 3, 172]
abbrev dktX0_isIn_0 : List UInt8 := dkwX0_isIn_0 ++ []
theorem dksX0_isIn_0 : cX0_isIn.data.toList.drop 0 = dktX0_isIn_0 := by decide +kernel
theorem dX0_isIn_0 : decode cX0_isIn 0 = .ok (.iload_n 0, 1) := dk_26 (dk_at dksX0_isIn_0 0 rfl rfl)
theorem dX0_isIn_1 : decode cX0_isIn 1 = .ok (.iload_n 1, 1) := dk_27 (dk_at dksX0_isIn_0 1 rfl rfl)
theorem dX0_isIn_2 : decode cX0_isIn 2 = .ok (.if_icmp .lt 12, 3) := dk_161 0 12 (dk_at dksX0_isIn_0 2 rfl rfl)
theorem dX0_isIn_5 : decode cX0_isIn 5 = .ok (.iload_n 0, 1) := dk_26 (dk_at dksX0_isIn_0 5 rfl rfl)
theorem dX0_isIn_6 : decode cX0_isIn 6 = .ok (.iload_n 2, 1) := dk_28 (dk_at dksX0_isIn_0 6 rfl rfl)
theorem dX0_isIn_7 : decode cX0_isIn 7 = .ok (.if_icmp .gt 7, 3) := dk_163 0 7 (dk_at dksX0_isIn_0 7 rfl rfl)
theorem dX0_isIn_10 : decode cX0_isIn 10 = .ok (.iconst 1, 1) := dk_4 (dk_at dksX0_isIn_0 10 rfl rfl)
theorem dX0_isIn_11 : decode cX0_isIn 11 = .ok (.goto 4, 3) := dk_167 0 4 (dk_at dksX0_isIn_0 11 rfl rfl)
theorem dX0_isIn_14 : decode cX0_isIn 14 = .ok (.iconst 0, 1) := dk_3 (dk_at dksX0_isIn_0 14 rfl rfl)
theorem dX0_isIn_15 : decode cX0_isIn 15 = .ok (.ireturn, 1) := dk_172 (dk_at dksX0_isIn_0 15 rfl rfl)
abbrev cX0_below : ByteArray := prog_1_method_38_code
def yX0_below : MethodName := ⟨RX0, "below", "(II)I"⟩
def dkwX0_below_1 : List UInt8 := [153, 0, 7, 4, 167, 0, 4, 3, 172]
abbrev dktX0_below_1 : List UInt8 := dkwX0_below_1 ++ []
def dkwX0_below_0 : List UInt8 := [42, 27, 28, 182, 1, 28, 154, 0, 5, 2, 172, 42, 42, 180, 0, 137, 42, 180, 0, 141, 182, 1, 32]
abbrev dktX0_below_0 : List UInt8 := dkwX0_below_0 ++ dktX0_below_1
theorem dksX0_below_0 : cX0_below.data.toList.drop 0 = dktX0_below_0 := by decide +kernel
theorem dksX0_below_1 : cX0_below.data.toList.drop 23 = dktX0_below_1 := dk_seg dksX0_below_0 23 rfl rfl
theorem dX0_below_0 : decode cX0_below 0 = .ok (.aload_n 0, 1) := dk_42 (dk_at dksX0_below_0 0 rfl rfl)
theorem dX0_below_1 : decode cX0_below 1 = .ok (.iload_n 1, 1) := dk_27 (dk_at dksX0_below_0 1 rfl rfl)
theorem dX0_below_2 : decode cX0_below 2 = .ok (.iload_n 2, 1) := dk_28 (dk_at dksX0_below_0 2 rfl rfl)
theorem dX0_below_3 : decode cX0_below 3 = .ok (.invokevirtual 284, 3) := dk_182 1 28 (dk_at dksX0_below_0 3 rfl rfl)
theorem dX0_below_6 : decode cX0_below 6 = .ok (.ifCond .ne 5, 3) := dk_154 0 5 (dk_at dksX0_below_0 6 rfl rfl)
theorem dX0_below_9 : decode cX0_below 9 = .ok (.iconst (-1), 1) := dk_2 (dk_at dksX0_below_0 9 rfl rfl)
theorem dX0_below_10 : decode cX0_below 10 = .ok (.ireturn, 1) := dk_172 (dk_at dksX0_below_0 10 rfl rfl)
theorem dX0_below_11 : decode cX0_below 11 = .ok (.aload_n 0, 1) := dk_42 (dk_at dksX0_below_0 11 rfl rfl)
theorem dX0_below_12 : decode cX0_below 12 = .ok (.aload_n 0, 1) := dk_42 (dk_at dksX0_below_0 12 rfl rfl)
theorem dX0_below_13 : decode cX0_below 13 = .ok (.getfield 137, 3) := dk_180 0 137 (dk_at dksX0_below_0 13 rfl rfl)
theorem dX0_below_16 : decode cX0_below 16 = .ok (.aload_n 0, 1) := dk_42 (dk_at dksX0_below_0 16 rfl rfl)
theorem dX0_below_17 : decode cX0_below 17 = .ok (.getfield 141, 3) := dk_180 0 141 (dk_at dksX0_below_0 17 rfl rfl)
theorem dX0_below_20 : decode cX0_below 20 = .ok (.invokevirtual 288, 3) := dk_182 1 32 (dk_at dksX0_below_0 20 rfl rfl)
theorem dX0_below_23 : decode cX0_below 23 = .ok (.ifCond .eq 7, 3) := dk_153 0 7 (dk_at dksX0_below_1 0 rfl rfl)
theorem dX0_below_26 : decode cX0_below 26 = .ok (.iconst 1, 1) := dk_4 (dk_at dksX0_below_1 3 rfl rfl)
theorem dX0_below_27 : decode cX0_below 27 = .ok (.goto 4, 3) := dk_167 0 4 (dk_at dksX0_below_1 4 rfl rfl)
theorem dX0_below_30 : decode cX0_below 30 = .ok (.iconst 0, 1) := dk_3 (dk_at dksX0_below_1 7 rfl rfl)
theorem dX0_below_31 : decode cX0_below 31 = .ok (.ireturn, 1) := dk_172 (dk_at dksX0_below_1 8 rfl rfl)
abbrev cX0_areRows : ByteArray := prog_1_method_17_code
def yX0_areRows : MethodName := ⟨RX0, "areRows", "(II)Z"⟩
def dkwX0_areRows_1 : List UInt8 := [4, 167, 0, 4, 3, 172]
abbrev dktX0_areRows_1 : List UInt8 := dkwX0_areRows_1 ++ []
def dkwX0_areRows_0 : List UInt8 := [42, 27, 42, 180, 0, 137, 182, 0, 236, 153, 0, 19, 42, 28, 42, 180, 0, 141, 182, 0, 236, 153, 0, 7]
abbrev dktX0_areRows_0 : List UInt8 := dkwX0_areRows_0 ++ dktX0_areRows_1
theorem dksX0_areRows_0 : cX0_areRows.data.toList.drop 0 = dktX0_areRows_0 := by decide +kernel
theorem dksX0_areRows_1 : cX0_areRows.data.toList.drop 24 = dktX0_areRows_1 := dk_seg dksX0_areRows_0 24 rfl rfl
theorem dX0_areRows_0 : decode cX0_areRows 0 = .ok (.aload_n 0, 1) := dk_42 (dk_at dksX0_areRows_0 0 rfl rfl)
theorem dX0_areRows_1 : decode cX0_areRows 1 = .ok (.iload_n 1, 1) := dk_27 (dk_at dksX0_areRows_0 1 rfl rfl)
theorem dX0_areRows_2 : decode cX0_areRows 2 = .ok (.aload_n 0, 1) := dk_42 (dk_at dksX0_areRows_0 2 rfl rfl)
theorem dX0_areRows_3 : decode cX0_areRows 3 = .ok (.getfield 137, 3) := dk_180 0 137 (dk_at dksX0_areRows_0 3 rfl rfl)
theorem dX0_areRows_6 : decode cX0_areRows 6 = .ok (.invokevirtual 236, 3) := dk_182 0 236 (dk_at dksX0_areRows_0 6 rfl rfl)
theorem dX0_areRows_9 : decode cX0_areRows 9 = .ok (.ifCond .eq 19, 3) := dk_153 0 19 (dk_at dksX0_areRows_0 9 rfl rfl)
theorem dX0_areRows_12 : decode cX0_areRows 12 = .ok (.aload_n 0, 1) := dk_42 (dk_at dksX0_areRows_0 12 rfl rfl)
theorem dX0_areRows_13 : decode cX0_areRows 13 = .ok (.iload_n 2, 1) := dk_28 (dk_at dksX0_areRows_0 13 rfl rfl)
theorem dX0_areRows_14 : decode cX0_areRows 14 = .ok (.aload_n 0, 1) := dk_42 (dk_at dksX0_areRows_0 14 rfl rfl)
theorem dX0_areRows_15 : decode cX0_areRows 15 = .ok (.getfield 141, 3) := dk_180 0 141 (dk_at dksX0_areRows_0 15 rfl rfl)
theorem dX0_areRows_18 : decode cX0_areRows 18 = .ok (.invokevirtual 236, 3) := dk_182 0 236 (dk_at dksX0_areRows_0 18 rfl rfl)
theorem dX0_areRows_21 : decode cX0_areRows 21 = .ok (.ifCond .eq 7, 3) := dk_153 0 7 (dk_at dksX0_areRows_0 21 rfl rfl)
theorem dX0_areRows_24 : decode cX0_areRows 24 = .ok (.iconst 1, 1) := dk_4 (dk_at dksX0_areRows_1 0 rfl rfl)
theorem dX0_areRows_25 : decode cX0_areRows 25 = .ok (.goto 4, 3) := dk_167 0 4 (dk_at dksX0_areRows_1 1 rfl rfl)
theorem dX0_areRows_28 : decode cX0_areRows 28 = .ok (.iconst 0, 1) := dk_3 (dk_at dksX0_areRows_1 4 rfl rfl)
theorem dX0_areRows_29 : decode cX0_areRows 29 = .ok (.ireturn, 1) := dk_172 (dk_at dksX0_areRows_1 5 rfl rfl)
abbrev cX0_read : ByteArray := prog_1_method_16_code
def yX0_read : MethodName := ⟨RX0, "read", "(I[B)Z"⟩
def dkwX0_read_4 : List UInt8 := [160, 0, 7, 4, 167, 0, 4, 3, 172]
abbrev dktX0_read_4 : List UInt8 := dkwX0_read_4 ++ []
def dkwX0_read_3 : List UInt8 := [167, 255, 203, 29, 154, 0, 25, 21, 4, 4, 42, 180, 0, 34, 180, 0, 38, 4, 96, 120, 5, 100]
abbrev dktX0_read_3 : List UInt8 := dkwX0_read_3 ++ dktX0_read_4
def dkwX0_read_2 : List UInt8 := [184, 0, 112, 154, 0, 5, 3, 172, 21, 4, 4, 44, 21, 5, 51, 120, 128, 54, 4, 132, 5, 255]
abbrev dktX0_read_2 : List UInt8 := dkwX0_read_2 ++ dktX0_read_3
def dkwX0_read_1 : List UInt8 := [29, 16, 10, 112, 145, 84, 29, 16, 10, 108, 62, 44, 21, 5, 51, 4, 42, 180, 0, 34, 180, 0, 38]
abbrev dktX0_read_1 : List UInt8 := dkwX0_read_1 ++ dktX0_read_2
def dkwX0_read_0 : List UInt8 := [27, 62, 3, 54, 4, 42, 180, 0, 34, 180, 0, 38, 4, 100, 54, 5, 21, 5, 155, 0, 54, 44, 21, 5]
abbrev dktX0_read_0 : List UInt8 := dkwX0_read_0 ++ dktX0_read_1
theorem dksX0_read_0 : cX0_read.data.toList.drop 0 = dktX0_read_0 := by decide +kernel
theorem dksX0_read_1 : cX0_read.data.toList.drop 24 = dktX0_read_1 := dk_seg dksX0_read_0 24 rfl rfl
theorem dksX0_read_2 : cX0_read.data.toList.drop 47 = dktX0_read_2 := dk_seg dksX0_read_1 23 rfl rfl
theorem dksX0_read_3 : cX0_read.data.toList.drop 69 = dktX0_read_3 := dk_seg dksX0_read_2 22 rfl rfl
theorem dksX0_read_4 : cX0_read.data.toList.drop 91 = dktX0_read_4 := dk_seg dksX0_read_3 22 rfl rfl
theorem dX0_read_0 : decode cX0_read 0 = .ok (.iload_n 1, 1) := dk_27 (dk_at dksX0_read_0 0 rfl rfl)
theorem dX0_read_1 : decode cX0_read 1 = .ok (.istore_n 3, 1) := dk_62 (dk_at dksX0_read_0 1 rfl rfl)
theorem dX0_read_2 : decode cX0_read 2 = .ok (.iconst 0, 1) := dk_3 (dk_at dksX0_read_0 2 rfl rfl)
theorem dX0_read_3 : decode cX0_read 3 = .ok (.istore 4, 2) := dk_54 4 (dk_at dksX0_read_0 3 rfl rfl)
theorem dX0_read_5 : decode cX0_read 5 = .ok (.aload_n 0, 1) := dk_42 (dk_at dksX0_read_0 5 rfl rfl)
theorem dX0_read_6 : decode cX0_read 6 = .ok (.getfield 34, 3) := dk_180 0 34 (dk_at dksX0_read_0 6 rfl rfl)
theorem dX0_read_9 : decode cX0_read 9 = .ok (.getfield 38, 3) := dk_180 0 38 (dk_at dksX0_read_0 9 rfl rfl)
theorem dX0_read_12 : decode cX0_read 12 = .ok (.iconst 1, 1) := dk_4 (dk_at dksX0_read_0 12 rfl rfl)
theorem dX0_read_13 : decode cX0_read 13 = .ok (.isub, 1) := dk_100 (dk_at dksX0_read_0 13 rfl rfl)
theorem dX0_read_14 : decode cX0_read 14 = .ok (.istore 5, 2) := dk_54 5 (dk_at dksX0_read_0 14 rfl rfl)
theorem dX0_read_16 : decode cX0_read 16 = .ok (.iload 5, 2) := dk_21 5 (dk_at dksX0_read_0 16 rfl rfl)
theorem dX0_read_18 : decode cX0_read 18 = .ok (.ifCond .lt 54, 3) := dk_155 0 54 (dk_at dksX0_read_0 18 rfl rfl)
theorem dX0_read_21 : decode cX0_read 21 = .ok (.aload_n 2, 1) := dk_44 (dk_at dksX0_read_0 21 rfl rfl)
theorem dX0_read_22 : decode cX0_read 22 = .ok (.iload 5, 2) := dk_21 5 (dk_at dksX0_read_0 22 rfl rfl)
theorem dX0_read_24 : decode cX0_read 24 = .ok (.iload_n 3, 1) := dk_29 (dk_at dksX0_read_1 0 rfl rfl)
theorem dX0_read_25 : decode cX0_read 25 = .ok (.bipush 10, 2) := dk_16 10 (dk_at dksX0_read_1 1 rfl rfl)
theorem dX0_read_27 : decode cX0_read 27 = .ok (.irem, 1) := dk_112 (dk_at dksX0_read_1 3 rfl rfl)
theorem dX0_read_28 : decode cX0_read 28 = .ok (.i2b, 1) := dk_145 (dk_at dksX0_read_1 4 rfl rfl)
theorem dX0_read_29 : decode cX0_read 29 = .ok (.bastore, 1) := dk_84 (dk_at dksX0_read_1 5 rfl rfl)
theorem dX0_read_30 : decode cX0_read 30 = .ok (.iload_n 3, 1) := dk_29 (dk_at dksX0_read_1 6 rfl rfl)
theorem dX0_read_31 : decode cX0_read 31 = .ok (.bipush 10, 2) := dk_16 10 (dk_at dksX0_read_1 7 rfl rfl)
theorem dX0_read_33 : decode cX0_read 33 = .ok (.idiv, 1) := dk_108 (dk_at dksX0_read_1 9 rfl rfl)
theorem dX0_read_34 : decode cX0_read 34 = .ok (.istore_n 3, 1) := dk_62 (dk_at dksX0_read_1 10 rfl rfl)
theorem dX0_read_35 : decode cX0_read 35 = .ok (.aload_n 2, 1) := dk_44 (dk_at dksX0_read_1 11 rfl rfl)
theorem dX0_read_36 : decode cX0_read 36 = .ok (.iload 5, 2) := dk_21 5 (dk_at dksX0_read_1 12 rfl rfl)
theorem dX0_read_38 : decode cX0_read 38 = .ok (.baload, 1) := dk_51 (dk_at dksX0_read_1 14 rfl rfl)
theorem dX0_read_39 : decode cX0_read 39 = .ok (.iconst 1, 1) := dk_4 (dk_at dksX0_read_1 15 rfl rfl)
theorem dX0_read_40 : decode cX0_read 40 = .ok (.aload_n 0, 1) := dk_42 (dk_at dksX0_read_1 16 rfl rfl)
theorem dX0_read_41 : decode cX0_read 41 = .ok (.getfield 34, 3) := dk_180 0 34 (dk_at dksX0_read_1 17 rfl rfl)
theorem dX0_read_44 : decode cX0_read 44 = .ok (.getfield 38, 3) := dk_180 0 38 (dk_at dksX0_read_1 20 rfl rfl)
theorem dX0_read_47 : decode cX0_read 47 = .ok (.invokestatic 112, 3) := dk_184 0 112 (dk_at dksX0_read_2 0 rfl rfl)
theorem dX0_read_50 : decode cX0_read 50 = .ok (.ifCond .ne 5, 3) := dk_154 0 5 (dk_at dksX0_read_2 3 rfl rfl)
theorem dX0_read_53 : decode cX0_read 53 = .ok (.iconst 0, 1) := dk_3 (dk_at dksX0_read_2 6 rfl rfl)
theorem dX0_read_54 : decode cX0_read 54 = .ok (.ireturn, 1) := dk_172 (dk_at dksX0_read_2 7 rfl rfl)
theorem dX0_read_55 : decode cX0_read 55 = .ok (.iload 4, 2) := dk_21 4 (dk_at dksX0_read_2 8 rfl rfl)
theorem dX0_read_57 : decode cX0_read 57 = .ok (.iconst 1, 1) := dk_4 (dk_at dksX0_read_2 10 rfl rfl)
theorem dX0_read_58 : decode cX0_read 58 = .ok (.aload_n 2, 1) := dk_44 (dk_at dksX0_read_2 11 rfl rfl)
theorem dX0_read_59 : decode cX0_read 59 = .ok (.iload 5, 2) := dk_21 5 (dk_at dksX0_read_2 12 rfl rfl)
theorem dX0_read_61 : decode cX0_read 61 = .ok (.baload, 1) := dk_51 (dk_at dksX0_read_2 14 rfl rfl)
theorem dX0_read_62 : decode cX0_read 62 = .ok (.ishl, 1) := dk_120 (dk_at dksX0_read_2 15 rfl rfl)
theorem dX0_read_63 : decode cX0_read 63 = .ok (.ior, 1) := dk_128 (dk_at dksX0_read_2 16 rfl rfl)
theorem dX0_read_64 : decode cX0_read 64 = .ok (.istore 4, 2) := dk_54 4 (dk_at dksX0_read_2 17 rfl rfl)
theorem dX0_read_66 : decode cX0_read 66 = .ok (.iinc 5 (-1), 3) := dk_132 5 255 (dk_at dksX0_read_2 19 rfl rfl)
theorem dX0_read_69 : decode cX0_read 69 = .ok (.goto (-53), 3) := dk_167 255 203 (dk_at dksX0_read_3 0 rfl rfl)
theorem dX0_read_72 : decode cX0_read 72 = .ok (.iload_n 3, 1) := dk_29 (dk_at dksX0_read_3 3 rfl rfl)
theorem dX0_read_73 : decode cX0_read 73 = .ok (.ifCond .ne 25, 3) := dk_154 0 25 (dk_at dksX0_read_3 4 rfl rfl)
theorem dX0_read_76 : decode cX0_read 76 = .ok (.iload 4, 2) := dk_21 4 (dk_at dksX0_read_3 7 rfl rfl)
theorem dX0_read_78 : decode cX0_read 78 = .ok (.iconst 1, 1) := dk_4 (dk_at dksX0_read_3 9 rfl rfl)
theorem dX0_read_79 : decode cX0_read 79 = .ok (.aload_n 0, 1) := dk_42 (dk_at dksX0_read_3 10 rfl rfl)
theorem dX0_read_80 : decode cX0_read 80 = .ok (.getfield 34, 3) := dk_180 0 34 (dk_at dksX0_read_3 11 rfl rfl)
theorem dX0_read_83 : decode cX0_read 83 = .ok (.getfield 38, 3) := dk_180 0 38 (dk_at dksX0_read_3 14 rfl rfl)
theorem dX0_read_86 : decode cX0_read 86 = .ok (.iconst 1, 1) := dk_4 (dk_at dksX0_read_3 17 rfl rfl)
theorem dX0_read_87 : decode cX0_read 87 = .ok (.iadd, 1) := dk_96 (dk_at dksX0_read_3 18 rfl rfl)
theorem dX0_read_88 : decode cX0_read 88 = .ok (.ishl, 1) := dk_120 (dk_at dksX0_read_3 19 rfl rfl)
theorem dX0_read_89 : decode cX0_read 89 = .ok (.iconst 2, 1) := dk_5 (dk_at dksX0_read_3 20 rfl rfl)
theorem dX0_read_90 : decode cX0_read 90 = .ok (.isub, 1) := dk_100 (dk_at dksX0_read_3 21 rfl rfl)
theorem dX0_read_91 : decode cX0_read 91 = .ok (.if_icmp .ne 7, 3) := dk_160 0 7 (dk_at dksX0_read_4 0 rfl rfl)
theorem dX0_read_94 : decode cX0_read 94 = .ok (.iconst 1, 1) := dk_4 (dk_at dksX0_read_4 3 rfl rfl)
theorem dX0_read_95 : decode cX0_read 95 = .ok (.goto 4, 3) := dk_167 0 4 (dk_at dksX0_read_4 4 rfl rfl)
theorem dX0_read_98 : decode cX0_read 98 = .ok (.iconst 0, 1) := dk_3 (dk_at dksX0_read_4 7 rfl rfl)
theorem dX0_read_99 : decode cX0_read 99 = .ok (.ireturn, 1) := dk_172 (dk_at dksX0_read_4 8 rfl rfl)
abbrev cX0_isBelow : ByteArray := prog_1_method_36_code
def yX0_isBelow : MethodName := ⟨RX0, "isBelow", "([B[B)Z"⟩
def dkwX0_isBelow_1 : List UInt8 := [3, 172]
abbrev dktX0_isBelow_1 : List UInt8 := dkwX0_isBelow_1 ++ []
def dkwX0_isBelow_0 : List UInt8 := [42, 43, 182, 1, 10, 42, 44, 182, 1, 10, 20, 1, 26, 131, 127, 9, 148, 154, 0, 7, 4, 167, 0, 4]
abbrev dktX0_isBelow_0 : List UInt8 := dkwX0_isBelow_0 ++ dktX0_isBelow_1
theorem dksX0_isBelow_0 : cX0_isBelow.data.toList.drop 0 = dktX0_isBelow_0 := by decide +kernel
theorem dksX0_isBelow_1 : cX0_isBelow.data.toList.drop 24 = dktX0_isBelow_1 := dk_seg dksX0_isBelow_0 24 rfl rfl
theorem dX0_isBelow_0 : decode cX0_isBelow 0 = .ok (.aload_n 0, 1) := dk_42 (dk_at dksX0_isBelow_0 0 rfl rfl)
theorem dX0_isBelow_1 : decode cX0_isBelow 1 = .ok (.aload_n 1, 1) := dk_43 (dk_at dksX0_isBelow_0 1 rfl rfl)
theorem dX0_isBelow_2 : decode cX0_isBelow 2 = .ok (.invokevirtual 266, 3) := dk_182 1 10 (dk_at dksX0_isBelow_0 2 rfl rfl)
theorem dX0_isBelow_5 : decode cX0_isBelow 5 = .ok (.aload_n 0, 1) := dk_42 (dk_at dksX0_isBelow_0 5 rfl rfl)
theorem dX0_isBelow_6 : decode cX0_isBelow 6 = .ok (.aload_n 2, 1) := dk_44 (dk_at dksX0_isBelow_0 6 rfl rfl)
theorem dX0_isBelow_7 : decode cX0_isBelow 7 = .ok (.invokevirtual 266, 3) := dk_182 1 10 (dk_at dksX0_isBelow_0 7 rfl rfl)
theorem dX0_isBelow_10 : decode cX0_isBelow 10 = .ok (.ldc2_w 282, 3) := dk_20 1 26 (dk_at dksX0_isBelow_0 10 rfl rfl)
theorem dX0_isBelow_13 : decode cX0_isBelow 13 = .ok (.lxor, 1) := dk_131 (dk_at dksX0_isBelow_0 13 rfl rfl)
theorem dX0_isBelow_14 : decode cX0_isBelow 14 = .ok (.land, 1) := dk_127 (dk_at dksX0_isBelow_0 14 rfl rfl)
theorem dX0_isBelow_15 : decode cX0_isBelow 15 = .ok (.lconst 0, 1) := dk_9 (dk_at dksX0_isBelow_0 15 rfl rfl)
theorem dX0_isBelow_16 : decode cX0_isBelow 16 = .ok (.lcmp, 1) := dk_148 (dk_at dksX0_isBelow_0 16 rfl rfl)
theorem dX0_isBelow_17 : decode cX0_isBelow 17 = .ok (.ifCond .ne 7, 3) := dk_154 0 7 (dk_at dksX0_isBelow_0 17 rfl rfl)
theorem dX0_isBelow_20 : decode cX0_isBelow 20 = .ok (.iconst 1, 1) := dk_4 (dk_at dksX0_isBelow_0 20 rfl rfl)
theorem dX0_isBelow_21 : decode cX0_isBelow 21 = .ok (.goto 4, 3) := dk_167 0 4 (dk_at dksX0_isBelow_0 21 rfl rfl)
theorem dX0_isBelow_24 : decode cX0_isBelow 24 = .ok (.iconst 0, 1) := dk_3 (dk_at dksX0_isBelow_1 0 rfl rfl)
theorem dX0_isBelow_25 : decode cX0_isBelow 25 = .ok (.ireturn, 1) := dk_172 (dk_at dksX0_isBelow_1 1 rfl rfl)
abbrev cX0_swapped : ByteArray := prog_1_method_30_code
def yX0_swapped : MethodName := ⟨RX0, "swapped", "([B)J"⟩
def dkwX0_swapped_3 : List UInt8 := [132, 4, 1, 167, 255, 188, 32, 173]
abbrev dktX0_swapped_3 : List UInt8 := dkwX0_swapped_3 ++ []
def dkwX0_swapped_2 : List UInt8 := [43, 21, 5, 51, 43, 21, 4, 51, 184, 1, 6, 167, 0, 4, 9, 129, 65, 132, 5, 1, 167, 255, 212]
abbrev dktX0_swapped_2 : List UInt8 := dkwX0_swapped_2 ++ dktX0_swapped_3
def dkwX0_swapped_1 : List UInt8 := [21, 5, 42, 180, 0, 34, 180, 0, 38, 162, 0, 38, 32, 43, 21, 4, 51, 43, 21, 5, 51, 164, 0, 17]
abbrev dktX0_swapped_1 : List UInt8 := dkwX0_swapped_1 ++ dktX0_swapped_2
def dkwX0_swapped_0 : List UInt8 := [9, 65, 3, 54, 4, 21, 4, 42, 180, 0, 34, 180, 0, 38, 162, 0, 62, 21, 4, 4, 96, 54, 5]
abbrev dktX0_swapped_0 : List UInt8 := dkwX0_swapped_0 ++ dktX0_swapped_1
theorem dksX0_swapped_0 : cX0_swapped.data.toList.drop 0 = dktX0_swapped_0 := by decide +kernel
theorem dksX0_swapped_1 : cX0_swapped.data.toList.drop 23 = dktX0_swapped_1 := dk_seg dksX0_swapped_0 23 rfl rfl
theorem dksX0_swapped_2 : cX0_swapped.data.toList.drop 47 = dktX0_swapped_2 := dk_seg dksX0_swapped_1 24 rfl rfl
theorem dksX0_swapped_3 : cX0_swapped.data.toList.drop 70 = dktX0_swapped_3 := dk_seg dksX0_swapped_2 23 rfl rfl
theorem dX0_swapped_0 : decode cX0_swapped 0 = .ok (.lconst 0, 1) := dk_9 (dk_at dksX0_swapped_0 0 rfl rfl)
theorem dX0_swapped_1 : decode cX0_swapped 1 = .ok (.lstore_n 2, 1) := dk_65 (dk_at dksX0_swapped_0 1 rfl rfl)
theorem dX0_swapped_2 : decode cX0_swapped 2 = .ok (.iconst 0, 1) := dk_3 (dk_at dksX0_swapped_0 2 rfl rfl)
theorem dX0_swapped_3 : decode cX0_swapped 3 = .ok (.istore 4, 2) := dk_54 4 (dk_at dksX0_swapped_0 3 rfl rfl)
theorem dX0_swapped_5 : decode cX0_swapped 5 = .ok (.iload 4, 2) := dk_21 4 (dk_at dksX0_swapped_0 5 rfl rfl)
theorem dX0_swapped_7 : decode cX0_swapped 7 = .ok (.aload_n 0, 1) := dk_42 (dk_at dksX0_swapped_0 7 rfl rfl)
theorem dX0_swapped_8 : decode cX0_swapped 8 = .ok (.getfield 34, 3) := dk_180 0 34 (dk_at dksX0_swapped_0 8 rfl rfl)
theorem dX0_swapped_11 : decode cX0_swapped 11 = .ok (.getfield 38, 3) := dk_180 0 38 (dk_at dksX0_swapped_0 11 rfl rfl)
theorem dX0_swapped_14 : decode cX0_swapped 14 = .ok (.if_icmp .ge 62, 3) := dk_162 0 62 (dk_at dksX0_swapped_0 14 rfl rfl)
theorem dX0_swapped_17 : decode cX0_swapped 17 = .ok (.iload 4, 2) := dk_21 4 (dk_at dksX0_swapped_0 17 rfl rfl)
theorem dX0_swapped_19 : decode cX0_swapped 19 = .ok (.iconst 1, 1) := dk_4 (dk_at dksX0_swapped_0 19 rfl rfl)
theorem dX0_swapped_20 : decode cX0_swapped 20 = .ok (.iadd, 1) := dk_96 (dk_at dksX0_swapped_0 20 rfl rfl)
theorem dX0_swapped_21 : decode cX0_swapped 21 = .ok (.istore 5, 2) := dk_54 5 (dk_at dksX0_swapped_0 21 rfl rfl)
theorem dX0_swapped_23 : decode cX0_swapped 23 = .ok (.iload 5, 2) := dk_21 5 (dk_at dksX0_swapped_1 0 rfl rfl)
theorem dX0_swapped_25 : decode cX0_swapped 25 = .ok (.aload_n 0, 1) := dk_42 (dk_at dksX0_swapped_1 2 rfl rfl)
theorem dX0_swapped_26 : decode cX0_swapped 26 = .ok (.getfield 34, 3) := dk_180 0 34 (dk_at dksX0_swapped_1 3 rfl rfl)
theorem dX0_swapped_29 : decode cX0_swapped 29 = .ok (.getfield 38, 3) := dk_180 0 38 (dk_at dksX0_swapped_1 6 rfl rfl)
theorem dX0_swapped_32 : decode cX0_swapped 32 = .ok (.if_icmp .ge 38, 3) := dk_162 0 38 (dk_at dksX0_swapped_1 9 rfl rfl)
theorem dX0_swapped_35 : decode cX0_swapped 35 = .ok (.lload_n 2, 1) := dk_32 (dk_at dksX0_swapped_1 12 rfl rfl)
theorem dX0_swapped_36 : decode cX0_swapped 36 = .ok (.aload_n 1, 1) := dk_43 (dk_at dksX0_swapped_1 13 rfl rfl)
theorem dX0_swapped_37 : decode cX0_swapped 37 = .ok (.iload 4, 2) := dk_21 4 (dk_at dksX0_swapped_1 14 rfl rfl)
theorem dX0_swapped_39 : decode cX0_swapped 39 = .ok (.baload, 1) := dk_51 (dk_at dksX0_swapped_1 16 rfl rfl)
theorem dX0_swapped_40 : decode cX0_swapped 40 = .ok (.aload_n 1, 1) := dk_43 (dk_at dksX0_swapped_1 17 rfl rfl)
theorem dX0_swapped_41 : decode cX0_swapped 41 = .ok (.iload 5, 2) := dk_21 5 (dk_at dksX0_swapped_1 18 rfl rfl)
theorem dX0_swapped_43 : decode cX0_swapped 43 = .ok (.baload, 1) := dk_51 (dk_at dksX0_swapped_1 20 rfl rfl)
theorem dX0_swapped_44 : decode cX0_swapped 44 = .ok (.if_icmp .le 17, 3) := dk_164 0 17 (dk_at dksX0_swapped_1 21 rfl rfl)
theorem dX0_swapped_47 : decode cX0_swapped 47 = .ok (.aload_n 1, 1) := dk_43 (dk_at dksX0_swapped_2 0 rfl rfl)
theorem dX0_swapped_48 : decode cX0_swapped 48 = .ok (.iload 5, 2) := dk_21 5 (dk_at dksX0_swapped_2 1 rfl rfl)
theorem dX0_swapped_50 : decode cX0_swapped 50 = .ok (.baload, 1) := dk_51 (dk_at dksX0_swapped_2 3 rfl rfl)
theorem dX0_swapped_51 : decode cX0_swapped 51 = .ok (.aload_n 1, 1) := dk_43 (dk_at dksX0_swapped_2 4 rfl rfl)
theorem dX0_swapped_52 : decode cX0_swapped 52 = .ok (.iload 4, 2) := dk_21 4 (dk_at dksX0_swapped_2 5 rfl rfl)
theorem dX0_swapped_54 : decode cX0_swapped 54 = .ok (.baload, 1) := dk_51 (dk_at dksX0_swapped_2 7 rfl rfl)
theorem dX0_swapped_55 : decode cX0_swapped 55 = .ok (.invokestatic 262, 3) := dk_184 1 6 (dk_at dksX0_swapped_2 8 rfl rfl)
theorem dX0_swapped_58 : decode cX0_swapped 58 = .ok (.goto 4, 3) := dk_167 0 4 (dk_at dksX0_swapped_2 11 rfl rfl)
theorem dX0_swapped_61 : decode cX0_swapped 61 = .ok (.lconst 0, 1) := dk_9 (dk_at dksX0_swapped_2 14 rfl rfl)
theorem dX0_swapped_62 : decode cX0_swapped 62 = .ok (.lor, 1) := dk_129 (dk_at dksX0_swapped_2 15 rfl rfl)
theorem dX0_swapped_63 : decode cX0_swapped 63 = .ok (.lstore_n 2, 1) := dk_65 (dk_at dksX0_swapped_2 16 rfl rfl)
theorem dX0_swapped_64 : decode cX0_swapped 64 = .ok (.iinc 5 1, 3) := dk_132 5 1 (dk_at dksX0_swapped_2 17 rfl rfl)
theorem dX0_swapped_67 : decode cX0_swapped 67 = .ok (.goto (-44), 3) := dk_167 255 212 (dk_at dksX0_swapped_2 20 rfl rfl)
theorem dX0_swapped_70 : decode cX0_swapped 70 = .ok (.iinc 4 1, 3) := dk_132 4 1 (dk_at dksX0_swapped_3 0 rfl rfl)
theorem dX0_swapped_73 : decode cX0_swapped 73 = .ok (.goto (-68), 3) := dk_167 255 188 (dk_at dksX0_swapped_3 3 rfl rfl)
theorem dX0_swapped_76 : decode cX0_swapped 76 = .ok (.lload_n 2, 1) := dk_32 (dk_at dksX0_swapped_3 6 rfl rfl)
theorem dX0_swapped_77 : decode cX0_swapped 77 = .ok (.lreturn, 1) := dk_173 (dk_at dksX0_swapped_3 7 rfl rfl)
abbrev cX0_pair : ByteArray := prog_1_method_29_code
def yX0_pair : MethodName := ⟨RX0, "pair", "(II)J"⟩
def dkwX0_pair_0 : List UInt8 := [10, 16, 6, 26, 4, 100, 104, 27, 96, 4, 100, 121, 173]
abbrev dktX0_pair_0 : List UInt8 := dkwX0_pair_0 ++ []
theorem dksX0_pair_0 : cX0_pair.data.toList.drop 0 = dktX0_pair_0 := by decide +kernel
theorem dX0_pair_0 : decode cX0_pair 0 = .ok (.lconst 1, 1) := dk_10 (dk_at dksX0_pair_0 0 rfl rfl)
theorem dX0_pair_1 : decode cX0_pair 1 = .ok (.bipush 6, 2) := dk_16 6 (dk_at dksX0_pair_0 1 rfl rfl)
theorem dX0_pair_3 : decode cX0_pair 3 = .ok (.iload_n 0, 1) := dk_26 (dk_at dksX0_pair_0 3 rfl rfl)
theorem dX0_pair_4 : decode cX0_pair 4 = .ok (.iconst 1, 1) := dk_4 (dk_at dksX0_pair_0 4 rfl rfl)
theorem dX0_pair_5 : decode cX0_pair 5 = .ok (.isub, 1) := dk_100 (dk_at dksX0_pair_0 5 rfl rfl)
theorem dX0_pair_6 : decode cX0_pair 6 = .ok (.imul, 1) := dk_104 (dk_at dksX0_pair_0 6 rfl rfl)
theorem dX0_pair_7 : decode cX0_pair 7 = .ok (.iload_n 1, 1) := dk_27 (dk_at dksX0_pair_0 7 rfl rfl)
theorem dX0_pair_8 : decode cX0_pair 8 = .ok (.iadd, 1) := dk_96 (dk_at dksX0_pair_0 8 rfl rfl)
theorem dX0_pair_9 : decode cX0_pair 9 = .ok (.iconst 1, 1) := dk_4 (dk_at dksX0_pair_0 9 rfl rfl)
theorem dX0_pair_10 : decode cX0_pair 10 = .ok (.isub, 1) := dk_100 (dk_at dksX0_pair_0 10 rfl rfl)
theorem dX0_pair_11 : decode cX0_pair 11 = .ok (.lshl, 1) := dk_121 (dk_at dksX0_pair_0 11 rfl rfl)
theorem dX0_pair_12 : decode cX0_pair 12 = .ok (.lreturn, 1) := dk_173 (dk_at dksX0_pair_0 12 rfl rfl)
abbrev cX0_meet : ByteArray := prog_1_method_39_code
def yX0_meet : MethodName := ⟨RX0, "meet", "(II)I"⟩
def dkwX0_meet_1 : List UInt8 := [182, 1, 36, 42, 42, 180, 0, 144, 182, 1, 40, 172]
abbrev dktX0_meet_1 : List UInt8 := dkwX0_meet_1 ++ []
def dkwX0_meet_0 : List UInt8 := [42, 27, 28, 182, 1, 28, 154, 0, 5, 2, 172, 42, 42, 180, 0, 137, 42, 180, 0, 141, 42, 180, 0, 144]
abbrev dktX0_meet_0 : List UInt8 := dkwX0_meet_0 ++ dktX0_meet_1
theorem dksX0_meet_0 : cX0_meet.data.toList.drop 0 = dktX0_meet_0 := by decide +kernel
theorem dksX0_meet_1 : cX0_meet.data.toList.drop 24 = dktX0_meet_1 := dk_seg dksX0_meet_0 24 rfl rfl
theorem dX0_meet_0 : decode cX0_meet 0 = .ok (.aload_n 0, 1) := dk_42 (dk_at dksX0_meet_0 0 rfl rfl)
theorem dX0_meet_1 : decode cX0_meet 1 = .ok (.iload_n 1, 1) := dk_27 (dk_at dksX0_meet_0 1 rfl rfl)
theorem dX0_meet_2 : decode cX0_meet 2 = .ok (.iload_n 2, 1) := dk_28 (dk_at dksX0_meet_0 2 rfl rfl)
theorem dX0_meet_3 : decode cX0_meet 3 = .ok (.invokevirtual 284, 3) := dk_182 1 28 (dk_at dksX0_meet_0 3 rfl rfl)
theorem dX0_meet_6 : decode cX0_meet 6 = .ok (.ifCond .ne 5, 3) := dk_154 0 5 (dk_at dksX0_meet_0 6 rfl rfl)
theorem dX0_meet_9 : decode cX0_meet 9 = .ok (.iconst (-1), 1) := dk_2 (dk_at dksX0_meet_0 9 rfl rfl)
theorem dX0_meet_10 : decode cX0_meet 10 = .ok (.ireturn, 1) := dk_172 (dk_at dksX0_meet_0 10 rfl rfl)
theorem dX0_meet_11 : decode cX0_meet 11 = .ok (.aload_n 0, 1) := dk_42 (dk_at dksX0_meet_0 11 rfl rfl)
theorem dX0_meet_12 : decode cX0_meet 12 = .ok (.aload_n 0, 1) := dk_42 (dk_at dksX0_meet_0 12 rfl rfl)
theorem dX0_meet_13 : decode cX0_meet 13 = .ok (.getfield 137, 3) := dk_180 0 137 (dk_at dksX0_meet_0 13 rfl rfl)
theorem dX0_meet_16 : decode cX0_meet 16 = .ok (.aload_n 0, 1) := dk_42 (dk_at dksX0_meet_0 16 rfl rfl)
theorem dX0_meet_17 : decode cX0_meet 17 = .ok (.getfield 141, 3) := dk_180 0 141 (dk_at dksX0_meet_0 17 rfl rfl)
theorem dX0_meet_20 : decode cX0_meet 20 = .ok (.aload_n 0, 1) := dk_42 (dk_at dksX0_meet_0 20 rfl rfl)
theorem dX0_meet_21 : decode cX0_meet 21 = .ok (.getfield 144, 3) := dk_180 0 144 (dk_at dksX0_meet_0 21 rfl rfl)
theorem dX0_meet_24 : decode cX0_meet 24 = .ok (.invokevirtual 292, 3) := dk_182 1 36 (dk_at dksX0_meet_1 0 rfl rfl)
theorem dX0_meet_27 : decode cX0_meet 27 = .ok (.aload_n 0, 1) := dk_42 (dk_at dksX0_meet_1 3 rfl rfl)
theorem dX0_meet_28 : decode cX0_meet 28 = .ok (.aload_n 0, 1) := dk_42 (dk_at dksX0_meet_1 4 rfl rfl)
theorem dX0_meet_29 : decode cX0_meet 29 = .ok (.getfield 144, 3) := dk_180 0 144 (dk_at dksX0_meet_1 5 rfl rfl)
theorem dX0_meet_32 : decode cX0_meet 32 = .ok (.invokevirtual 296, 3) := dk_182 1 40 (dk_at dksX0_meet_1 8 rfl rfl)
theorem dX0_meet_35 : decode cX0_meet 35 = .ok (.ireturn, 1) := dk_172 (dk_at dksX0_meet_1 11 rfl rfl)
abbrev cX0_met : ByteArray := prog_1_method_35_code
def yX0_met : MethodName := ⟨RX0, "met", "([B[B[B)V"⟩
def dkwX0_met_1 : List UInt8 := [42, 44, 182, 1, 10, 20, 1, 26, 131, 127, 129, 182, 1, 14, 20, 1, 26, 131, 127, 45, 182, 1, 18, 177]
abbrev dktX0_met_1 : List UInt8 := dkwX0_met_1 ++ []
def dkwX0_met_0 : List UInt8 := [42, 182, 1, 22, 55, 4, 42, 22, 4, 42, 22, 4, 42, 43, 182, 1, 10, 20, 1, 26, 131, 127, 22, 4]
abbrev dktX0_met_0 : List UInt8 := dkwX0_met_0 ++ dktX0_met_1
theorem dksX0_met_0 : cX0_met.data.toList.drop 0 = dktX0_met_0 := by decide +kernel
theorem dksX0_met_1 : cX0_met.data.toList.drop 24 = dktX0_met_1 := dk_seg dksX0_met_0 24 rfl rfl
theorem dX0_met_0 : decode cX0_met 0 = .ok (.aload_n 0, 1) := dk_42 (dk_at dksX0_met_0 0 rfl rfl)
theorem dX0_met_1 : decode cX0_met 1 = .ok (.invokevirtual 278, 3) := dk_182 1 22 (dk_at dksX0_met_0 1 rfl rfl)
theorem dX0_met_4 : decode cX0_met 4 = .ok (.lstore 4, 2) := dk_55 4 (dk_at dksX0_met_0 4 rfl rfl)
theorem dX0_met_6 : decode cX0_met 6 = .ok (.aload_n 0, 1) := dk_42 (dk_at dksX0_met_0 6 rfl rfl)
theorem dX0_met_7 : decode cX0_met 7 = .ok (.lload 4, 2) := dk_22 4 (dk_at dksX0_met_0 7 rfl rfl)
theorem dX0_met_9 : decode cX0_met 9 = .ok (.aload_n 0, 1) := dk_42 (dk_at dksX0_met_0 9 rfl rfl)
theorem dX0_met_10 : decode cX0_met 10 = .ok (.lload 4, 2) := dk_22 4 (dk_at dksX0_met_0 10 rfl rfl)
theorem dX0_met_12 : decode cX0_met 12 = .ok (.aload_n 0, 1) := dk_42 (dk_at dksX0_met_0 12 rfl rfl)
theorem dX0_met_13 : decode cX0_met 13 = .ok (.aload_n 1, 1) := dk_43 (dk_at dksX0_met_0 13 rfl rfl)
theorem dX0_met_14 : decode cX0_met 14 = .ok (.invokevirtual 266, 3) := dk_182 1 10 (dk_at dksX0_met_0 14 rfl rfl)
theorem dX0_met_17 : decode cX0_met 17 = .ok (.ldc2_w 282, 3) := dk_20 1 26 (dk_at dksX0_met_0 17 rfl rfl)
theorem dX0_met_20 : decode cX0_met 20 = .ok (.lxor, 1) := dk_131 (dk_at dksX0_met_0 20 rfl rfl)
theorem dX0_met_21 : decode cX0_met 21 = .ok (.land, 1) := dk_127 (dk_at dksX0_met_0 21 rfl rfl)
theorem dX0_met_22 : decode cX0_met 22 = .ok (.lload 4, 2) := dk_22 4 (dk_at dksX0_met_0 22 rfl rfl)
theorem dX0_met_24 : decode cX0_met 24 = .ok (.aload_n 0, 1) := dk_42 (dk_at dksX0_met_1 0 rfl rfl)
theorem dX0_met_25 : decode cX0_met 25 = .ok (.aload_n 2, 1) := dk_44 (dk_at dksX0_met_1 1 rfl rfl)
theorem dX0_met_26 : decode cX0_met 26 = .ok (.invokevirtual 266, 3) := dk_182 1 10 (dk_at dksX0_met_1 2 rfl rfl)
theorem dX0_met_29 : decode cX0_met 29 = .ok (.ldc2_w 282, 3) := dk_20 1 26 (dk_at dksX0_met_1 5 rfl rfl)
theorem dX0_met_32 : decode cX0_met 32 = .ok (.lxor, 1) := dk_131 (dk_at dksX0_met_1 8 rfl rfl)
theorem dX0_met_33 : decode cX0_met 33 = .ok (.land, 1) := dk_127 (dk_at dksX0_met_1 9 rfl rfl)
theorem dX0_met_34 : decode cX0_met 34 = .ok (.lor, 1) := dk_129 (dk_at dksX0_met_1 10 rfl rfl)
theorem dX0_met_35 : decode cX0_met 35 = .ok (.invokevirtual 270, 3) := dk_182 1 14 (dk_at dksX0_met_1 11 rfl rfl)
theorem dX0_met_38 : decode cX0_met 38 = .ok (.ldc2_w 282, 3) := dk_20 1 26 (dk_at dksX0_met_1 14 rfl rfl)
theorem dX0_met_41 : decode cX0_met 41 = .ok (.lxor, 1) := dk_131 (dk_at dksX0_met_1 17 rfl rfl)
theorem dX0_met_42 : decode cX0_met 42 = .ok (.land, 1) := dk_127 (dk_at dksX0_met_1 18 rfl rfl)
theorem dX0_met_43 : decode cX0_met 43 = .ok (.aload_n 3, 1) := dk_45 (dk_at dksX0_met_1 19 rfl rfl)
theorem dX0_met_44 : decode cX0_met 44 = .ok (.invokevirtual 274, 3) := dk_182 1 18 (dk_at dksX0_met_1 20 rfl rfl)
theorem dX0_met_47 : decode cX0_met 47 = .ok (.return_, 1) := dk_177 (dk_at dksX0_met_1 23 rfl rfl)
abbrev cX0_allPairs : ByteArray := prog_1_method_31_code
def yX0_allPairs : MethodName := ⟨RX0, "allPairs", "()J"⟩
def dkwX0_allPairs_2 : List UInt8 := [132, 3, 1, 167, 255, 210, 31, 173]
abbrev dktX0_allPairs_2 : List UInt8 := dkwX0_allPairs_2 ++ []
def dkwX0_allPairs_1 : List UInt8 := [180, 0, 34, 180, 0, 38, 163, 0, 18, 31, 29, 21, 4, 184, 1, 6, 129, 64, 132, 4, 1, 167, 255, 232]
abbrev dktX0_allPairs_1 : List UInt8 := dkwX0_allPairs_1 ++ dktX0_allPairs_2
def dkwX0_allPairs_0 : List UInt8 := [9, 64, 4, 62, 29, 42, 180, 0, 34, 180, 0, 38, 162, 0, 41, 29, 4, 96, 54, 4, 21, 4, 42]
abbrev dktX0_allPairs_0 : List UInt8 := dkwX0_allPairs_0 ++ dktX0_allPairs_1
theorem dksX0_allPairs_0 : cX0_allPairs.data.toList.drop 0 = dktX0_allPairs_0 := by decide +kernel
theorem dksX0_allPairs_1 : cX0_allPairs.data.toList.drop 23 = dktX0_allPairs_1 := dk_seg dksX0_allPairs_0 23 rfl rfl
theorem dksX0_allPairs_2 : cX0_allPairs.data.toList.drop 47 = dktX0_allPairs_2 := dk_seg dksX0_allPairs_1 24 rfl rfl
theorem dX0_allPairs_0 : decode cX0_allPairs 0 = .ok (.lconst 0, 1) := dk_9 (dk_at dksX0_allPairs_0 0 rfl rfl)
theorem dX0_allPairs_1 : decode cX0_allPairs 1 = .ok (.lstore_n 1, 1) := dk_64 (dk_at dksX0_allPairs_0 1 rfl rfl)
theorem dX0_allPairs_2 : decode cX0_allPairs 2 = .ok (.iconst 1, 1) := dk_4 (dk_at dksX0_allPairs_0 2 rfl rfl)
theorem dX0_allPairs_3 : decode cX0_allPairs 3 = .ok (.istore_n 3, 1) := dk_62 (dk_at dksX0_allPairs_0 3 rfl rfl)
theorem dX0_allPairs_4 : decode cX0_allPairs 4 = .ok (.iload_n 3, 1) := dk_29 (dk_at dksX0_allPairs_0 4 rfl rfl)
theorem dX0_allPairs_5 : decode cX0_allPairs 5 = .ok (.aload_n 0, 1) := dk_42 (dk_at dksX0_allPairs_0 5 rfl rfl)
theorem dX0_allPairs_6 : decode cX0_allPairs 6 = .ok (.getfield 34, 3) := dk_180 0 34 (dk_at dksX0_allPairs_0 6 rfl rfl)
theorem dX0_allPairs_9 : decode cX0_allPairs 9 = .ok (.getfield 38, 3) := dk_180 0 38 (dk_at dksX0_allPairs_0 9 rfl rfl)
theorem dX0_allPairs_12 : decode cX0_allPairs 12 = .ok (.if_icmp .ge 41, 3) := dk_162 0 41 (dk_at dksX0_allPairs_0 12 rfl rfl)
theorem dX0_allPairs_15 : decode cX0_allPairs 15 = .ok (.iload_n 3, 1) := dk_29 (dk_at dksX0_allPairs_0 15 rfl rfl)
theorem dX0_allPairs_16 : decode cX0_allPairs 16 = .ok (.iconst 1, 1) := dk_4 (dk_at dksX0_allPairs_0 16 rfl rfl)
theorem dX0_allPairs_17 : decode cX0_allPairs 17 = .ok (.iadd, 1) := dk_96 (dk_at dksX0_allPairs_0 17 rfl rfl)
theorem dX0_allPairs_18 : decode cX0_allPairs 18 = .ok (.istore 4, 2) := dk_54 4 (dk_at dksX0_allPairs_0 18 rfl rfl)
theorem dX0_allPairs_20 : decode cX0_allPairs 20 = .ok (.iload 4, 2) := dk_21 4 (dk_at dksX0_allPairs_0 20 rfl rfl)
theorem dX0_allPairs_22 : decode cX0_allPairs 22 = .ok (.aload_n 0, 1) := dk_42 (dk_at dksX0_allPairs_0 22 rfl rfl)
theorem dX0_allPairs_23 : decode cX0_allPairs 23 = .ok (.getfield 34, 3) := dk_180 0 34 (dk_at dksX0_allPairs_1 0 rfl rfl)
theorem dX0_allPairs_26 : decode cX0_allPairs 26 = .ok (.getfield 38, 3) := dk_180 0 38 (dk_at dksX0_allPairs_1 3 rfl rfl)
theorem dX0_allPairs_29 : decode cX0_allPairs 29 = .ok (.if_icmp .gt 18, 3) := dk_163 0 18 (dk_at dksX0_allPairs_1 6 rfl rfl)
theorem dX0_allPairs_32 : decode cX0_allPairs 32 = .ok (.lload_n 1, 1) := dk_31 (dk_at dksX0_allPairs_1 9 rfl rfl)
theorem dX0_allPairs_33 : decode cX0_allPairs 33 = .ok (.iload_n 3, 1) := dk_29 (dk_at dksX0_allPairs_1 10 rfl rfl)
theorem dX0_allPairs_34 : decode cX0_allPairs 34 = .ok (.iload 4, 2) := dk_21 4 (dk_at dksX0_allPairs_1 11 rfl rfl)
theorem dX0_allPairs_36 : decode cX0_allPairs 36 = .ok (.invokestatic 262, 3) := dk_184 1 6 (dk_at dksX0_allPairs_1 13 rfl rfl)
theorem dX0_allPairs_39 : decode cX0_allPairs 39 = .ok (.lor, 1) := dk_129 (dk_at dksX0_allPairs_1 16 rfl rfl)
theorem dX0_allPairs_40 : decode cX0_allPairs 40 = .ok (.lstore_n 1, 1) := dk_64 (dk_at dksX0_allPairs_1 17 rfl rfl)
theorem dX0_allPairs_41 : decode cX0_allPairs 41 = .ok (.iinc 4 1, 3) := dk_132 4 1 (dk_at dksX0_allPairs_1 18 rfl rfl)
theorem dX0_allPairs_44 : decode cX0_allPairs 44 = .ok (.goto (-24), 3) := dk_167 255 232 (dk_at dksX0_allPairs_1 21 rfl rfl)
theorem dX0_allPairs_47 : decode cX0_allPairs 47 = .ok (.iinc 3 1, 3) := dk_132 3 1 (dk_at dksX0_allPairs_2 0 rfl rfl)
theorem dX0_allPairs_50 : decode cX0_allPairs 50 = .ok (.goto (-46), 3) := dk_167 255 210 (dk_at dksX0_allPairs_2 3 rfl rfl)
theorem dX0_allPairs_53 : decode cX0_allPairs 53 = .ok (.lload_n 1, 1) := dk_31 (dk_at dksX0_allPairs_2 6 rfl rfl)
theorem dX0_allPairs_54 : decode cX0_allPairs 54 = .ok (.lreturn, 1) := dk_173 (dk_at dksX0_allPairs_2 7 rfl rfl)
abbrev cX0_closedPairs : ByteArray := prog_1_method_32_code
def yX0_closedPairs : MethodName := ⟨RX0, "closedPairs", "(J)J"⟩
def dkwX0_closedPairs_5 : List UInt8 := [132, 6, 1, 167, 255, 156, 132, 5, 1, 167, 255, 135, 33, 173]
abbrev dktX0_closedPairs_5 : List UInt8 := dkwX0_closedPairs_5 ++ []
def dkwX0_closedPairs_4 : List UInt8 := [21, 6, 21, 6, 21, 5, 96, 184, 1, 6, 167, 0, 4, 9, 129, 66, 132, 7, 1, 167, 255, 183]
abbrev dktX0_closedPairs_4 : List UInt8 := dkwX0_closedPairs_4 ++ dktX0_closedPairs_5
def dkwX0_closedPairs_3 : List UInt8 := [96, 184, 1, 6, 127, 9, 148, 153, 0, 7, 4, 167, 0, 4, 3, 54, 8, 33, 21, 8, 153, 0, 16]
abbrev dktX0_closedPairs_3 : List UInt8 := dkwX0_closedPairs_3 ++ dktX0_closedPairs_4
def dkwX0_closedPairs_2 : List UInt8 := [162, 0, 69, 33, 21, 6, 21, 7, 184, 1, 6, 127, 9, 148, 153, 0, 24, 33, 21, 7, 21, 6, 21, 5]
abbrev dktX0_closedPairs_2 : List UInt8 := dkwX0_closedPairs_2 ++ dktX0_closedPairs_3
def dkwX0_closedPairs_1 : List UInt8 := [96, 42, 180, 0, 34, 180, 0, 38, 163, 0, 91, 21, 6, 4, 96, 54, 7, 21, 7, 21, 6, 21, 5, 96]
abbrev dktX0_closedPairs_1 : List UInt8 := dkwX0_closedPairs_1 ++ dktX0_closedPairs_2
def dkwX0_closedPairs_0 : List UInt8 := [31, 66, 5, 54, 5, 21, 5, 42, 180, 0, 34, 180, 0, 38, 162, 0, 115, 4, 54, 6, 21, 6, 21, 5]
abbrev dktX0_closedPairs_0 : List UInt8 := dkwX0_closedPairs_0 ++ dktX0_closedPairs_1
theorem dksX0_closedPairs_0 : cX0_closedPairs.data.toList.drop 0 = dktX0_closedPairs_0 := by decide +kernel
theorem dksX0_closedPairs_1 : cX0_closedPairs.data.toList.drop 24 = dktX0_closedPairs_1 := dk_seg dksX0_closedPairs_0 24 rfl rfl
theorem dksX0_closedPairs_2 : cX0_closedPairs.data.toList.drop 48 = dktX0_closedPairs_2 := dk_seg dksX0_closedPairs_1 24 rfl rfl
theorem dksX0_closedPairs_3 : cX0_closedPairs.data.toList.drop 72 = dktX0_closedPairs_3 := dk_seg dksX0_closedPairs_2 24 rfl rfl
theorem dksX0_closedPairs_4 : cX0_closedPairs.data.toList.drop 95 = dktX0_closedPairs_4 := dk_seg dksX0_closedPairs_3 23 rfl rfl
theorem dksX0_closedPairs_5 : cX0_closedPairs.data.toList.drop 117 = dktX0_closedPairs_5 := dk_seg dksX0_closedPairs_4 22 rfl rfl
theorem dX0_closedPairs_0 : decode cX0_closedPairs 0 = .ok (.lload_n 1, 1) := dk_31 (dk_at dksX0_closedPairs_0 0 rfl rfl)
theorem dX0_closedPairs_1 : decode cX0_closedPairs 1 = .ok (.lstore_n 3, 1) := dk_66 (dk_at dksX0_closedPairs_0 1 rfl rfl)
theorem dX0_closedPairs_2 : decode cX0_closedPairs 2 = .ok (.iconst 2, 1) := dk_5 (dk_at dksX0_closedPairs_0 2 rfl rfl)
theorem dX0_closedPairs_3 : decode cX0_closedPairs 3 = .ok (.istore 5, 2) := dk_54 5 (dk_at dksX0_closedPairs_0 3 rfl rfl)
theorem dX0_closedPairs_5 : decode cX0_closedPairs 5 = .ok (.iload 5, 2) := dk_21 5 (dk_at dksX0_closedPairs_0 5 rfl rfl)
theorem dX0_closedPairs_7 : decode cX0_closedPairs 7 = .ok (.aload_n 0, 1) := dk_42 (dk_at dksX0_closedPairs_0 7 rfl rfl)
theorem dX0_closedPairs_8 : decode cX0_closedPairs 8 = .ok (.getfield 34, 3) := dk_180 0 34 (dk_at dksX0_closedPairs_0 8 rfl rfl)
theorem dX0_closedPairs_11 : decode cX0_closedPairs 11 = .ok (.getfield 38, 3) := dk_180 0 38 (dk_at dksX0_closedPairs_0 11 rfl rfl)
theorem dX0_closedPairs_14 : decode cX0_closedPairs 14 = .ok (.if_icmp .ge 115, 3) := dk_162 0 115 (dk_at dksX0_closedPairs_0 14 rfl rfl)
theorem dX0_closedPairs_17 : decode cX0_closedPairs 17 = .ok (.iconst 1, 1) := dk_4 (dk_at dksX0_closedPairs_0 17 rfl rfl)
theorem dX0_closedPairs_18 : decode cX0_closedPairs 18 = .ok (.istore 6, 2) := dk_54 6 (dk_at dksX0_closedPairs_0 18 rfl rfl)
theorem dX0_closedPairs_20 : decode cX0_closedPairs 20 = .ok (.iload 6, 2) := dk_21 6 (dk_at dksX0_closedPairs_0 20 rfl rfl)
theorem dX0_closedPairs_22 : decode cX0_closedPairs 22 = .ok (.iload 5, 2) := dk_21 5 (dk_at dksX0_closedPairs_0 22 rfl rfl)
theorem dX0_closedPairs_24 : decode cX0_closedPairs 24 = .ok (.iadd, 1) := dk_96 (dk_at dksX0_closedPairs_1 0 rfl rfl)
theorem dX0_closedPairs_25 : decode cX0_closedPairs 25 = .ok (.aload_n 0, 1) := dk_42 (dk_at dksX0_closedPairs_1 1 rfl rfl)
theorem dX0_closedPairs_26 : decode cX0_closedPairs 26 = .ok (.getfield 34, 3) := dk_180 0 34 (dk_at dksX0_closedPairs_1 2 rfl rfl)
theorem dX0_closedPairs_29 : decode cX0_closedPairs 29 = .ok (.getfield 38, 3) := dk_180 0 38 (dk_at dksX0_closedPairs_1 5 rfl rfl)
theorem dX0_closedPairs_32 : decode cX0_closedPairs 32 = .ok (.if_icmp .gt 91, 3) := dk_163 0 91 (dk_at dksX0_closedPairs_1 8 rfl rfl)
theorem dX0_closedPairs_35 : decode cX0_closedPairs 35 = .ok (.iload 6, 2) := dk_21 6 (dk_at dksX0_closedPairs_1 11 rfl rfl)
theorem dX0_closedPairs_37 : decode cX0_closedPairs 37 = .ok (.iconst 1, 1) := dk_4 (dk_at dksX0_closedPairs_1 13 rfl rfl)
theorem dX0_closedPairs_38 : decode cX0_closedPairs 38 = .ok (.iadd, 1) := dk_96 (dk_at dksX0_closedPairs_1 14 rfl rfl)
theorem dX0_closedPairs_39 : decode cX0_closedPairs 39 = .ok (.istore 7, 2) := dk_54 7 (dk_at dksX0_closedPairs_1 15 rfl rfl)
theorem dX0_closedPairs_41 : decode cX0_closedPairs 41 = .ok (.iload 7, 2) := dk_21 7 (dk_at dksX0_closedPairs_1 17 rfl rfl)
theorem dX0_closedPairs_43 : decode cX0_closedPairs 43 = .ok (.iload 6, 2) := dk_21 6 (dk_at dksX0_closedPairs_1 19 rfl rfl)
theorem dX0_closedPairs_45 : decode cX0_closedPairs 45 = .ok (.iload 5, 2) := dk_21 5 (dk_at dksX0_closedPairs_1 21 rfl rfl)
theorem dX0_closedPairs_47 : decode cX0_closedPairs 47 = .ok (.iadd, 1) := dk_96 (dk_at dksX0_closedPairs_1 23 rfl rfl)
theorem dX0_closedPairs_48 : decode cX0_closedPairs 48 = .ok (.if_icmp .ge 69, 3) := dk_162 0 69 (dk_at dksX0_closedPairs_2 0 rfl rfl)
theorem dX0_closedPairs_51 : decode cX0_closedPairs 51 = .ok (.lload_n 3, 1) := dk_33 (dk_at dksX0_closedPairs_2 3 rfl rfl)
theorem dX0_closedPairs_52 : decode cX0_closedPairs 52 = .ok (.iload 6, 2) := dk_21 6 (dk_at dksX0_closedPairs_2 4 rfl rfl)
theorem dX0_closedPairs_54 : decode cX0_closedPairs 54 = .ok (.iload 7, 2) := dk_21 7 (dk_at dksX0_closedPairs_2 6 rfl rfl)
theorem dX0_closedPairs_56 : decode cX0_closedPairs 56 = .ok (.invokestatic 262, 3) := dk_184 1 6 (dk_at dksX0_closedPairs_2 8 rfl rfl)
theorem dX0_closedPairs_59 : decode cX0_closedPairs 59 = .ok (.land, 1) := dk_127 (dk_at dksX0_closedPairs_2 11 rfl rfl)
theorem dX0_closedPairs_60 : decode cX0_closedPairs 60 = .ok (.lconst 0, 1) := dk_9 (dk_at dksX0_closedPairs_2 12 rfl rfl)
theorem dX0_closedPairs_61 : decode cX0_closedPairs 61 = .ok (.lcmp, 1) := dk_148 (dk_at dksX0_closedPairs_2 13 rfl rfl)
theorem dX0_closedPairs_62 : decode cX0_closedPairs 62 = .ok (.ifCond .eq 24, 3) := dk_153 0 24 (dk_at dksX0_closedPairs_2 14 rfl rfl)
theorem dX0_closedPairs_65 : decode cX0_closedPairs 65 = .ok (.lload_n 3, 1) := dk_33 (dk_at dksX0_closedPairs_2 17 rfl rfl)
theorem dX0_closedPairs_66 : decode cX0_closedPairs 66 = .ok (.iload 7, 2) := dk_21 7 (dk_at dksX0_closedPairs_2 18 rfl rfl)
theorem dX0_closedPairs_68 : decode cX0_closedPairs 68 = .ok (.iload 6, 2) := dk_21 6 (dk_at dksX0_closedPairs_2 20 rfl rfl)
theorem dX0_closedPairs_70 : decode cX0_closedPairs 70 = .ok (.iload 5, 2) := dk_21 5 (dk_at dksX0_closedPairs_2 22 rfl rfl)
theorem dX0_closedPairs_72 : decode cX0_closedPairs 72 = .ok (.iadd, 1) := dk_96 (dk_at dksX0_closedPairs_3 0 rfl rfl)
theorem dX0_closedPairs_73 : decode cX0_closedPairs 73 = .ok (.invokestatic 262, 3) := dk_184 1 6 (dk_at dksX0_closedPairs_3 1 rfl rfl)
theorem dX0_closedPairs_76 : decode cX0_closedPairs 76 = .ok (.land, 1) := dk_127 (dk_at dksX0_closedPairs_3 4 rfl rfl)
theorem dX0_closedPairs_77 : decode cX0_closedPairs 77 = .ok (.lconst 0, 1) := dk_9 (dk_at dksX0_closedPairs_3 5 rfl rfl)
theorem dX0_closedPairs_78 : decode cX0_closedPairs 78 = .ok (.lcmp, 1) := dk_148 (dk_at dksX0_closedPairs_3 6 rfl rfl)
theorem dX0_closedPairs_79 : decode cX0_closedPairs 79 = .ok (.ifCond .eq 7, 3) := dk_153 0 7 (dk_at dksX0_closedPairs_3 7 rfl rfl)
theorem dX0_closedPairs_82 : decode cX0_closedPairs 82 = .ok (.iconst 1, 1) := dk_4 (dk_at dksX0_closedPairs_3 10 rfl rfl)
theorem dX0_closedPairs_83 : decode cX0_closedPairs 83 = .ok (.goto 4, 3) := dk_167 0 4 (dk_at dksX0_closedPairs_3 11 rfl rfl)
theorem dX0_closedPairs_86 : decode cX0_closedPairs 86 = .ok (.iconst 0, 1) := dk_3 (dk_at dksX0_closedPairs_3 14 rfl rfl)
theorem dX0_closedPairs_87 : decode cX0_closedPairs 87 = .ok (.istore 8, 2) := dk_54 8 (dk_at dksX0_closedPairs_3 15 rfl rfl)
theorem dX0_closedPairs_89 : decode cX0_closedPairs 89 = .ok (.lload_n 3, 1) := dk_33 (dk_at dksX0_closedPairs_3 17 rfl rfl)
theorem dX0_closedPairs_90 : decode cX0_closedPairs 90 = .ok (.iload 8, 2) := dk_21 8 (dk_at dksX0_closedPairs_3 18 rfl rfl)
theorem dX0_closedPairs_92 : decode cX0_closedPairs 92 = .ok (.ifCond .eq 16, 3) := dk_153 0 16 (dk_at dksX0_closedPairs_3 20 rfl rfl)
theorem dX0_closedPairs_95 : decode cX0_closedPairs 95 = .ok (.iload 6, 2) := dk_21 6 (dk_at dksX0_closedPairs_4 0 rfl rfl)
theorem dX0_closedPairs_97 : decode cX0_closedPairs 97 = .ok (.iload 6, 2) := dk_21 6 (dk_at dksX0_closedPairs_4 2 rfl rfl)
theorem dX0_closedPairs_99 : decode cX0_closedPairs 99 = .ok (.iload 5, 2) := dk_21 5 (dk_at dksX0_closedPairs_4 4 rfl rfl)
theorem dX0_closedPairs_101 : decode cX0_closedPairs 101 = .ok (.iadd, 1) := dk_96 (dk_at dksX0_closedPairs_4 6 rfl rfl)
theorem dX0_closedPairs_102 : decode cX0_closedPairs 102 = .ok (.invokestatic 262, 3) := dk_184 1 6 (dk_at dksX0_closedPairs_4 7 rfl rfl)
theorem dX0_closedPairs_105 : decode cX0_closedPairs 105 = .ok (.goto 4, 3) := dk_167 0 4 (dk_at dksX0_closedPairs_4 10 rfl rfl)
theorem dX0_closedPairs_108 : decode cX0_closedPairs 108 = .ok (.lconst 0, 1) := dk_9 (dk_at dksX0_closedPairs_4 13 rfl rfl)
theorem dX0_closedPairs_109 : decode cX0_closedPairs 109 = .ok (.lor, 1) := dk_129 (dk_at dksX0_closedPairs_4 14 rfl rfl)
theorem dX0_closedPairs_110 : decode cX0_closedPairs 110 = .ok (.lstore_n 3, 1) := dk_66 (dk_at dksX0_closedPairs_4 15 rfl rfl)
theorem dX0_closedPairs_111 : decode cX0_closedPairs 111 = .ok (.iinc 7 1, 3) := dk_132 7 1 (dk_at dksX0_closedPairs_4 16 rfl rfl)
theorem dX0_closedPairs_114 : decode cX0_closedPairs 114 = .ok (.goto (-73), 3) := dk_167 255 183 (dk_at dksX0_closedPairs_4 19 rfl rfl)
theorem dX0_closedPairs_117 : decode cX0_closedPairs 117 = .ok (.iinc 6 1, 3) := dk_132 6 1 (dk_at dksX0_closedPairs_5 0 rfl rfl)
theorem dX0_closedPairs_120 : decode cX0_closedPairs 120 = .ok (.goto (-100), 3) := dk_167 255 156 (dk_at dksX0_closedPairs_5 3 rfl rfl)
theorem dX0_closedPairs_123 : decode cX0_closedPairs 123 = .ok (.iinc 5 1, 3) := dk_132 5 1 (dk_at dksX0_closedPairs_5 6 rfl rfl)
theorem dX0_closedPairs_126 : decode cX0_closedPairs 126 = .ok (.goto (-121), 3) := dk_167 255 135 (dk_at dksX0_closedPairs_5 9 rfl rfl)
theorem dX0_closedPairs_129 : decode cX0_closedPairs 129 = .ok (.lload_n 3, 1) := dk_33 (dk_at dksX0_closedPairs_5 12 rfl rfl)
theorem dX0_closedPairs_130 : decode cX0_closedPairs 130 = .ok (.lreturn, 1) := dk_173 (dk_at dksX0_closedPairs_5 13 rfl rfl)
abbrev cX0_rowBy : ByteArray := prog_1_method_33_code
def yX0_rowBy : MethodName := ⟨RX0, "rowBy", "(J[B)V"⟩
def dkwX0_rowBy_5 : List UInt8 := [132, 4, 1, 167, 255, 138, 177]
abbrev dktX0_rowBy_5 : List UInt8 := dkwX0_rowBy_5 ++ []
def dkwX0_rowBy_4 : List UInt8 := [153, 0, 7, 4, 167, 0, 4, 3, 96, 54, 5, 132, 6, 1, 167, 255, 169, 45, 21, 5, 21, 4, 145, 84]
abbrev dktX0_rowBy_4 : List UInt8 := dkwX0_rowBy_4 ++ dktX0_rowBy_5
def dkwX0_rowBy_3 : List UInt8 := [21, 6, 184, 1, 6, 127, 9, 148, 153, 0, 7, 4, 167, 0, 4, 3, 54, 7, 21, 5, 21, 7]
abbrev dktX0_rowBy_3 : List UInt8 := dkwX0_rowBy_3 ++ dktX0_rowBy_4
def dkwX0_rowBy_2 : List UInt8 := [127, 9, 148, 154, 0, 7, 4, 167, 0, 33, 3, 167, 0, 29, 21, 6, 21, 4, 164, 0, 21, 31, 21, 4]
abbrev dktX0_rowBy_2 : List UInt8 := dkwX0_rowBy_2 ++ dktX0_rowBy_3
def dkwX0_rowBy_1 : List UInt8 := [180, 0, 34, 180, 0, 38, 163, 0, 81, 21, 6, 21, 4, 162, 0, 25, 31, 21, 6, 21, 4, 184, 1, 6]
abbrev dktX0_rowBy_1 : List UInt8 := dkwX0_rowBy_1 ++ dktX0_rowBy_2
def dkwX0_rowBy_0 : List UInt8 := [4, 54, 4, 21, 4, 42, 180, 0, 34, 180, 0, 38, 163, 0, 112, 3, 54, 5, 4, 54, 6, 21, 6, 42]
abbrev dktX0_rowBy_0 : List UInt8 := dkwX0_rowBy_0 ++ dktX0_rowBy_1
theorem dksX0_rowBy_0 : cX0_rowBy.data.toList.drop 0 = dktX0_rowBy_0 := by decide +kernel
theorem dksX0_rowBy_1 : cX0_rowBy.data.toList.drop 24 = dktX0_rowBy_1 := dk_seg dksX0_rowBy_0 24 rfl rfl
theorem dksX0_rowBy_2 : cX0_rowBy.data.toList.drop 48 = dktX0_rowBy_2 := dk_seg dksX0_rowBy_1 24 rfl rfl
theorem dksX0_rowBy_3 : cX0_rowBy.data.toList.drop 72 = dktX0_rowBy_3 := dk_seg dksX0_rowBy_2 24 rfl rfl
theorem dksX0_rowBy_4 : cX0_rowBy.data.toList.drop 94 = dktX0_rowBy_4 := dk_seg dksX0_rowBy_3 22 rfl rfl
theorem dksX0_rowBy_5 : cX0_rowBy.data.toList.drop 118 = dktX0_rowBy_5 := dk_seg dksX0_rowBy_4 24 rfl rfl
theorem dX0_rowBy_0 : decode cX0_rowBy 0 = .ok (.iconst 1, 1) := dk_4 (dk_at dksX0_rowBy_0 0 rfl rfl)
theorem dX0_rowBy_1 : decode cX0_rowBy 1 = .ok (.istore 4, 2) := dk_54 4 (dk_at dksX0_rowBy_0 1 rfl rfl)
theorem dX0_rowBy_3 : decode cX0_rowBy 3 = .ok (.iload 4, 2) := dk_21 4 (dk_at dksX0_rowBy_0 3 rfl rfl)
theorem dX0_rowBy_5 : decode cX0_rowBy 5 = .ok (.aload_n 0, 1) := dk_42 (dk_at dksX0_rowBy_0 5 rfl rfl)
theorem dX0_rowBy_6 : decode cX0_rowBy 6 = .ok (.getfield 34, 3) := dk_180 0 34 (dk_at dksX0_rowBy_0 6 rfl rfl)
theorem dX0_rowBy_9 : decode cX0_rowBy 9 = .ok (.getfield 38, 3) := dk_180 0 38 (dk_at dksX0_rowBy_0 9 rfl rfl)
theorem dX0_rowBy_12 : decode cX0_rowBy 12 = .ok (.if_icmp .gt 112, 3) := dk_163 0 112 (dk_at dksX0_rowBy_0 12 rfl rfl)
theorem dX0_rowBy_15 : decode cX0_rowBy 15 = .ok (.iconst 0, 1) := dk_3 (dk_at dksX0_rowBy_0 15 rfl rfl)
theorem dX0_rowBy_16 : decode cX0_rowBy 16 = .ok (.istore 5, 2) := dk_54 5 (dk_at dksX0_rowBy_0 16 rfl rfl)
theorem dX0_rowBy_18 : decode cX0_rowBy 18 = .ok (.iconst 1, 1) := dk_4 (dk_at dksX0_rowBy_0 18 rfl rfl)
theorem dX0_rowBy_19 : decode cX0_rowBy 19 = .ok (.istore 6, 2) := dk_54 6 (dk_at dksX0_rowBy_0 19 rfl rfl)
theorem dX0_rowBy_21 : decode cX0_rowBy 21 = .ok (.iload 6, 2) := dk_21 6 (dk_at dksX0_rowBy_0 21 rfl rfl)
theorem dX0_rowBy_23 : decode cX0_rowBy 23 = .ok (.aload_n 0, 1) := dk_42 (dk_at dksX0_rowBy_0 23 rfl rfl)
theorem dX0_rowBy_24 : decode cX0_rowBy 24 = .ok (.getfield 34, 3) := dk_180 0 34 (dk_at dksX0_rowBy_1 0 rfl rfl)
theorem dX0_rowBy_27 : decode cX0_rowBy 27 = .ok (.getfield 38, 3) := dk_180 0 38 (dk_at dksX0_rowBy_1 3 rfl rfl)
theorem dX0_rowBy_30 : decode cX0_rowBy 30 = .ok (.if_icmp .gt 81, 3) := dk_163 0 81 (dk_at dksX0_rowBy_1 6 rfl rfl)
theorem dX0_rowBy_33 : decode cX0_rowBy 33 = .ok (.iload 6, 2) := dk_21 6 (dk_at dksX0_rowBy_1 9 rfl rfl)
theorem dX0_rowBy_35 : decode cX0_rowBy 35 = .ok (.iload 4, 2) := dk_21 4 (dk_at dksX0_rowBy_1 11 rfl rfl)
theorem dX0_rowBy_37 : decode cX0_rowBy 37 = .ok (.if_icmp .ge 25, 3) := dk_162 0 25 (dk_at dksX0_rowBy_1 13 rfl rfl)
theorem dX0_rowBy_40 : decode cX0_rowBy 40 = .ok (.lload_n 1, 1) := dk_31 (dk_at dksX0_rowBy_1 16 rfl rfl)
theorem dX0_rowBy_41 : decode cX0_rowBy 41 = .ok (.iload 6, 2) := dk_21 6 (dk_at dksX0_rowBy_1 17 rfl rfl)
theorem dX0_rowBy_43 : decode cX0_rowBy 43 = .ok (.iload 4, 2) := dk_21 4 (dk_at dksX0_rowBy_1 19 rfl rfl)
theorem dX0_rowBy_45 : decode cX0_rowBy 45 = .ok (.invokestatic 262, 3) := dk_184 1 6 (dk_at dksX0_rowBy_1 21 rfl rfl)
theorem dX0_rowBy_48 : decode cX0_rowBy 48 = .ok (.land, 1) := dk_127 (dk_at dksX0_rowBy_2 0 rfl rfl)
theorem dX0_rowBy_49 : decode cX0_rowBy 49 = .ok (.lconst 0, 1) := dk_9 (dk_at dksX0_rowBy_2 1 rfl rfl)
theorem dX0_rowBy_50 : decode cX0_rowBy 50 = .ok (.lcmp, 1) := dk_148 (dk_at dksX0_rowBy_2 2 rfl rfl)
theorem dX0_rowBy_51 : decode cX0_rowBy 51 = .ok (.ifCond .ne 7, 3) := dk_154 0 7 (dk_at dksX0_rowBy_2 3 rfl rfl)
theorem dX0_rowBy_54 : decode cX0_rowBy 54 = .ok (.iconst 1, 1) := dk_4 (dk_at dksX0_rowBy_2 6 rfl rfl)
theorem dX0_rowBy_55 : decode cX0_rowBy 55 = .ok (.goto 33, 3) := dk_167 0 33 (dk_at dksX0_rowBy_2 7 rfl rfl)
theorem dX0_rowBy_58 : decode cX0_rowBy 58 = .ok (.iconst 0, 1) := dk_3 (dk_at dksX0_rowBy_2 10 rfl rfl)
theorem dX0_rowBy_59 : decode cX0_rowBy 59 = .ok (.goto 29, 3) := dk_167 0 29 (dk_at dksX0_rowBy_2 11 rfl rfl)
theorem dX0_rowBy_62 : decode cX0_rowBy 62 = .ok (.iload 6, 2) := dk_21 6 (dk_at dksX0_rowBy_2 14 rfl rfl)
theorem dX0_rowBy_64 : decode cX0_rowBy 64 = .ok (.iload 4, 2) := dk_21 4 (dk_at dksX0_rowBy_2 16 rfl rfl)
theorem dX0_rowBy_66 : decode cX0_rowBy 66 = .ok (.if_icmp .le 21, 3) := dk_164 0 21 (dk_at dksX0_rowBy_2 18 rfl rfl)
theorem dX0_rowBy_69 : decode cX0_rowBy 69 = .ok (.lload_n 1, 1) := dk_31 (dk_at dksX0_rowBy_2 21 rfl rfl)
theorem dX0_rowBy_70 : decode cX0_rowBy 70 = .ok (.iload 4, 2) := dk_21 4 (dk_at dksX0_rowBy_2 22 rfl rfl)
theorem dX0_rowBy_72 : decode cX0_rowBy 72 = .ok (.iload 6, 2) := dk_21 6 (dk_at dksX0_rowBy_3 0 rfl rfl)
theorem dX0_rowBy_74 : decode cX0_rowBy 74 = .ok (.invokestatic 262, 3) := dk_184 1 6 (dk_at dksX0_rowBy_3 2 rfl rfl)
theorem dX0_rowBy_77 : decode cX0_rowBy 77 = .ok (.land, 1) := dk_127 (dk_at dksX0_rowBy_3 5 rfl rfl)
theorem dX0_rowBy_78 : decode cX0_rowBy 78 = .ok (.lconst 0, 1) := dk_9 (dk_at dksX0_rowBy_3 6 rfl rfl)
theorem dX0_rowBy_79 : decode cX0_rowBy 79 = .ok (.lcmp, 1) := dk_148 (dk_at dksX0_rowBy_3 7 rfl rfl)
theorem dX0_rowBy_80 : decode cX0_rowBy 80 = .ok (.ifCond .eq 7, 3) := dk_153 0 7 (dk_at dksX0_rowBy_3 8 rfl rfl)
theorem dX0_rowBy_83 : decode cX0_rowBy 83 = .ok (.iconst 1, 1) := dk_4 (dk_at dksX0_rowBy_3 11 rfl rfl)
theorem dX0_rowBy_84 : decode cX0_rowBy 84 = .ok (.goto 4, 3) := dk_167 0 4 (dk_at dksX0_rowBy_3 12 rfl rfl)
theorem dX0_rowBy_87 : decode cX0_rowBy 87 = .ok (.iconst 0, 1) := dk_3 (dk_at dksX0_rowBy_3 15 rfl rfl)
theorem dX0_rowBy_88 : decode cX0_rowBy 88 = .ok (.istore 7, 2) := dk_54 7 (dk_at dksX0_rowBy_3 16 rfl rfl)
theorem dX0_rowBy_90 : decode cX0_rowBy 90 = .ok (.iload 5, 2) := dk_21 5 (dk_at dksX0_rowBy_3 18 rfl rfl)
theorem dX0_rowBy_92 : decode cX0_rowBy 92 = .ok (.iload 7, 2) := dk_21 7 (dk_at dksX0_rowBy_3 20 rfl rfl)
theorem dX0_rowBy_94 : decode cX0_rowBy 94 = .ok (.ifCond .eq 7, 3) := dk_153 0 7 (dk_at dksX0_rowBy_4 0 rfl rfl)
theorem dX0_rowBy_97 : decode cX0_rowBy 97 = .ok (.iconst 1, 1) := dk_4 (dk_at dksX0_rowBy_4 3 rfl rfl)
theorem dX0_rowBy_98 : decode cX0_rowBy 98 = .ok (.goto 4, 3) := dk_167 0 4 (dk_at dksX0_rowBy_4 4 rfl rfl)
theorem dX0_rowBy_101 : decode cX0_rowBy 101 = .ok (.iconst 0, 1) := dk_3 (dk_at dksX0_rowBy_4 7 rfl rfl)
theorem dX0_rowBy_102 : decode cX0_rowBy 102 = .ok (.iadd, 1) := dk_96 (dk_at dksX0_rowBy_4 8 rfl rfl)
theorem dX0_rowBy_103 : decode cX0_rowBy 103 = .ok (.istore 5, 2) := dk_54 5 (dk_at dksX0_rowBy_4 9 rfl rfl)
theorem dX0_rowBy_105 : decode cX0_rowBy 105 = .ok (.iinc 6 1, 3) := dk_132 6 1 (dk_at dksX0_rowBy_4 11 rfl rfl)
theorem dX0_rowBy_108 : decode cX0_rowBy 108 = .ok (.goto (-87), 3) := dk_167 255 169 (dk_at dksX0_rowBy_4 14 rfl rfl)
theorem dX0_rowBy_111 : decode cX0_rowBy 111 = .ok (.aload_n 3, 1) := dk_45 (dk_at dksX0_rowBy_4 17 rfl rfl)
theorem dX0_rowBy_112 : decode cX0_rowBy 112 = .ok (.iload 5, 2) := dk_21 5 (dk_at dksX0_rowBy_4 18 rfl rfl)
theorem dX0_rowBy_114 : decode cX0_rowBy 114 = .ok (.iload 4, 2) := dk_21 4 (dk_at dksX0_rowBy_4 20 rfl rfl)
theorem dX0_rowBy_116 : decode cX0_rowBy 116 = .ok (.i2b, 1) := dk_145 (dk_at dksX0_rowBy_4 22 rfl rfl)
theorem dX0_rowBy_117 : decode cX0_rowBy 117 = .ok (.bastore, 1) := dk_84 (dk_at dksX0_rowBy_4 23 rfl rfl)
theorem dX0_rowBy_118 : decode cX0_rowBy 118 = .ok (.iinc 4 1, 3) := dk_132 4 1 (dk_at dksX0_rowBy_5 0 rfl rfl)
theorem dX0_rowBy_121 : decode cX0_rowBy 121 = .ok (.goto (-118), 3) := dk_167 255 138 (dk_at dksX0_rowBy_5 3 rfl rfl)
theorem dX0_rowBy_124 : decode cX0_rowBy 124 = .ok (.return_, 1) := dk_177 (dk_at dksX0_rowBy_5 6 rfl rfl)
abbrev cX0_told : ByteArray := prog_1_method_18_code
def yX0_told : MethodName := ⟨RX0, "told", "([B)I"⟩
def dkwX0_told_1 : List UInt8 := [132, 3, 1, 167, 255, 233, 28, 172]
abbrev dktX0_told_1 : List UInt8 := dkwX0_told_1 ++ []
def dkwX0_told_0 : List UInt8 := [3, 61, 3, 62, 29, 42, 180, 0, 34, 180, 0, 38, 162, 0, 18, 16, 10, 28, 104, 43, 29, 51, 96, 61]
abbrev dktX0_told_0 : List UInt8 := dkwX0_told_0 ++ dktX0_told_1
theorem dksX0_told_0 : cX0_told.data.toList.drop 0 = dktX0_told_0 := by decide +kernel
theorem dksX0_told_1 : cX0_told.data.toList.drop 24 = dktX0_told_1 := dk_seg dksX0_told_0 24 rfl rfl
theorem dX0_told_0 : decode cX0_told 0 = .ok (.iconst 0, 1) := dk_3 (dk_at dksX0_told_0 0 rfl rfl)
theorem dX0_told_1 : decode cX0_told 1 = .ok (.istore_n 2, 1) := dk_61 (dk_at dksX0_told_0 1 rfl rfl)
theorem dX0_told_2 : decode cX0_told 2 = .ok (.iconst 0, 1) := dk_3 (dk_at dksX0_told_0 2 rfl rfl)
theorem dX0_told_3 : decode cX0_told 3 = .ok (.istore_n 3, 1) := dk_62 (dk_at dksX0_told_0 3 rfl rfl)
theorem dX0_told_4 : decode cX0_told 4 = .ok (.iload_n 3, 1) := dk_29 (dk_at dksX0_told_0 4 rfl rfl)
theorem dX0_told_5 : decode cX0_told 5 = .ok (.aload_n 0, 1) := dk_42 (dk_at dksX0_told_0 5 rfl rfl)
theorem dX0_told_6 : decode cX0_told 6 = .ok (.getfield 34, 3) := dk_180 0 34 (dk_at dksX0_told_0 6 rfl rfl)
theorem dX0_told_9 : decode cX0_told 9 = .ok (.getfield 38, 3) := dk_180 0 38 (dk_at dksX0_told_0 9 rfl rfl)
theorem dX0_told_12 : decode cX0_told 12 = .ok (.if_icmp .ge 18, 3) := dk_162 0 18 (dk_at dksX0_told_0 12 rfl rfl)
theorem dX0_told_15 : decode cX0_told 15 = .ok (.bipush 10, 2) := dk_16 10 (dk_at dksX0_told_0 15 rfl rfl)
theorem dX0_told_17 : decode cX0_told 17 = .ok (.iload_n 2, 1) := dk_28 (dk_at dksX0_told_0 17 rfl rfl)
theorem dX0_told_18 : decode cX0_told 18 = .ok (.imul, 1) := dk_104 (dk_at dksX0_told_0 18 rfl rfl)
theorem dX0_told_19 : decode cX0_told 19 = .ok (.aload_n 1, 1) := dk_43 (dk_at dksX0_told_0 19 rfl rfl)
theorem dX0_told_20 : decode cX0_told 20 = .ok (.iload_n 3, 1) := dk_29 (dk_at dksX0_told_0 20 rfl rfl)
theorem dX0_told_21 : decode cX0_told 21 = .ok (.baload, 1) := dk_51 (dk_at dksX0_told_0 21 rfl rfl)
theorem dX0_told_22 : decode cX0_told 22 = .ok (.iadd, 1) := dk_96 (dk_at dksX0_told_0 22 rfl rfl)
theorem dX0_told_23 : decode cX0_told 23 = .ok (.istore_n 2, 1) := dk_61 (dk_at dksX0_told_0 23 rfl rfl)
theorem dX0_told_24 : decode cX0_told 24 = .ok (.iinc 3 1, 3) := dk_132 3 1 (dk_at dksX0_told_1 0 rfl rfl)
theorem dX0_told_27 : decode cX0_told 27 = .ok (.goto (-23), 3) := dk_167 255 233 (dk_at dksX0_told_1 3 rfl rfl)
theorem dX0_told_30 : decode cX0_told 30 = .ok (.iload_n 2, 1) := dk_28 (dk_at dksX0_told_1 6 rfl rfl)
theorem dX0_told_31 : decode cX0_told 31 = .ok (.ireturn, 1) := dk_172 (dk_at dksX0_told_1 7 rfl rfl)
abbrev cX0_join : ByteArray := prog_1_method_40_code
def yX0_join : MethodName := ⟨RX0, "join", "(II)I"⟩
def dkwX0_join_1 : List UInt8 := [182, 1, 44, 42, 42, 180, 0, 144, 182, 1, 40, 172]
abbrev dktX0_join_1 : List UInt8 := dkwX0_join_1 ++ []
def dkwX0_join_0 : List UInt8 := [42, 27, 28, 182, 1, 28, 154, 0, 5, 2, 172, 42, 42, 180, 0, 137, 42, 180, 0, 141, 42, 180, 0, 144]
abbrev dktX0_join_0 : List UInt8 := dkwX0_join_0 ++ dktX0_join_1
theorem dksX0_join_0 : cX0_join.data.toList.drop 0 = dktX0_join_0 := by decide +kernel
theorem dksX0_join_1 : cX0_join.data.toList.drop 24 = dktX0_join_1 := dk_seg dksX0_join_0 24 rfl rfl
theorem dX0_join_0 : decode cX0_join 0 = .ok (.aload_n 0, 1) := dk_42 (dk_at dksX0_join_0 0 rfl rfl)
theorem dX0_join_1 : decode cX0_join 1 = .ok (.iload_n 1, 1) := dk_27 (dk_at dksX0_join_0 1 rfl rfl)
theorem dX0_join_2 : decode cX0_join 2 = .ok (.iload_n 2, 1) := dk_28 (dk_at dksX0_join_0 2 rfl rfl)
theorem dX0_join_3 : decode cX0_join 3 = .ok (.invokevirtual 284, 3) := dk_182 1 28 (dk_at dksX0_join_0 3 rfl rfl)
theorem dX0_join_6 : decode cX0_join 6 = .ok (.ifCond .ne 5, 3) := dk_154 0 5 (dk_at dksX0_join_0 6 rfl rfl)
theorem dX0_join_9 : decode cX0_join 9 = .ok (.iconst (-1), 1) := dk_2 (dk_at dksX0_join_0 9 rfl rfl)
theorem dX0_join_10 : decode cX0_join 10 = .ok (.ireturn, 1) := dk_172 (dk_at dksX0_join_0 10 rfl rfl)
theorem dX0_join_11 : decode cX0_join 11 = .ok (.aload_n 0, 1) := dk_42 (dk_at dksX0_join_0 11 rfl rfl)
theorem dX0_join_12 : decode cX0_join 12 = .ok (.aload_n 0, 1) := dk_42 (dk_at dksX0_join_0 12 rfl rfl)
theorem dX0_join_13 : decode cX0_join 13 = .ok (.getfield 137, 3) := dk_180 0 137 (dk_at dksX0_join_0 13 rfl rfl)
theorem dX0_join_16 : decode cX0_join 16 = .ok (.aload_n 0, 1) := dk_42 (dk_at dksX0_join_0 16 rfl rfl)
theorem dX0_join_17 : decode cX0_join 17 = .ok (.getfield 141, 3) := dk_180 0 141 (dk_at dksX0_join_0 17 rfl rfl)
theorem dX0_join_20 : decode cX0_join 20 = .ok (.aload_n 0, 1) := dk_42 (dk_at dksX0_join_0 20 rfl rfl)
theorem dX0_join_21 : decode cX0_join 21 = .ok (.getfield 144, 3) := dk_180 0 144 (dk_at dksX0_join_0 21 rfl rfl)
theorem dX0_join_24 : decode cX0_join 24 = .ok (.invokevirtual 300, 3) := dk_182 1 44 (dk_at dksX0_join_1 0 rfl rfl)
theorem dX0_join_27 : decode cX0_join 27 = .ok (.aload_n 0, 1) := dk_42 (dk_at dksX0_join_1 3 rfl rfl)
theorem dX0_join_28 : decode cX0_join 28 = .ok (.aload_n 0, 1) := dk_42 (dk_at dksX0_join_1 4 rfl rfl)
theorem dX0_join_29 : decode cX0_join 29 = .ok (.getfield 144, 3) := dk_180 0 144 (dk_at dksX0_join_1 5 rfl rfl)
theorem dX0_join_32 : decode cX0_join 32 = .ok (.invokevirtual 296, 3) := dk_182 1 40 (dk_at dksX0_join_1 8 rfl rfl)
theorem dX0_join_35 : decode cX0_join 35 = .ok (.ireturn, 1) := dk_172 (dk_at dksX0_join_1 11 rfl rfl)
abbrev cX0_joined : ByteArray := prog_1_method_34_code
def yX0_joined : MethodName := ⟨RX0, "joined", "([B[B[B)V"⟩
def dkwX0_joined_0 : List UInt8 := [42, 42, 42, 43, 182, 1, 10, 42, 44, 182, 1, 10, 129, 182, 1, 14, 45, 182, 1, 18, 177]
abbrev dktX0_joined_0 : List UInt8 := dkwX0_joined_0 ++ []
theorem dksX0_joined_0 : cX0_joined.data.toList.drop 0 = dktX0_joined_0 := by decide +kernel
theorem dX0_joined_0 : decode cX0_joined 0 = .ok (.aload_n 0, 1) := dk_42 (dk_at dksX0_joined_0 0 rfl rfl)
theorem dX0_joined_1 : decode cX0_joined 1 = .ok (.aload_n 0, 1) := dk_42 (dk_at dksX0_joined_0 1 rfl rfl)
theorem dX0_joined_2 : decode cX0_joined 2 = .ok (.aload_n 0, 1) := dk_42 (dk_at dksX0_joined_0 2 rfl rfl)
theorem dX0_joined_3 : decode cX0_joined 3 = .ok (.aload_n 1, 1) := dk_43 (dk_at dksX0_joined_0 3 rfl rfl)
theorem dX0_joined_4 : decode cX0_joined 4 = .ok (.invokevirtual 266, 3) := dk_182 1 10 (dk_at dksX0_joined_0 4 rfl rfl)
theorem dX0_joined_7 : decode cX0_joined 7 = .ok (.aload_n 0, 1) := dk_42 (dk_at dksX0_joined_0 7 rfl rfl)
theorem dX0_joined_8 : decode cX0_joined 8 = .ok (.aload_n 2, 1) := dk_44 (dk_at dksX0_joined_0 8 rfl rfl)
theorem dX0_joined_9 : decode cX0_joined 9 = .ok (.invokevirtual 266, 3) := dk_182 1 10 (dk_at dksX0_joined_0 9 rfl rfl)
theorem dX0_joined_12 : decode cX0_joined 12 = .ok (.lor, 1) := dk_129 (dk_at dksX0_joined_0 12 rfl rfl)
theorem dX0_joined_13 : decode cX0_joined 13 = .ok (.invokevirtual 270, 3) := dk_182 1 14 (dk_at dksX0_joined_0 13 rfl rfl)
theorem dX0_joined_16 : decode cX0_joined 16 = .ok (.aload_n 3, 1) := dk_45 (dk_at dksX0_joined_0 16 rfl rfl)
theorem dX0_joined_17 : decode cX0_joined 17 = .ok (.invokevirtual 274, 3) := dk_182 1 18 (dk_at dksX0_joined_0 17 rfl rfl)
theorem dX0_joined_20 : decode cX0_joined 20 = .ok (.return_, 1) := dk_177 (dk_at dksX0_joined_0 20 rfl rfl)
abbrev cX0_of : ByteArray := prog_1_method_43_code
def yX0_of : MethodName := ⟨RX0, "of", "(II)I"⟩
def dkwX0_of_3 : List UInt8 := [180, 0, 137, 182, 1, 50, 172, 42, 42, 180, 0, 137, 182, 1, 53, 172, 2, 172]
abbrev dktX0_of_3 : List UInt8 := dkwX0_of_3 ++ []
def dkwX0_of_2 : List UInt8 := [42, 42, 180, 0, 137, 182, 1, 10, 184, 0, 232, 172, 42, 42, 180, 0, 137, 182, 1, 47, 172, 42, 42]
abbrev dktX0_of_2 : List UInt8 := dkwX0_of_2 ++ dktX0_of_3
def dkwX0_of_1 : List UInt8 := [170, 0, 0, 0, 68, 0, 0, 0, 0, 0, 0, 0, 3, 0, 0, 0, 29, 0, 0, 0, 41, 0, 0, 0, 50, 0, 0, 0, 59]
abbrev dktX0_of_1 : List UInt8 := dkwX0_of_1 ++ dktX0_of_2
def dkwX0_of_0 : List UInt8 := [42, 27, 42, 180, 0, 137, 182, 0, 236, 154, 0, 5, 2, 172, 28]
abbrev dktX0_of_0 : List UInt8 := dkwX0_of_0 ++ dktX0_of_1
theorem dksX0_of_0 : cX0_of.data.toList.drop 0 = dktX0_of_0 := by decide +kernel
theorem dksX0_of_1 : cX0_of.data.toList.drop 15 = dktX0_of_1 := dk_seg dksX0_of_0 15 rfl rfl
theorem dksX0_of_2 : cX0_of.data.toList.drop 44 = dktX0_of_2 := dk_seg dksX0_of_1 29 rfl rfl
theorem dksX0_of_3 : cX0_of.data.toList.drop 67 = dktX0_of_3 := dk_seg dksX0_of_2 23 rfl rfl
theorem dX0_of_0 : decode cX0_of 0 = .ok (.aload_n 0, 1) := dk_42 (dk_at dksX0_of_0 0 rfl rfl)
theorem dX0_of_1 : decode cX0_of 1 = .ok (.iload_n 1, 1) := dk_27 (dk_at dksX0_of_0 1 rfl rfl)
theorem dX0_of_2 : decode cX0_of 2 = .ok (.aload_n 0, 1) := dk_42 (dk_at dksX0_of_0 2 rfl rfl)
theorem dX0_of_3 : decode cX0_of 3 = .ok (.getfield 137, 3) := dk_180 0 137 (dk_at dksX0_of_0 3 rfl rfl)
theorem dX0_of_6 : decode cX0_of 6 = .ok (.invokevirtual 236, 3) := dk_182 0 236 (dk_at dksX0_of_0 6 rfl rfl)
theorem dX0_of_9 : decode cX0_of 9 = .ok (.ifCond .ne 5, 3) := dk_154 0 5 (dk_at dksX0_of_0 9 rfl rfl)
theorem dX0_of_12 : decode cX0_of 12 = .ok (.iconst (-1), 1) := dk_2 (dk_at dksX0_of_0 12 rfl rfl)
theorem dX0_of_13 : decode cX0_of 13 = .ok (.ireturn, 1) := dk_172 (dk_at dksX0_of_0 13 rfl rfl)
theorem dX0_of_14 : decode cX0_of 14 = .ok (.iload_n 2, 1) := dk_28 (dk_at dksX0_of_0 14 rfl rfl)
theorem dX0_of_15 : decode cX0_of 15 = .ok (.tableswitch 68 0 3 #[29, 41, 50, 59], 29) := by decide +kernel
theorem dX0_of_44 : decode cX0_of 44 = .ok (.aload_n 0, 1) := dk_42 (dk_at dksX0_of_2 0 rfl rfl)
theorem dX0_of_45 : decode cX0_of 45 = .ok (.aload_n 0, 1) := dk_42 (dk_at dksX0_of_2 1 rfl rfl)
theorem dX0_of_46 : decode cX0_of 46 = .ok (.getfield 137, 3) := dk_180 0 137 (dk_at dksX0_of_2 2 rfl rfl)
theorem dX0_of_49 : decode cX0_of 49 = .ok (.invokevirtual 266, 3) := dk_182 1 10 (dk_at dksX0_of_2 5 rfl rfl)
theorem dX0_of_52 : decode cX0_of 52 = .ok (.invokestatic 232, 3) := dk_184 0 232 (dk_at dksX0_of_2 8 rfl rfl)
theorem dX0_of_55 : decode cX0_of 55 = .ok (.ireturn, 1) := dk_172 (dk_at dksX0_of_2 11 rfl rfl)
theorem dX0_of_56 : decode cX0_of 56 = .ok (.aload_n 0, 1) := dk_42 (dk_at dksX0_of_2 12 rfl rfl)
theorem dX0_of_57 : decode cX0_of 57 = .ok (.aload_n 0, 1) := dk_42 (dk_at dksX0_of_2 13 rfl rfl)
theorem dX0_of_58 : decode cX0_of 58 = .ok (.getfield 137, 3) := dk_180 0 137 (dk_at dksX0_of_2 14 rfl rfl)
theorem dX0_of_61 : decode cX0_of 61 = .ok (.invokevirtual 303, 3) := dk_182 1 47 (dk_at dksX0_of_2 17 rfl rfl)
theorem dX0_of_64 : decode cX0_of 64 = .ok (.ireturn, 1) := dk_172 (dk_at dksX0_of_2 20 rfl rfl)
theorem dX0_of_65 : decode cX0_of 65 = .ok (.aload_n 0, 1) := dk_42 (dk_at dksX0_of_2 21 rfl rfl)
theorem dX0_of_66 : decode cX0_of 66 = .ok (.aload_n 0, 1) := dk_42 (dk_at dksX0_of_2 22 rfl rfl)
theorem dX0_of_67 : decode cX0_of 67 = .ok (.getfield 137, 3) := dk_180 0 137 (dk_at dksX0_of_3 0 rfl rfl)
theorem dX0_of_70 : decode cX0_of 70 = .ok (.invokevirtual 306, 3) := dk_182 1 50 (dk_at dksX0_of_3 3 rfl rfl)
theorem dX0_of_73 : decode cX0_of 73 = .ok (.ireturn, 1) := dk_172 (dk_at dksX0_of_3 6 rfl rfl)
theorem dX0_of_74 : decode cX0_of 74 = .ok (.aload_n 0, 1) := dk_42 (dk_at dksX0_of_3 7 rfl rfl)
theorem dX0_of_75 : decode cX0_of 75 = .ok (.aload_n 0, 1) := dk_42 (dk_at dksX0_of_3 8 rfl rfl)
theorem dX0_of_76 : decode cX0_of 76 = .ok (.getfield 137, 3) := dk_180 0 137 (dk_at dksX0_of_3 9 rfl rfl)
theorem dX0_of_79 : decode cX0_of 79 = .ok (.invokevirtual 309, 3) := dk_182 1 53 (dk_at dksX0_of_3 12 rfl rfl)
theorem dX0_of_82 : decode cX0_of 82 = .ok (.ireturn, 1) := dk_172 (dk_at dksX0_of_3 15 rfl rfl)
theorem dX0_of_83 : decode cX0_of 83 = .ok (.iconst (-1), 1) := dk_2 (dk_at dksX0_of_3 16 rfl rfl)
theorem dX0_of_84 : decode cX0_of 84 = .ok (.ireturn, 1) := dk_172 (dk_at dksX0_of_3 17 rfl rfl)
abbrev cX0_ones : ByteArray := prog_1_method_12_code
def yX0_ones : MethodName := ⟨RX0, "ones", "(J)I"⟩
def dkwX0_ones_0 : List UInt8 := [3, 61, 30, 66, 33, 9, 148, 153, 0, 15, 132, 2, 1, 33, 33, 10, 101, 127, 66, 167, 255, 241, 28, 172]
abbrev dktX0_ones_0 : List UInt8 := dkwX0_ones_0 ++ []
theorem dksX0_ones_0 : cX0_ones.data.toList.drop 0 = dktX0_ones_0 := by decide +kernel
theorem dX0_ones_0 : decode cX0_ones 0 = .ok (.iconst 0, 1) := dk_3 (dk_at dksX0_ones_0 0 rfl rfl)
theorem dX0_ones_1 : decode cX0_ones 1 = .ok (.istore_n 2, 1) := dk_61 (dk_at dksX0_ones_0 1 rfl rfl)
theorem dX0_ones_2 : decode cX0_ones 2 = .ok (.lload_n 0, 1) := dk_30 (dk_at dksX0_ones_0 2 rfl rfl)
theorem dX0_ones_3 : decode cX0_ones 3 = .ok (.lstore_n 3, 1) := dk_66 (dk_at dksX0_ones_0 3 rfl rfl)
theorem dX0_ones_4 : decode cX0_ones 4 = .ok (.lload_n 3, 1) := dk_33 (dk_at dksX0_ones_0 4 rfl rfl)
theorem dX0_ones_5 : decode cX0_ones 5 = .ok (.lconst 0, 1) := dk_9 (dk_at dksX0_ones_0 5 rfl rfl)
theorem dX0_ones_6 : decode cX0_ones 6 = .ok (.lcmp, 1) := dk_148 (dk_at dksX0_ones_0 6 rfl rfl)
theorem dX0_ones_7 : decode cX0_ones 7 = .ok (.ifCond .eq 15, 3) := dk_153 0 15 (dk_at dksX0_ones_0 7 rfl rfl)
theorem dX0_ones_10 : decode cX0_ones 10 = .ok (.iinc 2 1, 3) := dk_132 2 1 (dk_at dksX0_ones_0 10 rfl rfl)
theorem dX0_ones_13 : decode cX0_ones 13 = .ok (.lload_n 3, 1) := dk_33 (dk_at dksX0_ones_0 13 rfl rfl)
theorem dX0_ones_14 : decode cX0_ones 14 = .ok (.lload_n 3, 1) := dk_33 (dk_at dksX0_ones_0 14 rfl rfl)
theorem dX0_ones_15 : decode cX0_ones 15 = .ok (.lconst 1, 1) := dk_10 (dk_at dksX0_ones_0 15 rfl rfl)
theorem dX0_ones_16 : decode cX0_ones 16 = .ok (.lsub, 1) := dk_101 (dk_at dksX0_ones_0 16 rfl rfl)
theorem dX0_ones_17 : decode cX0_ones 17 = .ok (.land, 1) := dk_127 (dk_at dksX0_ones_0 17 rfl rfl)
theorem dX0_ones_18 : decode cX0_ones 18 = .ok (.lstore_n 3, 1) := dk_66 (dk_at dksX0_ones_0 18 rfl rfl)
theorem dX0_ones_19 : decode cX0_ones 19 = .ok (.goto (-15), 3) := dk_167 255 241 (dk_at dksX0_ones_0 19 rfl rfl)
theorem dX0_ones_22 : decode cX0_ones 22 = .ok (.iload_n 2, 1) := dk_28 (dk_at dksX0_ones_0 22 rfl rfl)
theorem dX0_ones_23 : decode cX0_ones 23 = .ok (.ireturn, 1) := dk_172 (dk_at dksX0_ones_0 23 rfl rfl)
abbrev cX0_dropSet : ByteArray := prog_1_method_41_code
def yX0_dropSet : MethodName := ⟨RX0, "dropSet", "([B)I"⟩
def dkwX0_dropSet_1 : List UInt8 := [153, 0, 9, 4, 29, 120, 167, 0, 4, 3, 128, 61, 132, 3, 1, 167, 255, 222, 28, 172]
abbrev dktX0_dropSet_1 : List UInt8 := dkwX0_dropSet_1 ++ []
def dkwX0_dropSet_0 : List UInt8 := [3, 61, 3, 62, 29, 4, 96, 42, 180, 0, 34, 180, 0, 38, 162, 0, 27, 28, 43, 29, 184, 0, 250]
abbrev dktX0_dropSet_0 : List UInt8 := dkwX0_dropSet_0 ++ dktX0_dropSet_1
theorem dksX0_dropSet_0 : cX0_dropSet.data.toList.drop 0 = dktX0_dropSet_0 := by decide +kernel
theorem dksX0_dropSet_1 : cX0_dropSet.data.toList.drop 23 = dktX0_dropSet_1 := dk_seg dksX0_dropSet_0 23 rfl rfl
theorem dX0_dropSet_0 : decode cX0_dropSet 0 = .ok (.iconst 0, 1) := dk_3 (dk_at dksX0_dropSet_0 0 rfl rfl)
theorem dX0_dropSet_1 : decode cX0_dropSet 1 = .ok (.istore_n 2, 1) := dk_61 (dk_at dksX0_dropSet_0 1 rfl rfl)
theorem dX0_dropSet_2 : decode cX0_dropSet 2 = .ok (.iconst 0, 1) := dk_3 (dk_at dksX0_dropSet_0 2 rfl rfl)
theorem dX0_dropSet_3 : decode cX0_dropSet 3 = .ok (.istore_n 3, 1) := dk_62 (dk_at dksX0_dropSet_0 3 rfl rfl)
theorem dX0_dropSet_4 : decode cX0_dropSet 4 = .ok (.iload_n 3, 1) := dk_29 (dk_at dksX0_dropSet_0 4 rfl rfl)
theorem dX0_dropSet_5 : decode cX0_dropSet 5 = .ok (.iconst 1, 1) := dk_4 (dk_at dksX0_dropSet_0 5 rfl rfl)
theorem dX0_dropSet_6 : decode cX0_dropSet 6 = .ok (.iadd, 1) := dk_96 (dk_at dksX0_dropSet_0 6 rfl rfl)
theorem dX0_dropSet_7 : decode cX0_dropSet 7 = .ok (.aload_n 0, 1) := dk_42 (dk_at dksX0_dropSet_0 7 rfl rfl)
theorem dX0_dropSet_8 : decode cX0_dropSet 8 = .ok (.getfield 34, 3) := dk_180 0 34 (dk_at dksX0_dropSet_0 8 rfl rfl)
theorem dX0_dropSet_11 : decode cX0_dropSet 11 = .ok (.getfield 38, 3) := dk_180 0 38 (dk_at dksX0_dropSet_0 11 rfl rfl)
theorem dX0_dropSet_14 : decode cX0_dropSet 14 = .ok (.if_icmp .ge 27, 3) := dk_162 0 27 (dk_at dksX0_dropSet_0 14 rfl rfl)
theorem dX0_dropSet_17 : decode cX0_dropSet 17 = .ok (.iload_n 2, 1) := dk_28 (dk_at dksX0_dropSet_0 17 rfl rfl)
theorem dX0_dropSet_18 : decode cX0_dropSet 18 = .ok (.aload_n 1, 1) := dk_43 (dk_at dksX0_dropSet_0 18 rfl rfl)
theorem dX0_dropSet_19 : decode cX0_dropSet 19 = .ok (.iload_n 3, 1) := dk_29 (dk_at dksX0_dropSet_0 19 rfl rfl)
theorem dX0_dropSet_20 : decode cX0_dropSet 20 = .ok (.invokestatic 250, 3) := dk_184 0 250 (dk_at dksX0_dropSet_0 20 rfl rfl)
theorem dX0_dropSet_23 : decode cX0_dropSet 23 = .ok (.ifCond .eq 9, 3) := dk_153 0 9 (dk_at dksX0_dropSet_1 0 rfl rfl)
theorem dX0_dropSet_26 : decode cX0_dropSet 26 = .ok (.iconst 1, 1) := dk_4 (dk_at dksX0_dropSet_1 3 rfl rfl)
theorem dX0_dropSet_27 : decode cX0_dropSet 27 = .ok (.iload_n 3, 1) := dk_29 (dk_at dksX0_dropSet_1 4 rfl rfl)
theorem dX0_dropSet_28 : decode cX0_dropSet 28 = .ok (.ishl, 1) := dk_120 (dk_at dksX0_dropSet_1 5 rfl rfl)
theorem dX0_dropSet_29 : decode cX0_dropSet 29 = .ok (.goto 4, 3) := dk_167 0 4 (dk_at dksX0_dropSet_1 6 rfl rfl)
theorem dX0_dropSet_32 : decode cX0_dropSet 32 = .ok (.iconst 0, 1) := dk_3 (dk_at dksX0_dropSet_1 9 rfl rfl)
theorem dX0_dropSet_33 : decode cX0_dropSet 33 = .ok (.ior, 1) := dk_128 (dk_at dksX0_dropSet_1 10 rfl rfl)
theorem dX0_dropSet_34 : decode cX0_dropSet 34 = .ok (.istore_n 2, 1) := dk_61 (dk_at dksX0_dropSet_1 11 rfl rfl)
theorem dX0_dropSet_35 : decode cX0_dropSet 35 = .ok (.iinc 3 1, 3) := dk_132 3 1 (dk_at dksX0_dropSet_1 12 rfl rfl)
theorem dX0_dropSet_38 : decode cX0_dropSet 38 = .ok (.goto (-34), 3) := dk_167 255 222 (dk_at dksX0_dropSet_1 15 rfl rfl)
theorem dX0_dropSet_41 : decode cX0_dropSet 41 = .ok (.iload_n 2, 1) := dk_28 (dk_at dksX0_dropSet_1 18 rfl rfl)
theorem dX0_dropSet_42 : decode cX0_dropSet 42 = .ok (.ireturn, 1) := dk_172 (dk_at dksX0_dropSet_1 19 rfl rfl)
abbrev cX0_isDrop : ByteArray := prog_1_method_23_code
def yX0_isDrop : MethodName := ⟨RX0, "isDrop", "([BI)Z"⟩
def dkwX0_isDrop_0 : List UInt8 := [42, 27, 51, 42, 27, 4, 96, 51, 164, 0, 7, 4, 167, 0, 4, 3, 172]
abbrev dktX0_isDrop_0 : List UInt8 := dkwX0_isDrop_0 ++ []
theorem dksX0_isDrop_0 : cX0_isDrop.data.toList.drop 0 = dktX0_isDrop_0 := by decide +kernel
theorem dX0_isDrop_0 : decode cX0_isDrop 0 = .ok (.aload_n 0, 1) := dk_42 (dk_at dksX0_isDrop_0 0 rfl rfl)
theorem dX0_isDrop_1 : decode cX0_isDrop 1 = .ok (.iload_n 1, 1) := dk_27 (dk_at dksX0_isDrop_0 1 rfl rfl)
theorem dX0_isDrop_2 : decode cX0_isDrop 2 = .ok (.baload, 1) := dk_51 (dk_at dksX0_isDrop_0 2 rfl rfl)
theorem dX0_isDrop_3 : decode cX0_isDrop 3 = .ok (.aload_n 0, 1) := dk_42 (dk_at dksX0_isDrop_0 3 rfl rfl)
theorem dX0_isDrop_4 : decode cX0_isDrop 4 = .ok (.iload_n 1, 1) := dk_27 (dk_at dksX0_isDrop_0 4 rfl rfl)
theorem dX0_isDrop_5 : decode cX0_isDrop 5 = .ok (.iconst 1, 1) := dk_4 (dk_at dksX0_isDrop_0 5 rfl rfl)
theorem dX0_isDrop_6 : decode cX0_isDrop 6 = .ok (.iadd, 1) := dk_96 (dk_at dksX0_isDrop_0 6 rfl rfl)
theorem dX0_isDrop_7 : decode cX0_isDrop 7 = .ok (.baload, 1) := dk_51 (dk_at dksX0_isDrop_0 7 rfl rfl)
theorem dX0_isDrop_8 : decode cX0_isDrop 8 = .ok (.if_icmp .le 7, 3) := dk_164 0 7 (dk_at dksX0_isDrop_0 8 rfl rfl)
theorem dX0_isDrop_11 : decode cX0_isDrop 11 = .ok (.iconst 1, 1) := dk_4 (dk_at dksX0_isDrop_0 11 rfl rfl)
theorem dX0_isDrop_12 : decode cX0_isDrop 12 = .ok (.goto 4, 3) := dk_167 0 4 (dk_at dksX0_isDrop_0 12 rfl rfl)
theorem dX0_isDrop_15 : decode cX0_isDrop 15 = .ok (.iconst 0, 1) := dk_3 (dk_at dksX0_isDrop_0 15 rfl rfl)
theorem dX0_isDrop_16 : decode cX0_isDrop 16 = .ok (.ireturn, 1) := dk_172 (dk_at dksX0_isDrop_0 16 rfl rfl)
abbrev cX0_rankOf : ByteArray := prog_1_method_27_code
def yX0_rankOf : MethodName := ⟨RX0, "rankOf", "([B)I"⟩
def dkwX0_rankOf_3 : List UInt8 := [104, 21, 4, 96, 61, 132, 3, 1, 167, 255, 181, 28, 172]
abbrev dktX0_rankOf_3 : List UInt8 := dkwX0_rankOf_3 ++ []
def dkwX0_rankOf_2 : List UInt8 := [4, 167, 0, 4, 3, 96, 54, 4, 132, 5, 1, 167, 255, 221, 28, 42, 180, 0, 34, 180, 0, 38, 29, 100]
abbrev dktX0_rankOf_2 : List UInt8 := dkwX0_rankOf_2 ++ dktX0_rankOf_3
def dkwX0_rankOf_1 : List UInt8 := [21, 5, 42, 180, 0, 34, 180, 0, 38, 162, 0, 29, 21, 4, 43, 21, 5, 51, 43, 29, 51, 162, 0, 7]
abbrev dktX0_rankOf_1 : List UInt8 := dkwX0_rankOf_1 ++ dktX0_rankOf_2
def dkwX0_rankOf_0 : List UInt8 := [3, 61, 3, 62, 29, 42, 180, 0, 34, 180, 0, 38, 162, 0, 70, 3, 54, 4, 29, 4, 96, 54, 5]
abbrev dktX0_rankOf_0 : List UInt8 := dkwX0_rankOf_0 ++ dktX0_rankOf_1
theorem dksX0_rankOf_0 : cX0_rankOf.data.toList.drop 0 = dktX0_rankOf_0 := by decide +kernel
theorem dksX0_rankOf_1 : cX0_rankOf.data.toList.drop 23 = dktX0_rankOf_1 := dk_seg dksX0_rankOf_0 23 rfl rfl
theorem dksX0_rankOf_2 : cX0_rankOf.data.toList.drop 47 = dktX0_rankOf_2 := dk_seg dksX0_rankOf_1 24 rfl rfl
theorem dksX0_rankOf_3 : cX0_rankOf.data.toList.drop 71 = dktX0_rankOf_3 := dk_seg dksX0_rankOf_2 24 rfl rfl
theorem dX0_rankOf_0 : decode cX0_rankOf 0 = .ok (.iconst 0, 1) := dk_3 (dk_at dksX0_rankOf_0 0 rfl rfl)
theorem dX0_rankOf_1 : decode cX0_rankOf 1 = .ok (.istore_n 2, 1) := dk_61 (dk_at dksX0_rankOf_0 1 rfl rfl)
theorem dX0_rankOf_2 : decode cX0_rankOf 2 = .ok (.iconst 0, 1) := dk_3 (dk_at dksX0_rankOf_0 2 rfl rfl)
theorem dX0_rankOf_3 : decode cX0_rankOf 3 = .ok (.istore_n 3, 1) := dk_62 (dk_at dksX0_rankOf_0 3 rfl rfl)
theorem dX0_rankOf_4 : decode cX0_rankOf 4 = .ok (.iload_n 3, 1) := dk_29 (dk_at dksX0_rankOf_0 4 rfl rfl)
theorem dX0_rankOf_5 : decode cX0_rankOf 5 = .ok (.aload_n 0, 1) := dk_42 (dk_at dksX0_rankOf_0 5 rfl rfl)
theorem dX0_rankOf_6 : decode cX0_rankOf 6 = .ok (.getfield 34, 3) := dk_180 0 34 (dk_at dksX0_rankOf_0 6 rfl rfl)
theorem dX0_rankOf_9 : decode cX0_rankOf 9 = .ok (.getfield 38, 3) := dk_180 0 38 (dk_at dksX0_rankOf_0 9 rfl rfl)
theorem dX0_rankOf_12 : decode cX0_rankOf 12 = .ok (.if_icmp .ge 70, 3) := dk_162 0 70 (dk_at dksX0_rankOf_0 12 rfl rfl)
theorem dX0_rankOf_15 : decode cX0_rankOf 15 = .ok (.iconst 0, 1) := dk_3 (dk_at dksX0_rankOf_0 15 rfl rfl)
theorem dX0_rankOf_16 : decode cX0_rankOf 16 = .ok (.istore 4, 2) := dk_54 4 (dk_at dksX0_rankOf_0 16 rfl rfl)
theorem dX0_rankOf_18 : decode cX0_rankOf 18 = .ok (.iload_n 3, 1) := dk_29 (dk_at dksX0_rankOf_0 18 rfl rfl)
theorem dX0_rankOf_19 : decode cX0_rankOf 19 = .ok (.iconst 1, 1) := dk_4 (dk_at dksX0_rankOf_0 19 rfl rfl)
theorem dX0_rankOf_20 : decode cX0_rankOf 20 = .ok (.iadd, 1) := dk_96 (dk_at dksX0_rankOf_0 20 rfl rfl)
theorem dX0_rankOf_21 : decode cX0_rankOf 21 = .ok (.istore 5, 2) := dk_54 5 (dk_at dksX0_rankOf_0 21 rfl rfl)
theorem dX0_rankOf_23 : decode cX0_rankOf 23 = .ok (.iload 5, 2) := dk_21 5 (dk_at dksX0_rankOf_1 0 rfl rfl)
theorem dX0_rankOf_25 : decode cX0_rankOf 25 = .ok (.aload_n 0, 1) := dk_42 (dk_at dksX0_rankOf_1 2 rfl rfl)
theorem dX0_rankOf_26 : decode cX0_rankOf 26 = .ok (.getfield 34, 3) := dk_180 0 34 (dk_at dksX0_rankOf_1 3 rfl rfl)
theorem dX0_rankOf_29 : decode cX0_rankOf 29 = .ok (.getfield 38, 3) := dk_180 0 38 (dk_at dksX0_rankOf_1 6 rfl rfl)
theorem dX0_rankOf_32 : decode cX0_rankOf 32 = .ok (.if_icmp .ge 29, 3) := dk_162 0 29 (dk_at dksX0_rankOf_1 9 rfl rfl)
theorem dX0_rankOf_35 : decode cX0_rankOf 35 = .ok (.iload 4, 2) := dk_21 4 (dk_at dksX0_rankOf_1 12 rfl rfl)
theorem dX0_rankOf_37 : decode cX0_rankOf 37 = .ok (.aload_n 1, 1) := dk_43 (dk_at dksX0_rankOf_1 14 rfl rfl)
theorem dX0_rankOf_38 : decode cX0_rankOf 38 = .ok (.iload 5, 2) := dk_21 5 (dk_at dksX0_rankOf_1 15 rfl rfl)
theorem dX0_rankOf_40 : decode cX0_rankOf 40 = .ok (.baload, 1) := dk_51 (dk_at dksX0_rankOf_1 17 rfl rfl)
theorem dX0_rankOf_41 : decode cX0_rankOf 41 = .ok (.aload_n 1, 1) := dk_43 (dk_at dksX0_rankOf_1 18 rfl rfl)
theorem dX0_rankOf_42 : decode cX0_rankOf 42 = .ok (.iload_n 3, 1) := dk_29 (dk_at dksX0_rankOf_1 19 rfl rfl)
theorem dX0_rankOf_43 : decode cX0_rankOf 43 = .ok (.baload, 1) := dk_51 (dk_at dksX0_rankOf_1 20 rfl rfl)
theorem dX0_rankOf_44 : decode cX0_rankOf 44 = .ok (.if_icmp .ge 7, 3) := dk_162 0 7 (dk_at dksX0_rankOf_1 21 rfl rfl)
theorem dX0_rankOf_47 : decode cX0_rankOf 47 = .ok (.iconst 1, 1) := dk_4 (dk_at dksX0_rankOf_2 0 rfl rfl)
theorem dX0_rankOf_48 : decode cX0_rankOf 48 = .ok (.goto 4, 3) := dk_167 0 4 (dk_at dksX0_rankOf_2 1 rfl rfl)
theorem dX0_rankOf_51 : decode cX0_rankOf 51 = .ok (.iconst 0, 1) := dk_3 (dk_at dksX0_rankOf_2 4 rfl rfl)
theorem dX0_rankOf_52 : decode cX0_rankOf 52 = .ok (.iadd, 1) := dk_96 (dk_at dksX0_rankOf_2 5 rfl rfl)
theorem dX0_rankOf_53 : decode cX0_rankOf 53 = .ok (.istore 4, 2) := dk_54 4 (dk_at dksX0_rankOf_2 6 rfl rfl)
theorem dX0_rankOf_55 : decode cX0_rankOf 55 = .ok (.iinc 5 1, 3) := dk_132 5 1 (dk_at dksX0_rankOf_2 8 rfl rfl)
theorem dX0_rankOf_58 : decode cX0_rankOf 58 = .ok (.goto (-35), 3) := dk_167 255 221 (dk_at dksX0_rankOf_2 11 rfl rfl)
theorem dX0_rankOf_61 : decode cX0_rankOf 61 = .ok (.iload_n 2, 1) := dk_28 (dk_at dksX0_rankOf_2 14 rfl rfl)
theorem dX0_rankOf_62 : decode cX0_rankOf 62 = .ok (.aload_n 0, 1) := dk_42 (dk_at dksX0_rankOf_2 15 rfl rfl)
theorem dX0_rankOf_63 : decode cX0_rankOf 63 = .ok (.getfield 34, 3) := dk_180 0 34 (dk_at dksX0_rankOf_2 16 rfl rfl)
theorem dX0_rankOf_66 : decode cX0_rankOf 66 = .ok (.getfield 38, 3) := dk_180 0 38 (dk_at dksX0_rankOf_2 19 rfl rfl)
theorem dX0_rankOf_69 : decode cX0_rankOf 69 = .ok (.iload_n 3, 1) := dk_29 (dk_at dksX0_rankOf_2 22 rfl rfl)
theorem dX0_rankOf_70 : decode cX0_rankOf 70 = .ok (.isub, 1) := dk_100 (dk_at dksX0_rankOf_2 23 rfl rfl)
theorem dX0_rankOf_71 : decode cX0_rankOf 71 = .ok (.imul, 1) := dk_104 (dk_at dksX0_rankOf_3 0 rfl rfl)
theorem dX0_rankOf_72 : decode cX0_rankOf 72 = .ok (.iload 4, 2) := dk_21 4 (dk_at dksX0_rankOf_3 1 rfl rfl)
theorem dX0_rankOf_74 : decode cX0_rankOf 74 = .ok (.iadd, 1) := dk_96 (dk_at dksX0_rankOf_3 3 rfl rfl)
theorem dX0_rankOf_75 : decode cX0_rankOf 75 = .ok (.istore_n 2, 1) := dk_61 (dk_at dksX0_rankOf_3 4 rfl rfl)
theorem dX0_rankOf_76 : decode cX0_rankOf 76 = .ok (.iinc 3 1, 3) := dk_132 3 1 (dk_at dksX0_rankOf_3 5 rfl rfl)
theorem dX0_rankOf_79 : decode cX0_rankOf 79 = .ok (.goto (-75), 3) := dk_167 255 181 (dk_at dksX0_rankOf_3 8 rfl rfl)
theorem dX0_rankOf_82 : decode cX0_rankOf 82 = .ok (.iload_n 2, 1) := dk_28 (dk_at dksX0_rankOf_3 11 rfl rfl)
theorem dX0_rankOf_83 : decode cX0_rankOf 83 = .ok (.ireturn, 1) := dk_172 (dk_at dksX0_rankOf_3 12 rfl rfl)
abbrev cX0_toldTurned : ByteArray := prog_1_method_42_code
def yX0_toldTurned : MethodName := ⟨RX0, "toldTurned", "([B)I"⟩
def dkwX0_toldTurned_0 : List UInt8 := [42, 43, 3, 182, 0, 254, 42, 43, 182, 1, 40, 172]
abbrev dktX0_toldTurned_0 : List UInt8 := dkwX0_toldTurned_0 ++ []
theorem dksX0_toldTurned_0 : cX0_toldTurned.data.toList.drop 0 = dktX0_toldTurned_0 := by decide +kernel
theorem dX0_toldTurned_0 : decode cX0_toldTurned 0 = .ok (.aload_n 0, 1) := dk_42 (dk_at dksX0_toldTurned_0 0 rfl rfl)
theorem dX0_toldTurned_1 : decode cX0_toldTurned 1 = .ok (.aload_n 1, 1) := dk_43 (dk_at dksX0_toldTurned_0 1 rfl rfl)
theorem dX0_toldTurned_2 : decode cX0_toldTurned 2 = .ok (.iconst 0, 1) := dk_3 (dk_at dksX0_toldTurned_0 2 rfl rfl)
theorem dX0_toldTurned_3 : decode cX0_toldTurned 3 = .ok (.invokevirtual 254, 3) := dk_182 0 254 (dk_at dksX0_toldTurned_0 3 rfl rfl)
theorem dX0_toldTurned_6 : decode cX0_toldTurned 6 = .ok (.aload_n 0, 1) := dk_42 (dk_at dksX0_toldTurned_0 6 rfl rfl)
theorem dX0_toldTurned_7 : decode cX0_toldTurned 7 = .ok (.aload_n 1, 1) := dk_43 (dk_at dksX0_toldTurned_0 7 rfl rfl)
theorem dX0_toldTurned_8 : decode cX0_toldTurned 8 = .ok (.invokevirtual 296, 3) := dk_182 1 40 (dk_at dksX0_toldTurned_0 8 rfl rfl)
theorem dX0_toldTurned_11 : decode cX0_toldTurned 11 = .ok (.ireturn, 1) := dk_172 (dk_at dksX0_toldTurned_0 11 rfl rfl)
abbrev cX0_turnRound : ByteArray := prog_1_method_24_code
def yX0_turnRound : MethodName := ⟨RX0, "turnRound", "([BI)V"⟩
def dkwX0_turnRound_1 : List UInt8 := [184, 0, 246, 132, 3, 1, 132, 4, 255, 167, 255, 237, 177]
abbrev dktX0_turnRound_1 : List UInt8 := dkwX0_turnRound_1 ++ []
def dkwX0_turnRound_0 : List UInt8 := [28, 62, 42, 180, 0, 34, 180, 0, 38, 4, 100, 54, 4, 29, 21, 4, 162, 0, 19, 43, 29, 21, 4]
abbrev dktX0_turnRound_0 : List UInt8 := dkwX0_turnRound_0 ++ dktX0_turnRound_1
theorem dksX0_turnRound_0 : cX0_turnRound.data.toList.drop 0 = dktX0_turnRound_0 := by decide +kernel
theorem dksX0_turnRound_1 : cX0_turnRound.data.toList.drop 23 = dktX0_turnRound_1 := dk_seg dksX0_turnRound_0 23 rfl rfl
theorem dX0_turnRound_0 : decode cX0_turnRound 0 = .ok (.iload_n 2, 1) := dk_28 (dk_at dksX0_turnRound_0 0 rfl rfl)
theorem dX0_turnRound_1 : decode cX0_turnRound 1 = .ok (.istore_n 3, 1) := dk_62 (dk_at dksX0_turnRound_0 1 rfl rfl)
theorem dX0_turnRound_2 : decode cX0_turnRound 2 = .ok (.aload_n 0, 1) := dk_42 (dk_at dksX0_turnRound_0 2 rfl rfl)
theorem dX0_turnRound_3 : decode cX0_turnRound 3 = .ok (.getfield 34, 3) := dk_180 0 34 (dk_at dksX0_turnRound_0 3 rfl rfl)
theorem dX0_turnRound_6 : decode cX0_turnRound 6 = .ok (.getfield 38, 3) := dk_180 0 38 (dk_at dksX0_turnRound_0 6 rfl rfl)
theorem dX0_turnRound_9 : decode cX0_turnRound 9 = .ok (.iconst 1, 1) := dk_4 (dk_at dksX0_turnRound_0 9 rfl rfl)
theorem dX0_turnRound_10 : decode cX0_turnRound 10 = .ok (.isub, 1) := dk_100 (dk_at dksX0_turnRound_0 10 rfl rfl)
theorem dX0_turnRound_11 : decode cX0_turnRound 11 = .ok (.istore 4, 2) := dk_54 4 (dk_at dksX0_turnRound_0 11 rfl rfl)
theorem dX0_turnRound_13 : decode cX0_turnRound 13 = .ok (.iload_n 3, 1) := dk_29 (dk_at dksX0_turnRound_0 13 rfl rfl)
theorem dX0_turnRound_14 : decode cX0_turnRound 14 = .ok (.iload 4, 2) := dk_21 4 (dk_at dksX0_turnRound_0 14 rfl rfl)
theorem dX0_turnRound_16 : decode cX0_turnRound 16 = .ok (.if_icmp .ge 19, 3) := dk_162 0 19 (dk_at dksX0_turnRound_0 16 rfl rfl)
theorem dX0_turnRound_19 : decode cX0_turnRound 19 = .ok (.aload_n 1, 1) := dk_43 (dk_at dksX0_turnRound_0 19 rfl rfl)
theorem dX0_turnRound_20 : decode cX0_turnRound 20 = .ok (.iload_n 3, 1) := dk_29 (dk_at dksX0_turnRound_0 20 rfl rfl)
theorem dX0_turnRound_21 : decode cX0_turnRound 21 = .ok (.iload 4, 2) := dk_21 4 (dk_at dksX0_turnRound_0 21 rfl rfl)
theorem dX0_turnRound_23 : decode cX0_turnRound 23 = .ok (.invokestatic 246, 3) := dk_184 0 246 (dk_at dksX0_turnRound_1 0 rfl rfl)
theorem dX0_turnRound_26 : decode cX0_turnRound 26 = .ok (.iinc 3 1, 3) := dk_132 3 1 (dk_at dksX0_turnRound_1 3 rfl rfl)
theorem dX0_turnRound_29 : decode cX0_turnRound 29 = .ok (.iinc 4 (-1), 3) := dk_132 4 255 (dk_at dksX0_turnRound_1 6 rfl rfl)
theorem dX0_turnRound_32 : decode cX0_turnRound 32 = .ok (.goto (-19), 3) := dk_167 255 237 (dk_at dksX0_turnRound_1 9 rfl rfl)
theorem dX0_turnRound_35 : decode cX0_turnRound 35 = .ok (.return_, 1) := dk_177 (dk_at dksX0_turnRound_1 12 rfl rfl)
abbrev cX0_change : ByteArray := prog_1_method_21_code
def yX0_change : MethodName := ⟨RX0, "change", "([BII)V"⟩
def dkwX0_change_0 : List UInt8 := [42, 27, 51, 62, 42, 27, 42, 28, 51, 84, 42, 28, 29, 84, 177]
abbrev dktX0_change_0 : List UInt8 := dkwX0_change_0 ++ []
theorem dksX0_change_0 : cX0_change.data.toList.drop 0 = dktX0_change_0 := by decide +kernel
theorem dX0_change_0 : decode cX0_change 0 = .ok (.aload_n 0, 1) := dk_42 (dk_at dksX0_change_0 0 rfl rfl)
theorem dX0_change_1 : decode cX0_change 1 = .ok (.iload_n 1, 1) := dk_27 (dk_at dksX0_change_0 1 rfl rfl)
theorem dX0_change_2 : decode cX0_change 2 = .ok (.baload, 1) := dk_51 (dk_at dksX0_change_0 2 rfl rfl)
theorem dX0_change_3 : decode cX0_change 3 = .ok (.istore_n 3, 1) := dk_62 (dk_at dksX0_change_0 3 rfl rfl)
theorem dX0_change_4 : decode cX0_change 4 = .ok (.aload_n 0, 1) := dk_42 (dk_at dksX0_change_0 4 rfl rfl)
theorem dX0_change_5 : decode cX0_change 5 = .ok (.iload_n 1, 1) := dk_27 (dk_at dksX0_change_0 5 rfl rfl)
theorem dX0_change_6 : decode cX0_change 6 = .ok (.aload_n 0, 1) := dk_42 (dk_at dksX0_change_0 6 rfl rfl)
theorem dX0_change_7 : decode cX0_change 7 = .ok (.iload_n 2, 1) := dk_28 (dk_at dksX0_change_0 7 rfl rfl)
theorem dX0_change_8 : decode cX0_change 8 = .ok (.baload, 1) := dk_51 (dk_at dksX0_change_0 8 rfl rfl)
theorem dX0_change_9 : decode cX0_change 9 = .ok (.bastore, 1) := dk_84 (dk_at dksX0_change_0 9 rfl rfl)
theorem dX0_change_10 : decode cX0_change 10 = .ok (.aload_n 0, 1) := dk_42 (dk_at dksX0_change_0 10 rfl rfl)
theorem dX0_change_11 : decode cX0_change 11 = .ok (.iload_n 2, 1) := dk_28 (dk_at dksX0_change_0 11 rfl rfl)
theorem dX0_change_12 : decode cX0_change 12 = .ok (.iload_n 3, 1) := dk_29 (dk_at dksX0_change_0 12 rfl rfl)
theorem dX0_change_13 : decode cX0_change 13 = .ok (.bastore, 1) := dk_84 (dk_at dksX0_change_0 13 rfl rfl)
theorem dX0_change_14 : decode cX0_change 14 = .ok (.return_, 1) := dk_177 (dk_at dksX0_change_0 14 rfl rfl)
abbrev cX0_rowAt : ByteArray := prog_1_method_44_code
def yX0_rowAt : MethodName := ⟨RX0, "rowAt", "(I)I"⟩
def dkwX0_rowAt_1 : List UInt8 := [182, 1, 56, 42, 42, 180, 0, 137, 182, 1, 40, 172]
abbrev dktX0_rowAt_1 : List UInt8 := dkwX0_rowAt_1 ++ []
def dkwX0_rowAt_0 : List UInt8 := [27, 3, 42, 182, 1, 2, 4, 100, 184, 0, 112, 154, 0, 5, 2, 172, 42, 27, 42, 180, 0, 137]
abbrev dktX0_rowAt_0 : List UInt8 := dkwX0_rowAt_0 ++ dktX0_rowAt_1
theorem dksX0_rowAt_0 : cX0_rowAt.data.toList.drop 0 = dktX0_rowAt_0 := by decide +kernel
theorem dksX0_rowAt_1 : cX0_rowAt.data.toList.drop 22 = dktX0_rowAt_1 := dk_seg dksX0_rowAt_0 22 rfl rfl
theorem dX0_rowAt_0 : decode cX0_rowAt 0 = .ok (.iload_n 1, 1) := dk_27 (dk_at dksX0_rowAt_0 0 rfl rfl)
theorem dX0_rowAt_1 : decode cX0_rowAt 1 = .ok (.iconst 0, 1) := dk_3 (dk_at dksX0_rowAt_0 1 rfl rfl)
theorem dX0_rowAt_2 : decode cX0_rowAt 2 = .ok (.aload_n 0, 1) := dk_42 (dk_at dksX0_rowAt_0 2 rfl rfl)
theorem dX0_rowAt_3 : decode cX0_rowAt 3 = .ok (.invokevirtual 258, 3) := dk_182 1 2 (dk_at dksX0_rowAt_0 3 rfl rfl)
theorem dX0_rowAt_6 : decode cX0_rowAt 6 = .ok (.iconst 1, 1) := dk_4 (dk_at dksX0_rowAt_0 6 rfl rfl)
theorem dX0_rowAt_7 : decode cX0_rowAt 7 = .ok (.isub, 1) := dk_100 (dk_at dksX0_rowAt_0 7 rfl rfl)
theorem dX0_rowAt_8 : decode cX0_rowAt 8 = .ok (.invokestatic 112, 3) := dk_184 0 112 (dk_at dksX0_rowAt_0 8 rfl rfl)
theorem dX0_rowAt_11 : decode cX0_rowAt 11 = .ok (.ifCond .ne 5, 3) := dk_154 0 5 (dk_at dksX0_rowAt_0 11 rfl rfl)
theorem dX0_rowAt_14 : decode cX0_rowAt 14 = .ok (.iconst (-1), 1) := dk_2 (dk_at dksX0_rowAt_0 14 rfl rfl)
theorem dX0_rowAt_15 : decode cX0_rowAt 15 = .ok (.ireturn, 1) := dk_172 (dk_at dksX0_rowAt_0 15 rfl rfl)
theorem dX0_rowAt_16 : decode cX0_rowAt 16 = .ok (.aload_n 0, 1) := dk_42 (dk_at dksX0_rowAt_0 16 rfl rfl)
theorem dX0_rowAt_17 : decode cX0_rowAt 17 = .ok (.iload_n 1, 1) := dk_27 (dk_at dksX0_rowAt_0 17 rfl rfl)
theorem dX0_rowAt_18 : decode cX0_rowAt 18 = .ok (.aload_n 0, 1) := dk_42 (dk_at dksX0_rowAt_0 18 rfl rfl)
theorem dX0_rowAt_19 : decode cX0_rowAt 19 = .ok (.getfield 137, 3) := dk_180 0 137 (dk_at dksX0_rowAt_0 19 rfl rfl)
theorem dX0_rowAt_22 : decode cX0_rowAt 22 = .ok (.invokevirtual 312, 3) := dk_182 1 56 (dk_at dksX0_rowAt_1 0 rfl rfl)
theorem dX0_rowAt_25 : decode cX0_rowAt 25 = .ok (.aload_n 0, 1) := dk_42 (dk_at dksX0_rowAt_1 3 rfl rfl)
theorem dX0_rowAt_26 : decode cX0_rowAt 26 = .ok (.aload_n 0, 1) := dk_42 (dk_at dksX0_rowAt_1 4 rfl rfl)
theorem dX0_rowAt_27 : decode cX0_rowAt 27 = .ok (.getfield 137, 3) := dk_180 0 137 (dk_at dksX0_rowAt_1 5 rfl rfl)
theorem dX0_rowAt_30 : decode cX0_rowAt 30 = .ok (.invokevirtual 296, 3) := dk_182 1 40 (dk_at dksX0_rowAt_1 8 rfl rfl)
theorem dX0_rowAt_33 : decode cX0_rowAt 33 = .ok (.ireturn, 1) := dk_172 (dk_at dksX0_rowAt_1 11 rfl rfl)
abbrev cX0_manyRows : ByteArray := prog_1_method_26_code
def yX0_manyRows : MethodName := ⟨RX0, "manyRows", "()I"⟩
def dkwX0_manyRows_1 : List UInt8 := [167, 255, 238, 27, 172]
abbrev dktX0_manyRows_1 : List UInt8 := dkwX0_manyRows_1 ++ []
def dkwX0_manyRows_0 : List UInt8 := [4, 60, 5, 61, 28, 42, 180, 0, 34, 180, 0, 38, 163, 0, 13, 27, 28, 104, 60, 132, 2, 1]
abbrev dktX0_manyRows_0 : List UInt8 := dkwX0_manyRows_0 ++ dktX0_manyRows_1
theorem dksX0_manyRows_0 : cX0_manyRows.data.toList.drop 0 = dktX0_manyRows_0 := by decide +kernel
theorem dksX0_manyRows_1 : cX0_manyRows.data.toList.drop 22 = dktX0_manyRows_1 := dk_seg dksX0_manyRows_0 22 rfl rfl
theorem dX0_manyRows_0 : decode cX0_manyRows 0 = .ok (.iconst 1, 1) := dk_4 (dk_at dksX0_manyRows_0 0 rfl rfl)
theorem dX0_manyRows_1 : decode cX0_manyRows 1 = .ok (.istore_n 1, 1) := dk_60 (dk_at dksX0_manyRows_0 1 rfl rfl)
theorem dX0_manyRows_2 : decode cX0_manyRows 2 = .ok (.iconst 2, 1) := dk_5 (dk_at dksX0_manyRows_0 2 rfl rfl)
theorem dX0_manyRows_3 : decode cX0_manyRows 3 = .ok (.istore_n 2, 1) := dk_61 (dk_at dksX0_manyRows_0 3 rfl rfl)
theorem dX0_manyRows_4 : decode cX0_manyRows 4 = .ok (.iload_n 2, 1) := dk_28 (dk_at dksX0_manyRows_0 4 rfl rfl)
theorem dX0_manyRows_5 : decode cX0_manyRows 5 = .ok (.aload_n 0, 1) := dk_42 (dk_at dksX0_manyRows_0 5 rfl rfl)
theorem dX0_manyRows_6 : decode cX0_manyRows 6 = .ok (.getfield 34, 3) := dk_180 0 34 (dk_at dksX0_manyRows_0 6 rfl rfl)
theorem dX0_manyRows_9 : decode cX0_manyRows 9 = .ok (.getfield 38, 3) := dk_180 0 38 (dk_at dksX0_manyRows_0 9 rfl rfl)
theorem dX0_manyRows_12 : decode cX0_manyRows 12 = .ok (.if_icmp .gt 13, 3) := dk_163 0 13 (dk_at dksX0_manyRows_0 12 rfl rfl)
theorem dX0_manyRows_15 : decode cX0_manyRows 15 = .ok (.iload_n 1, 1) := dk_27 (dk_at dksX0_manyRows_0 15 rfl rfl)
theorem dX0_manyRows_16 : decode cX0_manyRows 16 = .ok (.iload_n 2, 1) := dk_28 (dk_at dksX0_manyRows_0 16 rfl rfl)
theorem dX0_manyRows_17 : decode cX0_manyRows 17 = .ok (.imul, 1) := dk_104 (dk_at dksX0_manyRows_0 17 rfl rfl)
theorem dX0_manyRows_18 : decode cX0_manyRows 18 = .ok (.istore_n 1, 1) := dk_60 (dk_at dksX0_manyRows_0 18 rfl rfl)
theorem dX0_manyRows_19 : decode cX0_manyRows 19 = .ok (.iinc 2 1, 3) := dk_132 2 1 (dk_at dksX0_manyRows_0 19 rfl rfl)
theorem dX0_manyRows_22 : decode cX0_manyRows 22 = .ok (.goto (-18), 3) := dk_167 255 238 (dk_at dksX0_manyRows_1 0 rfl rfl)
theorem dX0_manyRows_25 : decode cX0_manyRows 25 = .ok (.iload_n 1, 1) := dk_27 (dk_at dksX0_manyRows_1 3 rfl rfl)
theorem dX0_manyRows_26 : decode cX0_manyRows 26 = .ok (.ireturn, 1) := dk_172 (dk_at dksX0_manyRows_1 4 rfl rfl)
abbrev cX0_byRank : ByteArray := prog_1_method_28_code
def yX0_byRank : MethodName := ⟨RX0, "byRank", "(I[B)V"⟩
def dkwX0_byRank_4 : List UInt8 := [62, 44, 21, 6, 21, 7, 145, 84, 21, 5, 4, 21, 7, 120, 128, 54, 5, 132, 6, 1, 167, 255, 155, 177]
abbrev dktX0_byRank_4 : List UInt8 := dkwX0_byRank_4 ++ []
def dkwX0_byRank_3 : List UInt8 := [122, 4, 126, 158, 0, 7, 3, 167, 0, 4, 4, 100, 54, 8, 132, 7, 1, 167, 255, 218, 29, 21, 4, 112]
abbrev dktX0_byRank_3 : List UInt8 := dkwX0_byRank_3 ++ dktX0_byRank_4
def dkwX0_byRank_2 : List UInt8 := [108, 54, 8, 21, 8, 157, 0, 13, 21, 5, 21, 7, 122, 4, 126, 158, 0, 29, 21, 8, 21, 5, 21, 7]
abbrev dktX0_byRank_2 : List UInt8 := dkwX0_byRank_2 ++ dktX0_byRank_3
def dkwX0_byRank_1 : List UInt8 := [162, 0, 95, 21, 4, 42, 180, 0, 34, 180, 0, 38, 21, 6, 100, 108, 54, 4, 4, 54, 7, 29, 21, 4]
abbrev dktX0_byRank_1 : List UInt8 := dkwX0_byRank_1 ++ dktX0_byRank_2
def dkwX0_byRank_0 : List UInt8 := [27, 62, 42, 182, 1, 2, 54, 4, 3, 54, 5, 3, 54, 6, 21, 6, 42, 180, 0, 34, 180, 0, 38]
abbrev dktX0_byRank_0 : List UInt8 := dkwX0_byRank_0 ++ dktX0_byRank_1
theorem dksX0_byRank_0 : cX0_byRank.data.toList.drop 0 = dktX0_byRank_0 := by decide +kernel
theorem dksX0_byRank_1 : cX0_byRank.data.toList.drop 23 = dktX0_byRank_1 := dk_seg dksX0_byRank_0 23 rfl rfl
theorem dksX0_byRank_2 : cX0_byRank.data.toList.drop 47 = dktX0_byRank_2 := dk_seg dksX0_byRank_1 24 rfl rfl
theorem dksX0_byRank_3 : cX0_byRank.data.toList.drop 71 = dktX0_byRank_3 := dk_seg dksX0_byRank_2 24 rfl rfl
theorem dksX0_byRank_4 : cX0_byRank.data.toList.drop 95 = dktX0_byRank_4 := dk_seg dksX0_byRank_3 24 rfl rfl
theorem dX0_byRank_0 : decode cX0_byRank 0 = .ok (.iload_n 1, 1) := dk_27 (dk_at dksX0_byRank_0 0 rfl rfl)
theorem dX0_byRank_1 : decode cX0_byRank 1 = .ok (.istore_n 3, 1) := dk_62 (dk_at dksX0_byRank_0 1 rfl rfl)
theorem dX0_byRank_2 : decode cX0_byRank 2 = .ok (.aload_n 0, 1) := dk_42 (dk_at dksX0_byRank_0 2 rfl rfl)
theorem dX0_byRank_3 : decode cX0_byRank 3 = .ok (.invokevirtual 258, 3) := dk_182 1 2 (dk_at dksX0_byRank_0 3 rfl rfl)
theorem dX0_byRank_6 : decode cX0_byRank 6 = .ok (.istore 4, 2) := dk_54 4 (dk_at dksX0_byRank_0 6 rfl rfl)
theorem dX0_byRank_8 : decode cX0_byRank 8 = .ok (.iconst 0, 1) := dk_3 (dk_at dksX0_byRank_0 8 rfl rfl)
theorem dX0_byRank_9 : decode cX0_byRank 9 = .ok (.istore 5, 2) := dk_54 5 (dk_at dksX0_byRank_0 9 rfl rfl)
theorem dX0_byRank_11 : decode cX0_byRank 11 = .ok (.iconst 0, 1) := dk_3 (dk_at dksX0_byRank_0 11 rfl rfl)
theorem dX0_byRank_12 : decode cX0_byRank 12 = .ok (.istore 6, 2) := dk_54 6 (dk_at dksX0_byRank_0 12 rfl rfl)
theorem dX0_byRank_14 : decode cX0_byRank 14 = .ok (.iload 6, 2) := dk_21 6 (dk_at dksX0_byRank_0 14 rfl rfl)
theorem dX0_byRank_16 : decode cX0_byRank 16 = .ok (.aload_n 0, 1) := dk_42 (dk_at dksX0_byRank_0 16 rfl rfl)
theorem dX0_byRank_17 : decode cX0_byRank 17 = .ok (.getfield 34, 3) := dk_180 0 34 (dk_at dksX0_byRank_0 17 rfl rfl)
theorem dX0_byRank_20 : decode cX0_byRank 20 = .ok (.getfield 38, 3) := dk_180 0 38 (dk_at dksX0_byRank_0 20 rfl rfl)
theorem dX0_byRank_23 : decode cX0_byRank 23 = .ok (.if_icmp .ge 95, 3) := dk_162 0 95 (dk_at dksX0_byRank_1 0 rfl rfl)
theorem dX0_byRank_26 : decode cX0_byRank 26 = .ok (.iload 4, 2) := dk_21 4 (dk_at dksX0_byRank_1 3 rfl rfl)
theorem dX0_byRank_28 : decode cX0_byRank 28 = .ok (.aload_n 0, 1) := dk_42 (dk_at dksX0_byRank_1 5 rfl rfl)
theorem dX0_byRank_29 : decode cX0_byRank 29 = .ok (.getfield 34, 3) := dk_180 0 34 (dk_at dksX0_byRank_1 6 rfl rfl)
theorem dX0_byRank_32 : decode cX0_byRank 32 = .ok (.getfield 38, 3) := dk_180 0 38 (dk_at dksX0_byRank_1 9 rfl rfl)
theorem dX0_byRank_35 : decode cX0_byRank 35 = .ok (.iload 6, 2) := dk_21 6 (dk_at dksX0_byRank_1 12 rfl rfl)
theorem dX0_byRank_37 : decode cX0_byRank 37 = .ok (.isub, 1) := dk_100 (dk_at dksX0_byRank_1 14 rfl rfl)
theorem dX0_byRank_38 : decode cX0_byRank 38 = .ok (.idiv, 1) := dk_108 (dk_at dksX0_byRank_1 15 rfl rfl)
theorem dX0_byRank_39 : decode cX0_byRank 39 = .ok (.istore 4, 2) := dk_54 4 (dk_at dksX0_byRank_1 16 rfl rfl)
theorem dX0_byRank_41 : decode cX0_byRank 41 = .ok (.iconst 1, 1) := dk_4 (dk_at dksX0_byRank_1 18 rfl rfl)
theorem dX0_byRank_42 : decode cX0_byRank 42 = .ok (.istore 7, 2) := dk_54 7 (dk_at dksX0_byRank_1 19 rfl rfl)
theorem dX0_byRank_44 : decode cX0_byRank 44 = .ok (.iload_n 3, 1) := dk_29 (dk_at dksX0_byRank_1 21 rfl rfl)
theorem dX0_byRank_45 : decode cX0_byRank 45 = .ok (.iload 4, 2) := dk_21 4 (dk_at dksX0_byRank_1 22 rfl rfl)
theorem dX0_byRank_47 : decode cX0_byRank 47 = .ok (.idiv, 1) := dk_108 (dk_at dksX0_byRank_2 0 rfl rfl)
theorem dX0_byRank_48 : decode cX0_byRank 48 = .ok (.istore 8, 2) := dk_54 8 (dk_at dksX0_byRank_2 1 rfl rfl)
theorem dX0_byRank_50 : decode cX0_byRank 50 = .ok (.iload 8, 2) := dk_21 8 (dk_at dksX0_byRank_2 3 rfl rfl)
theorem dX0_byRank_52 : decode cX0_byRank 52 = .ok (.ifCond .gt 13, 3) := dk_157 0 13 (dk_at dksX0_byRank_2 5 rfl rfl)
theorem dX0_byRank_55 : decode cX0_byRank 55 = .ok (.iload 5, 2) := dk_21 5 (dk_at dksX0_byRank_2 8 rfl rfl)
theorem dX0_byRank_57 : decode cX0_byRank 57 = .ok (.iload 7, 2) := dk_21 7 (dk_at dksX0_byRank_2 10 rfl rfl)
theorem dX0_byRank_59 : decode cX0_byRank 59 = .ok (.ishr, 1) := dk_122 (dk_at dksX0_byRank_2 12 rfl rfl)
theorem dX0_byRank_60 : decode cX0_byRank 60 = .ok (.iconst 1, 1) := dk_4 (dk_at dksX0_byRank_2 13 rfl rfl)
theorem dX0_byRank_61 : decode cX0_byRank 61 = .ok (.iand, 1) := dk_126 (dk_at dksX0_byRank_2 14 rfl rfl)
theorem dX0_byRank_62 : decode cX0_byRank 62 = .ok (.ifCond .le 29, 3) := dk_158 0 29 (dk_at dksX0_byRank_2 15 rfl rfl)
theorem dX0_byRank_65 : decode cX0_byRank 65 = .ok (.iload 8, 2) := dk_21 8 (dk_at dksX0_byRank_2 18 rfl rfl)
theorem dX0_byRank_67 : decode cX0_byRank 67 = .ok (.iload 5, 2) := dk_21 5 (dk_at dksX0_byRank_2 20 rfl rfl)
theorem dX0_byRank_69 : decode cX0_byRank 69 = .ok (.iload 7, 2) := dk_21 7 (dk_at dksX0_byRank_2 22 rfl rfl)
theorem dX0_byRank_71 : decode cX0_byRank 71 = .ok (.ishr, 1) := dk_122 (dk_at dksX0_byRank_3 0 rfl rfl)
theorem dX0_byRank_72 : decode cX0_byRank 72 = .ok (.iconst 1, 1) := dk_4 (dk_at dksX0_byRank_3 1 rfl rfl)
theorem dX0_byRank_73 : decode cX0_byRank 73 = .ok (.iand, 1) := dk_126 (dk_at dksX0_byRank_3 2 rfl rfl)
theorem dX0_byRank_74 : decode cX0_byRank 74 = .ok (.ifCond .le 7, 3) := dk_158 0 7 (dk_at dksX0_byRank_3 3 rfl rfl)
theorem dX0_byRank_77 : decode cX0_byRank 77 = .ok (.iconst 0, 1) := dk_3 (dk_at dksX0_byRank_3 6 rfl rfl)
theorem dX0_byRank_78 : decode cX0_byRank 78 = .ok (.goto 4, 3) := dk_167 0 4 (dk_at dksX0_byRank_3 7 rfl rfl)
theorem dX0_byRank_81 : decode cX0_byRank 81 = .ok (.iconst 1, 1) := dk_4 (dk_at dksX0_byRank_3 10 rfl rfl)
theorem dX0_byRank_82 : decode cX0_byRank 82 = .ok (.isub, 1) := dk_100 (dk_at dksX0_byRank_3 11 rfl rfl)
theorem dX0_byRank_83 : decode cX0_byRank 83 = .ok (.istore 8, 2) := dk_54 8 (dk_at dksX0_byRank_3 12 rfl rfl)
theorem dX0_byRank_85 : decode cX0_byRank 85 = .ok (.iinc 7 1, 3) := dk_132 7 1 (dk_at dksX0_byRank_3 14 rfl rfl)
theorem dX0_byRank_88 : decode cX0_byRank 88 = .ok (.goto (-38), 3) := dk_167 255 218 (dk_at dksX0_byRank_3 17 rfl rfl)
theorem dX0_byRank_91 : decode cX0_byRank 91 = .ok (.iload_n 3, 1) := dk_29 (dk_at dksX0_byRank_3 20 rfl rfl)
theorem dX0_byRank_92 : decode cX0_byRank 92 = .ok (.iload 4, 2) := dk_21 4 (dk_at dksX0_byRank_3 21 rfl rfl)
theorem dX0_byRank_94 : decode cX0_byRank 94 = .ok (.irem, 1) := dk_112 (dk_at dksX0_byRank_3 23 rfl rfl)
theorem dX0_byRank_95 : decode cX0_byRank 95 = .ok (.istore_n 3, 1) := dk_62 (dk_at dksX0_byRank_4 0 rfl rfl)
theorem dX0_byRank_96 : decode cX0_byRank 96 = .ok (.aload_n 2, 1) := dk_44 (dk_at dksX0_byRank_4 1 rfl rfl)
theorem dX0_byRank_97 : decode cX0_byRank 97 = .ok (.iload 6, 2) := dk_21 6 (dk_at dksX0_byRank_4 2 rfl rfl)
theorem dX0_byRank_99 : decode cX0_byRank 99 = .ok (.iload 7, 2) := dk_21 7 (dk_at dksX0_byRank_4 4 rfl rfl)
theorem dX0_byRank_101 : decode cX0_byRank 101 = .ok (.i2b, 1) := dk_145 (dk_at dksX0_byRank_4 6 rfl rfl)
theorem dX0_byRank_102 : decode cX0_byRank 102 = .ok (.bastore, 1) := dk_84 (dk_at dksX0_byRank_4 7 rfl rfl)
theorem dX0_byRank_103 : decode cX0_byRank 103 = .ok (.iload 5, 2) := dk_21 5 (dk_at dksX0_byRank_4 8 rfl rfl)
theorem dX0_byRank_105 : decode cX0_byRank 105 = .ok (.iconst 1, 1) := dk_4 (dk_at dksX0_byRank_4 10 rfl rfl)
theorem dX0_byRank_106 : decode cX0_byRank 106 = .ok (.iload 7, 2) := dk_21 7 (dk_at dksX0_byRank_4 11 rfl rfl)
theorem dX0_byRank_108 : decode cX0_byRank 108 = .ok (.ishl, 1) := dk_120 (dk_at dksX0_byRank_4 13 rfl rfl)
theorem dX0_byRank_109 : decode cX0_byRank 109 = .ok (.ior, 1) := dk_128 (dk_at dksX0_byRank_4 14 rfl rfl)
theorem dX0_byRank_110 : decode cX0_byRank 110 = .ok (.istore 5, 2) := dk_54 5 (dk_at dksX0_byRank_4 15 rfl rfl)
theorem dX0_byRank_112 : decode cX0_byRank 112 = .ok (.iinc 6 1, 3) := dk_132 6 1 (dk_at dksX0_byRank_4 17 rfl rfl)
theorem dX0_byRank_115 : decode cX0_byRank 115 = .ok (.goto (-101), 3) := dk_167 255 155 (dk_at dksX0_byRank_4 20 rfl rfl)
theorem dX0_byRank_118 : decode cX0_byRank 118 = .ok (.return_, 1) := dk_177 (dk_at dksX0_byRank_4 23 rfl rfl)
abbrev cX0_jump : ByteArray := prog_1_method_48_code
def yX0_jump : MethodName := ⟨RX0, "jump", "(III)I"⟩
def dkwX0_jump_3 : List UInt8 := [182, 1, 40, 167, 0, 5, 16, 253, 172, 58, 4, 16, 253, 172]
abbrev dktX0_jump_3 : List UInt8 := dkwX0_jump_3 ++ []
def dkwX0_jump_2 : List UInt8 := [180, 0, 141, 182, 1, 77, 42, 180, 0, 137, 21, 4, 29, 184, 1, 81, 153, 0, 14, 42, 42, 180, 0, 141]
abbrev dktX0_jump_2 : List UInt8 := dkwX0_jump_2 ++ dktX0_jump_3
def dkwX0_jump_1 : List UInt8 := [154, 0, 5, 2, 172, 42, 180, 0, 137, 28, 184, 1, 73, 54, 4, 42, 42, 180, 0, 137, 21, 4, 29, 42]
abbrev dktX0_jump_1 : List UInt8 := dkwX0_jump_1 ++ dktX0_jump_2
def dkwX0_jump_0 : List UInt8 := [42, 27, 42, 180, 0, 137, 182, 0, 236, 153, 0, 18, 28, 4, 42, 180, 0, 34, 180, 0, 38, 184, 0, 112]
abbrev dktX0_jump_0 : List UInt8 := dkwX0_jump_0 ++ dktX0_jump_1
theorem dksX0_jump_0 : cX0_jump.data.toList.drop 0 = dktX0_jump_0 := by decide +kernel
theorem dksX0_jump_1 : cX0_jump.data.toList.drop 24 = dktX0_jump_1 := dk_seg dksX0_jump_0 24 rfl rfl
theorem dksX0_jump_2 : cX0_jump.data.toList.drop 48 = dktX0_jump_2 := dk_seg dksX0_jump_1 24 rfl rfl
theorem dksX0_jump_3 : cX0_jump.data.toList.drop 72 = dktX0_jump_3 := dk_seg dksX0_jump_2 24 rfl rfl
theorem dX0_jump_0 : decode cX0_jump 0 = .ok (.aload_n 0, 1) := dk_42 (dk_at dksX0_jump_0 0 rfl rfl)
theorem dX0_jump_1 : decode cX0_jump 1 = .ok (.iload_n 1, 1) := dk_27 (dk_at dksX0_jump_0 1 rfl rfl)
theorem dX0_jump_2 : decode cX0_jump 2 = .ok (.aload_n 0, 1) := dk_42 (dk_at dksX0_jump_0 2 rfl rfl)
theorem dX0_jump_3 : decode cX0_jump 3 = .ok (.getfield 137, 3) := dk_180 0 137 (dk_at dksX0_jump_0 3 rfl rfl)
theorem dX0_jump_6 : decode cX0_jump 6 = .ok (.invokevirtual 236, 3) := dk_182 0 236 (dk_at dksX0_jump_0 6 rfl rfl)
theorem dX0_jump_9 : decode cX0_jump 9 = .ok (.ifCond .eq 18, 3) := dk_153 0 18 (dk_at dksX0_jump_0 9 rfl rfl)
theorem dX0_jump_12 : decode cX0_jump 12 = .ok (.iload_n 2, 1) := dk_28 (dk_at dksX0_jump_0 12 rfl rfl)
theorem dX0_jump_13 : decode cX0_jump 13 = .ok (.iconst 1, 1) := dk_4 (dk_at dksX0_jump_0 13 rfl rfl)
theorem dX0_jump_14 : decode cX0_jump 14 = .ok (.aload_n 0, 1) := dk_42 (dk_at dksX0_jump_0 14 rfl rfl)
theorem dX0_jump_15 : decode cX0_jump 15 = .ok (.getfield 34, 3) := dk_180 0 34 (dk_at dksX0_jump_0 15 rfl rfl)
theorem dX0_jump_18 : decode cX0_jump 18 = .ok (.getfield 38, 3) := dk_180 0 38 (dk_at dksX0_jump_0 18 rfl rfl)
theorem dX0_jump_21 : decode cX0_jump 21 = .ok (.invokestatic 112, 3) := dk_184 0 112 (dk_at dksX0_jump_0 21 rfl rfl)
theorem dX0_jump_24 : decode cX0_jump 24 = .ok (.ifCond .ne 5, 3) := dk_154 0 5 (dk_at dksX0_jump_1 0 rfl rfl)
theorem dX0_jump_27 : decode cX0_jump 27 = .ok (.iconst (-1), 1) := dk_2 (dk_at dksX0_jump_1 3 rfl rfl)
theorem dX0_jump_28 : decode cX0_jump 28 = .ok (.ireturn, 1) := dk_172 (dk_at dksX0_jump_1 4 rfl rfl)
theorem dX0_jump_29 : decode cX0_jump 29 = .ok (.aload_n 0, 1) := dk_42 (dk_at dksX0_jump_1 5 rfl rfl)
theorem dX0_jump_30 : decode cX0_jump 30 = .ok (.getfield 137, 3) := dk_180 0 137 (dk_at dksX0_jump_1 6 rfl rfl)
theorem dX0_jump_33 : decode cX0_jump 33 = .ok (.iload_n 2, 1) := dk_28 (dk_at dksX0_jump_1 9 rfl rfl)
theorem dX0_jump_34 : decode cX0_jump 34 = .ok (.invokestatic 329, 3) := dk_184 1 73 (dk_at dksX0_jump_1 10 rfl rfl)
theorem dX0_jump_37 : decode cX0_jump 37 = .ok (.istore 4, 2) := dk_54 4 (dk_at dksX0_jump_1 13 rfl rfl)
theorem dX0_jump_39 : decode cX0_jump 39 = .ok (.aload_n 0, 1) := dk_42 (dk_at dksX0_jump_1 15 rfl rfl)
theorem dX0_jump_40 : decode cX0_jump 40 = .ok (.aload_n 0, 1) := dk_42 (dk_at dksX0_jump_1 16 rfl rfl)
theorem dX0_jump_41 : decode cX0_jump 41 = .ok (.getfield 137, 3) := dk_180 0 137 (dk_at dksX0_jump_1 17 rfl rfl)
theorem dX0_jump_44 : decode cX0_jump 44 = .ok (.iload 4, 2) := dk_21 4 (dk_at dksX0_jump_1 20 rfl rfl)
theorem dX0_jump_46 : decode cX0_jump 46 = .ok (.iload_n 3, 1) := dk_29 (dk_at dksX0_jump_1 22 rfl rfl)
theorem dX0_jump_47 : decode cX0_jump 47 = .ok (.aload_n 0, 1) := dk_42 (dk_at dksX0_jump_1 23 rfl rfl)
theorem dX0_jump_48 : decode cX0_jump 48 = .ok (.getfield 141, 3) := dk_180 0 141 (dk_at dksX0_jump_2 0 rfl rfl)
theorem dX0_jump_51 : decode cX0_jump 51 = .ok (.invokevirtual 333, 3) := dk_182 1 77 (dk_at dksX0_jump_2 3 rfl rfl)
theorem dX0_jump_54 : decode cX0_jump 54 = .ok (.aload_n 0, 1) := dk_42 (dk_at dksX0_jump_2 6 rfl rfl)
theorem dX0_jump_55 : decode cX0_jump 55 = .ok (.getfield 137, 3) := dk_180 0 137 (dk_at dksX0_jump_2 7 rfl rfl)
theorem dX0_jump_58 : decode cX0_jump 58 = .ok (.iload 4, 2) := dk_21 4 (dk_at dksX0_jump_2 10 rfl rfl)
theorem dX0_jump_60 : decode cX0_jump 60 = .ok (.iload_n 3, 1) := dk_29 (dk_at dksX0_jump_2 12 rfl rfl)
theorem dX0_jump_61 : decode cX0_jump 61 = .ok (.invokestatic 337, 3) := dk_184 1 81 (dk_at dksX0_jump_2 13 rfl rfl)
theorem dX0_jump_64 : decode cX0_jump 64 = .ok (.ifCond .eq 14, 3) := dk_153 0 14 (dk_at dksX0_jump_2 16 rfl rfl)
theorem dX0_jump_67 : decode cX0_jump 67 = .ok (.aload_n 0, 1) := dk_42 (dk_at dksX0_jump_2 19 rfl rfl)
theorem dX0_jump_68 : decode cX0_jump 68 = .ok (.aload_n 0, 1) := dk_42 (dk_at dksX0_jump_2 20 rfl rfl)
theorem dX0_jump_69 : decode cX0_jump 69 = .ok (.getfield 141, 3) := dk_180 0 141 (dk_at dksX0_jump_2 21 rfl rfl)
theorem dX0_jump_72 : decode cX0_jump 72 = .ok (.invokevirtual 296, 3) := dk_182 1 40 (dk_at dksX0_jump_3 0 rfl rfl)
theorem dX0_jump_75 : decode cX0_jump 75 = .ok (.goto 5, 3) := dk_167 0 5 (dk_at dksX0_jump_3 3 rfl rfl)
theorem dX0_jump_78 : decode cX0_jump 78 = .ok (.bipush (-3), 2) := dk_16 253 (dk_at dksX0_jump_3 6 rfl rfl)
theorem dX0_jump_80 : decode cX0_jump 80 = .ok (.ireturn, 1) := dk_172 (dk_at dksX0_jump_3 8 rfl rfl)
theorem dX0_jump_81 : decode cX0_jump 81 = .ok (.astore 4, 2) := dk_58 4 (dk_at dksX0_jump_3 9 rfl rfl)
theorem dX0_jump_83 : decode cX0_jump 83 = .ok (.bipush (-3), 2) := dk_16 253 (dk_at dksX0_jump_3 11 rfl rfl)
theorem dX0_jump_85 : decode cX0_jump 85 = .ok (.ireturn, 1) := dk_172 (dk_at dksX0_jump_3 13 rfl rfl)
abbrev cX0_placeOf : ByteArray := prog_1_method_45_code
def yX0_placeOf : MethodName := ⟨RX0, "placeOf", "([BI)I"⟩
def dkwX0_placeOf_0 : List UInt8 := [3, 61, 42, 28, 51, 27, 159, 0, 9, 132, 2, 1, 167, 255, 246, 28, 172]
abbrev dktX0_placeOf_0 : List UInt8 := dkwX0_placeOf_0 ++ []
theorem dksX0_placeOf_0 : cX0_placeOf.data.toList.drop 0 = dktX0_placeOf_0 := by decide +kernel
theorem dX0_placeOf_0 : decode cX0_placeOf 0 = .ok (.iconst 0, 1) := dk_3 (dk_at dksX0_placeOf_0 0 rfl rfl)
theorem dX0_placeOf_1 : decode cX0_placeOf 1 = .ok (.istore_n 2, 1) := dk_61 (dk_at dksX0_placeOf_0 1 rfl rfl)
theorem dX0_placeOf_2 : decode cX0_placeOf 2 = .ok (.aload_n 0, 1) := dk_42 (dk_at dksX0_placeOf_0 2 rfl rfl)
theorem dX0_placeOf_3 : decode cX0_placeOf 3 = .ok (.iload_n 2, 1) := dk_28 (dk_at dksX0_placeOf_0 3 rfl rfl)
theorem dX0_placeOf_4 : decode cX0_placeOf 4 = .ok (.baload, 1) := dk_51 (dk_at dksX0_placeOf_0 4 rfl rfl)
theorem dX0_placeOf_5 : decode cX0_placeOf 5 = .ok (.iload_n 1, 1) := dk_27 (dk_at dksX0_placeOf_0 5 rfl rfl)
theorem dX0_placeOf_6 : decode cX0_placeOf 6 = .ok (.if_icmp .eq 9, 3) := dk_159 0 9 (dk_at dksX0_placeOf_0 6 rfl rfl)
theorem dX0_placeOf_9 : decode cX0_placeOf 9 = .ok (.iinc 2 1, 3) := dk_132 2 1 (dk_at dksX0_placeOf_0 9 rfl rfl)
theorem dX0_placeOf_12 : decode cX0_placeOf 12 = .ok (.goto (-10), 3) := dk_167 255 246 (dk_at dksX0_placeOf_0 12 rfl rfl)
theorem dX0_placeOf_15 : decode cX0_placeOf 15 = .ok (.iload_n 2, 1) := dk_28 (dk_at dksX0_placeOf_0 15 rfl rfl)
theorem dX0_placeOf_16 : decode cX0_placeOf 16 = .ok (.ireturn, 1) := dk_172 (dk_at dksX0_placeOf_0 16 rfl rfl)
abbrev cX0_jumps : ByteArray := prog_1_method_46_code
def yX0_jumps : MethodName := ⟨RX0, "jumps", "([BII[B)V"⟩
def dkwX0_jumps_4 : List UInt8 := [25, 5, 28, 29, 96, 43, 28, 51, 84, 42, 25, 5, 25, 4, 182, 1, 60, 177]
abbrev dktX0_jumps_4 : List UInt8 := dkwX0_jumps_4 ++ []
def dkwX0_jumps_3 : List UInt8 := [184, 0, 240, 29, 156, 0, 20, 25, 5, 28, 29, 96, 25, 5, 28, 29, 96, 4, 96, 29, 116, 184, 0, 240]
abbrev dktX0_jumps_3 : List UInt8 := dkwX0_jumps_3 ++ dktX0_jumps_4
def dkwX0_jumps_2 : List UInt8 := [50, 58, 5, 42, 43, 25, 5, 182, 1, 60, 29, 158, 0, 15, 25, 5, 28, 4, 96, 25, 5, 28, 29]
abbrev dktX0_jumps_2 : List UInt8 := dkwX0_jumps_2 ++ dktX0_jumps_3
def dkwX0_jumps_1 : List UInt8 := [180, 0, 38, 42, 180, 0, 34, 180, 0, 38, 188, 8, 83, 42, 180, 0, 157, 42, 180, 0, 34, 180, 0, 38]
abbrev dktX0_jumps_1 : List UInt8 := dkwX0_jumps_1 ++ dktX0_jumps_2
def dkwX0_jumps_0 : List UInt8 := [42, 180, 0, 157, 42, 180, 0, 34, 180, 0, 38, 50, 199, 0, 24, 42, 180, 0, 157, 42, 180, 0, 34]
abbrev dktX0_jumps_0 : List UInt8 := dkwX0_jumps_0 ++ dktX0_jumps_1
theorem dksX0_jumps_0 : cX0_jumps.data.toList.drop 0 = dktX0_jumps_0 := by decide +kernel
theorem dksX0_jumps_1 : cX0_jumps.data.toList.drop 23 = dktX0_jumps_1 := dk_seg dksX0_jumps_0 23 rfl rfl
theorem dksX0_jumps_2 : cX0_jumps.data.toList.drop 47 = dktX0_jumps_2 := dk_seg dksX0_jumps_1 24 rfl rfl
theorem dksX0_jumps_3 : cX0_jumps.data.toList.drop 70 = dktX0_jumps_3 := dk_seg dksX0_jumps_2 23 rfl rfl
theorem dksX0_jumps_4 : cX0_jumps.data.toList.drop 94 = dktX0_jumps_4 := dk_seg dksX0_jumps_3 24 rfl rfl
theorem dX0_jumps_0 : decode cX0_jumps 0 = .ok (.aload_n 0, 1) := dk_42 (dk_at dksX0_jumps_0 0 rfl rfl)
theorem dX0_jumps_1 : decode cX0_jumps 1 = .ok (.getfield 157, 3) := dk_180 0 157 (dk_at dksX0_jumps_0 1 rfl rfl)
theorem dX0_jumps_4 : decode cX0_jumps 4 = .ok (.aload_n 0, 1) := dk_42 (dk_at dksX0_jumps_0 4 rfl rfl)
theorem dX0_jumps_5 : decode cX0_jumps 5 = .ok (.getfield 34, 3) := dk_180 0 34 (dk_at dksX0_jumps_0 5 rfl rfl)
theorem dX0_jumps_8 : decode cX0_jumps 8 = .ok (.getfield 38, 3) := dk_180 0 38 (dk_at dksX0_jumps_0 8 rfl rfl)
theorem dX0_jumps_11 : decode cX0_jumps 11 = .ok (.aaload, 1) := dk_50 (dk_at dksX0_jumps_0 11 rfl rfl)
theorem dX0_jumps_12 : decode cX0_jumps 12 = .ok (.ifnonnull 24, 3) := dk_199 0 24 (dk_at dksX0_jumps_0 12 rfl rfl)
theorem dX0_jumps_15 : decode cX0_jumps 15 = .ok (.aload_n 0, 1) := dk_42 (dk_at dksX0_jumps_0 15 rfl rfl)
theorem dX0_jumps_16 : decode cX0_jumps 16 = .ok (.getfield 157, 3) := dk_180 0 157 (dk_at dksX0_jumps_0 16 rfl rfl)
theorem dX0_jumps_19 : decode cX0_jumps 19 = .ok (.aload_n 0, 1) := dk_42 (dk_at dksX0_jumps_0 19 rfl rfl)
theorem dX0_jumps_20 : decode cX0_jumps 20 = .ok (.getfield 34, 3) := dk_180 0 34 (dk_at dksX0_jumps_0 20 rfl rfl)
theorem dX0_jumps_23 : decode cX0_jumps 23 = .ok (.getfield 38, 3) := dk_180 0 38 (dk_at dksX0_jumps_1 0 rfl rfl)
theorem dX0_jumps_26 : decode cX0_jumps 26 = .ok (.aload_n 0, 1) := dk_42 (dk_at dksX0_jumps_1 3 rfl rfl)
theorem dX0_jumps_27 : decode cX0_jumps 27 = .ok (.getfield 34, 3) := dk_180 0 34 (dk_at dksX0_jumps_1 4 rfl rfl)
theorem dX0_jumps_30 : decode cX0_jumps 30 = .ok (.getfield 38, 3) := dk_180 0 38 (dk_at dksX0_jumps_1 7 rfl rfl)
theorem dX0_jumps_33 : decode cX0_jumps 33 = .ok (.newarray .byte, 2) := dk_188_8 (dk_at dksX0_jumps_1 10 rfl rfl)
theorem dX0_jumps_35 : decode cX0_jumps 35 = .ok (.aastore, 1) := dk_83 (dk_at dksX0_jumps_1 12 rfl rfl)
theorem dX0_jumps_36 : decode cX0_jumps 36 = .ok (.aload_n 0, 1) := dk_42 (dk_at dksX0_jumps_1 13 rfl rfl)
theorem dX0_jumps_37 : decode cX0_jumps 37 = .ok (.getfield 157, 3) := dk_180 0 157 (dk_at dksX0_jumps_1 14 rfl rfl)
theorem dX0_jumps_40 : decode cX0_jumps 40 = .ok (.aload_n 0, 1) := dk_42 (dk_at dksX0_jumps_1 17 rfl rfl)
theorem dX0_jumps_41 : decode cX0_jumps 41 = .ok (.getfield 34, 3) := dk_180 0 34 (dk_at dksX0_jumps_1 18 rfl rfl)
theorem dX0_jumps_44 : decode cX0_jumps 44 = .ok (.getfield 38, 3) := dk_180 0 38 (dk_at dksX0_jumps_1 21 rfl rfl)
theorem dX0_jumps_47 : decode cX0_jumps 47 = .ok (.aaload, 1) := dk_50 (dk_at dksX0_jumps_2 0 rfl rfl)
theorem dX0_jumps_48 : decode cX0_jumps 48 = .ok (.astore 5, 2) := dk_58 5 (dk_at dksX0_jumps_2 1 rfl rfl)
theorem dX0_jumps_50 : decode cX0_jumps 50 = .ok (.aload_n 0, 1) := dk_42 (dk_at dksX0_jumps_2 3 rfl rfl)
theorem dX0_jumps_51 : decode cX0_jumps 51 = .ok (.aload_n 1, 1) := dk_43 (dk_at dksX0_jumps_2 4 rfl rfl)
theorem dX0_jumps_52 : decode cX0_jumps 52 = .ok (.aload 5, 2) := dk_25 5 (dk_at dksX0_jumps_2 5 rfl rfl)
theorem dX0_jumps_54 : decode cX0_jumps 54 = .ok (.invokevirtual 316, 3) := dk_182 1 60 (dk_at dksX0_jumps_2 7 rfl rfl)
theorem dX0_jumps_57 : decode cX0_jumps 57 = .ok (.iload_n 3, 1) := dk_29 (dk_at dksX0_jumps_2 10 rfl rfl)
theorem dX0_jumps_58 : decode cX0_jumps 58 = .ok (.ifCond .le 15, 3) := dk_158 0 15 (dk_at dksX0_jumps_2 11 rfl rfl)
theorem dX0_jumps_61 : decode cX0_jumps 61 = .ok (.aload 5, 2) := dk_25 5 (dk_at dksX0_jumps_2 14 rfl rfl)
theorem dX0_jumps_63 : decode cX0_jumps 63 = .ok (.iload_n 2, 1) := dk_28 (dk_at dksX0_jumps_2 16 rfl rfl)
theorem dX0_jumps_64 : decode cX0_jumps 64 = .ok (.iconst 1, 1) := dk_4 (dk_at dksX0_jumps_2 17 rfl rfl)
theorem dX0_jumps_65 : decode cX0_jumps 65 = .ok (.iadd, 1) := dk_96 (dk_at dksX0_jumps_2 18 rfl rfl)
theorem dX0_jumps_66 : decode cX0_jumps 66 = .ok (.aload 5, 2) := dk_25 5 (dk_at dksX0_jumps_2 19 rfl rfl)
theorem dX0_jumps_68 : decode cX0_jumps 68 = .ok (.iload_n 2, 1) := dk_28 (dk_at dksX0_jumps_2 21 rfl rfl)
theorem dX0_jumps_69 : decode cX0_jumps 69 = .ok (.iload_n 3, 1) := dk_29 (dk_at dksX0_jumps_2 22 rfl rfl)
theorem dX0_jumps_70 : decode cX0_jumps 70 = .ok (.invokestatic 240, 3) := dk_184 0 240 (dk_at dksX0_jumps_3 0 rfl rfl)
theorem dX0_jumps_73 : decode cX0_jumps 73 = .ok (.iload_n 3, 1) := dk_29 (dk_at dksX0_jumps_3 3 rfl rfl)
theorem dX0_jumps_74 : decode cX0_jumps 74 = .ok (.ifCond .ge 20, 3) := dk_156 0 20 (dk_at dksX0_jumps_3 4 rfl rfl)
theorem dX0_jumps_77 : decode cX0_jumps 77 = .ok (.aload 5, 2) := dk_25 5 (dk_at dksX0_jumps_3 7 rfl rfl)
theorem dX0_jumps_79 : decode cX0_jumps 79 = .ok (.iload_n 2, 1) := dk_28 (dk_at dksX0_jumps_3 9 rfl rfl)
theorem dX0_jumps_80 : decode cX0_jumps 80 = .ok (.iload_n 3, 1) := dk_29 (dk_at dksX0_jumps_3 10 rfl rfl)
theorem dX0_jumps_81 : decode cX0_jumps 81 = .ok (.iadd, 1) := dk_96 (dk_at dksX0_jumps_3 11 rfl rfl)
theorem dX0_jumps_82 : decode cX0_jumps 82 = .ok (.aload 5, 2) := dk_25 5 (dk_at dksX0_jumps_3 12 rfl rfl)
theorem dX0_jumps_84 : decode cX0_jumps 84 = .ok (.iload_n 2, 1) := dk_28 (dk_at dksX0_jumps_3 14 rfl rfl)
theorem dX0_jumps_85 : decode cX0_jumps 85 = .ok (.iload_n 3, 1) := dk_29 (dk_at dksX0_jumps_3 15 rfl rfl)
theorem dX0_jumps_86 : decode cX0_jumps 86 = .ok (.iadd, 1) := dk_96 (dk_at dksX0_jumps_3 16 rfl rfl)
theorem dX0_jumps_87 : decode cX0_jumps 87 = .ok (.iconst 1, 1) := dk_4 (dk_at dksX0_jumps_3 17 rfl rfl)
theorem dX0_jumps_88 : decode cX0_jumps 88 = .ok (.iadd, 1) := dk_96 (dk_at dksX0_jumps_3 18 rfl rfl)
theorem dX0_jumps_89 : decode cX0_jumps 89 = .ok (.iload_n 3, 1) := dk_29 (dk_at dksX0_jumps_3 19 rfl rfl)
theorem dX0_jumps_90 : decode cX0_jumps 90 = .ok (.ineg, 1) := dk_116 (dk_at dksX0_jumps_3 20 rfl rfl)
theorem dX0_jumps_91 : decode cX0_jumps 91 = .ok (.invokestatic 240, 3) := dk_184 0 240 (dk_at dksX0_jumps_3 21 rfl rfl)
theorem dX0_jumps_94 : decode cX0_jumps 94 = .ok (.aload 5, 2) := dk_25 5 (dk_at dksX0_jumps_4 0 rfl rfl)
theorem dX0_jumps_96 : decode cX0_jumps 96 = .ok (.iload_n 2, 1) := dk_28 (dk_at dksX0_jumps_4 2 rfl rfl)
theorem dX0_jumps_97 : decode cX0_jumps 97 = .ok (.iload_n 3, 1) := dk_29 (dk_at dksX0_jumps_4 3 rfl rfl)
theorem dX0_jumps_98 : decode cX0_jumps 98 = .ok (.iadd, 1) := dk_96 (dk_at dksX0_jumps_4 4 rfl rfl)
theorem dX0_jumps_99 : decode cX0_jumps 99 = .ok (.aload_n 1, 1) := dk_43 (dk_at dksX0_jumps_4 5 rfl rfl)
theorem dX0_jumps_100 : decode cX0_jumps 100 = .ok (.iload_n 2, 1) := dk_28 (dk_at dksX0_jumps_4 6 rfl rfl)
theorem dX0_jumps_101 : decode cX0_jumps 101 = .ok (.baload, 1) := dk_51 (dk_at dksX0_jumps_4 7 rfl rfl)
theorem dX0_jumps_102 : decode cX0_jumps 102 = .ok (.bastore, 1) := dk_84 (dk_at dksX0_jumps_4 8 rfl rfl)
theorem dX0_jumps_103 : decode cX0_jumps 103 = .ok (.aload_n 0, 1) := dk_42 (dk_at dksX0_jumps_4 9 rfl rfl)
theorem dX0_jumps_104 : decode cX0_jumps 104 = .ok (.aload 5, 2) := dk_25 5 (dk_at dksX0_jumps_4 10 rfl rfl)
theorem dX0_jumps_106 : decode cX0_jumps 106 = .ok (.aload 4, 2) := dk_25 4 (dk_at dksX0_jumps_4 12 rfl rfl)
theorem dX0_jumps_108 : decode cX0_jumps 108 = .ok (.invokevirtual 316, 3) := dk_182 1 60 (dk_at dksX0_jumps_4 14 rfl rfl)
theorem dX0_jumps_111 : decode cX0_jumps 111 = .ok (.return_, 1) := dk_177 (dk_at dksX0_jumps_4 17 rfl rfl)
abbrev cX0_copy : ByteArray := prog_1_method_20_code
def yX0_copy : MethodName := ⟨RX0, "copy", "([B[B)V"⟩
def dkwX0_copy_0 : List UInt8 := [43, 3, 44, 3, 42, 180, 0, 34, 180, 0, 38, 184, 0, 240, 177]
abbrev dktX0_copy_0 : List UInt8 := dkwX0_copy_0 ++ []
theorem dksX0_copy_0 : cX0_copy.data.toList.drop 0 = dktX0_copy_0 := by decide +kernel
theorem dX0_copy_0 : decode cX0_copy 0 = .ok (.aload_n 1, 1) := dk_43 (dk_at dksX0_copy_0 0 rfl rfl)
theorem dX0_copy_1 : decode cX0_copy 1 = .ok (.iconst 0, 1) := dk_3 (dk_at dksX0_copy_0 1 rfl rfl)
theorem dX0_copy_2 : decode cX0_copy 2 = .ok (.aload_n 2, 1) := dk_44 (dk_at dksX0_copy_0 2 rfl rfl)
theorem dX0_copy_3 : decode cX0_copy 3 = .ok (.iconst 0, 1) := dk_3 (dk_at dksX0_copy_0 3 rfl rfl)
theorem dX0_copy_4 : decode cX0_copy 4 = .ok (.aload_n 0, 1) := dk_42 (dk_at dksX0_copy_0 4 rfl rfl)
theorem dX0_copy_5 : decode cX0_copy 5 = .ok (.getfield 34, 3) := dk_180 0 34 (dk_at dksX0_copy_0 5 rfl rfl)
theorem dX0_copy_8 : decode cX0_copy 8 = .ok (.getfield 38, 3) := dk_180 0 38 (dk_at dksX0_copy_0 8 rfl rfl)
theorem dX0_copy_11 : decode cX0_copy 11 = .ok (.invokestatic 240, 3) := dk_184 0 240 (dk_at dksX0_copy_0 11 rfl rfl)
theorem dX0_copy_14 : decode cX0_copy 14 = .ok (.return_, 1) := dk_177 (dk_at dksX0_copy_0 14 rfl rfl)
abbrev cX0_mayPass : ByteArray := prog_1_method_47_code
def yX0_mayPass : MethodName := ⟨RX0, "mayPass", "([BII)Z"⟩
def dkwX0_mayPass_2 : List UInt8 := [172]
abbrev dktX0_mayPass_2 : List UInt8 := dkwX0_mayPass_2 ++ []
def dkwX0_mayPass_1 : List UInt8 := [42, 21, 4, 51, 42, 27, 51, 163, 0, 7, 4, 167, 0, 4, 3, 126, 62, 132, 4, 1, 167, 255, 223, 29]
abbrev dktX0_mayPass_1 : List UInt8 := dkwX0_mayPass_1 ++ dktX0_mayPass_2
def dkwX0_mayPass_0 : List UInt8 := [4, 62, 27, 27, 28, 96, 184, 1, 64, 54, 4, 21, 4, 27, 27, 28, 96, 184, 1, 70, 163, 0, 27, 29]
abbrev dktX0_mayPass_0 : List UInt8 := dkwX0_mayPass_0 ++ dktX0_mayPass_1
theorem dksX0_mayPass_0 : cX0_mayPass.data.toList.drop 0 = dktX0_mayPass_0 := by decide +kernel
theorem dksX0_mayPass_1 : cX0_mayPass.data.toList.drop 24 = dktX0_mayPass_1 := dk_seg dksX0_mayPass_0 24 rfl rfl
theorem dksX0_mayPass_2 : cX0_mayPass.data.toList.drop 48 = dktX0_mayPass_2 := dk_seg dksX0_mayPass_1 24 rfl rfl
theorem dX0_mayPass_0 : decode cX0_mayPass 0 = .ok (.iconst 1, 1) := dk_4 (dk_at dksX0_mayPass_0 0 rfl rfl)
theorem dX0_mayPass_1 : decode cX0_mayPass 1 = .ok (.istore_n 3, 1) := dk_62 (dk_at dksX0_mayPass_0 1 rfl rfl)
theorem dX0_mayPass_2 : decode cX0_mayPass 2 = .ok (.iload_n 1, 1) := dk_27 (dk_at dksX0_mayPass_0 2 rfl rfl)
theorem dX0_mayPass_3 : decode cX0_mayPass 3 = .ok (.iload_n 1, 1) := dk_27 (dk_at dksX0_mayPass_0 3 rfl rfl)
theorem dX0_mayPass_4 : decode cX0_mayPass 4 = .ok (.iload_n 2, 1) := dk_28 (dk_at dksX0_mayPass_0 4 rfl rfl)
theorem dX0_mayPass_5 : decode cX0_mayPass 5 = .ok (.iadd, 1) := dk_96 (dk_at dksX0_mayPass_0 5 rfl rfl)
theorem dX0_mayPass_6 : decode cX0_mayPass 6 = .ok (.invokestatic 320, 3) := dk_184 1 64 (dk_at dksX0_mayPass_0 6 rfl rfl)
theorem dX0_mayPass_9 : decode cX0_mayPass 9 = .ok (.istore 4, 2) := dk_54 4 (dk_at dksX0_mayPass_0 9 rfl rfl)
theorem dX0_mayPass_11 : decode cX0_mayPass 11 = .ok (.iload 4, 2) := dk_21 4 (dk_at dksX0_mayPass_0 11 rfl rfl)
theorem dX0_mayPass_13 : decode cX0_mayPass 13 = .ok (.iload_n 1, 1) := dk_27 (dk_at dksX0_mayPass_0 13 rfl rfl)
theorem dX0_mayPass_14 : decode cX0_mayPass 14 = .ok (.iload_n 1, 1) := dk_27 (dk_at dksX0_mayPass_0 14 rfl rfl)
theorem dX0_mayPass_15 : decode cX0_mayPass 15 = .ok (.iload_n 2, 1) := dk_28 (dk_at dksX0_mayPass_0 15 rfl rfl)
theorem dX0_mayPass_16 : decode cX0_mayPass 16 = .ok (.iadd, 1) := dk_96 (dk_at dksX0_mayPass_0 16 rfl rfl)
theorem dX0_mayPass_17 : decode cX0_mayPass 17 = .ok (.invokestatic 326, 3) := dk_184 1 70 (dk_at dksX0_mayPass_0 17 rfl rfl)
theorem dX0_mayPass_20 : decode cX0_mayPass 20 = .ok (.if_icmp .gt 27, 3) := dk_163 0 27 (dk_at dksX0_mayPass_0 20 rfl rfl)
theorem dX0_mayPass_23 : decode cX0_mayPass 23 = .ok (.iload_n 3, 1) := dk_29 (dk_at dksX0_mayPass_0 23 rfl rfl)
theorem dX0_mayPass_24 : decode cX0_mayPass 24 = .ok (.aload_n 0, 1) := dk_42 (dk_at dksX0_mayPass_1 0 rfl rfl)
theorem dX0_mayPass_25 : decode cX0_mayPass 25 = .ok (.iload 4, 2) := dk_21 4 (dk_at dksX0_mayPass_1 1 rfl rfl)
theorem dX0_mayPass_27 : decode cX0_mayPass 27 = .ok (.baload, 1) := dk_51 (dk_at dksX0_mayPass_1 3 rfl rfl)
theorem dX0_mayPass_28 : decode cX0_mayPass 28 = .ok (.aload_n 0, 1) := dk_42 (dk_at dksX0_mayPass_1 4 rfl rfl)
theorem dX0_mayPass_29 : decode cX0_mayPass 29 = .ok (.iload_n 1, 1) := dk_27 (dk_at dksX0_mayPass_1 5 rfl rfl)
theorem dX0_mayPass_30 : decode cX0_mayPass 30 = .ok (.baload, 1) := dk_51 (dk_at dksX0_mayPass_1 6 rfl rfl)
theorem dX0_mayPass_31 : decode cX0_mayPass 31 = .ok (.if_icmp .gt 7, 3) := dk_163 0 7 (dk_at dksX0_mayPass_1 7 rfl rfl)
theorem dX0_mayPass_34 : decode cX0_mayPass 34 = .ok (.iconst 1, 1) := dk_4 (dk_at dksX0_mayPass_1 10 rfl rfl)
theorem dX0_mayPass_35 : decode cX0_mayPass 35 = .ok (.goto 4, 3) := dk_167 0 4 (dk_at dksX0_mayPass_1 11 rfl rfl)
theorem dX0_mayPass_38 : decode cX0_mayPass 38 = .ok (.iconst 0, 1) := dk_3 (dk_at dksX0_mayPass_1 14 rfl rfl)
theorem dX0_mayPass_39 : decode cX0_mayPass 39 = .ok (.iand, 1) := dk_126 (dk_at dksX0_mayPass_1 15 rfl rfl)
theorem dX0_mayPass_40 : decode cX0_mayPass 40 = .ok (.istore_n 3, 1) := dk_62 (dk_at dksX0_mayPass_1 16 rfl rfl)
theorem dX0_mayPass_41 : decode cX0_mayPass 41 = .ok (.iinc 4 1, 3) := dk_132 4 1 (dk_at dksX0_mayPass_1 17 rfl rfl)
theorem dX0_mayPass_44 : decode cX0_mayPass 44 = .ok (.goto (-33), 3) := dk_167 255 223 (dk_at dksX0_mayPass_1 20 rfl rfl)
theorem dX0_mayPass_47 : decode cX0_mayPass 47 = .ok (.iload_n 3, 1) := dk_29 (dk_at dksX0_mayPass_1 23 rfl rfl)
theorem dX0_mayPass_48 : decode cX0_mayPass 48 = .ok (.ireturn, 1) := dk_172 (dk_at dksX0_mayPass_2 0 rfl rfl)
abbrev cX0_arc : ByteArray := prog_1_method_53_code
def yX0_arc : MethodName := ⟨RX0, "arc", "(II)I"⟩
def dkwX0_arc_1 : List UInt8 := [184, 0, 112, 153, 0, 15, 42, 42, 180, 0, 137, 28, 182, 1, 87, 167, 0, 4, 2, 172]
abbrev dktX0_arc_1 : List UInt8 := dkwX0_arc_1 ++ []
def dkwX0_arc_0 : List UInt8 := [42, 27, 42, 180, 0, 137, 182, 0, 236, 153, 0, 32, 28, 3, 42, 180, 0, 34, 180, 0, 38, 5, 100]
abbrev dktX0_arc_0 : List UInt8 := dkwX0_arc_0 ++ dktX0_arc_1
theorem dksX0_arc_0 : cX0_arc.data.toList.drop 0 = dktX0_arc_0 := by decide +kernel
theorem dksX0_arc_1 : cX0_arc.data.toList.drop 23 = dktX0_arc_1 := dk_seg dksX0_arc_0 23 rfl rfl
theorem dX0_arc_0 : decode cX0_arc 0 = .ok (.aload_n 0, 1) := dk_42 (dk_at dksX0_arc_0 0 rfl rfl)
theorem dX0_arc_1 : decode cX0_arc 1 = .ok (.iload_n 1, 1) := dk_27 (dk_at dksX0_arc_0 1 rfl rfl)
theorem dX0_arc_2 : decode cX0_arc 2 = .ok (.aload_n 0, 1) := dk_42 (dk_at dksX0_arc_0 2 rfl rfl)
theorem dX0_arc_3 : decode cX0_arc 3 = .ok (.getfield 137, 3) := dk_180 0 137 (dk_at dksX0_arc_0 3 rfl rfl)
theorem dX0_arc_6 : decode cX0_arc 6 = .ok (.invokevirtual 236, 3) := dk_182 0 236 (dk_at dksX0_arc_0 6 rfl rfl)
theorem dX0_arc_9 : decode cX0_arc 9 = .ok (.ifCond .eq 32, 3) := dk_153 0 32 (dk_at dksX0_arc_0 9 rfl rfl)
theorem dX0_arc_12 : decode cX0_arc 12 = .ok (.iload_n 2, 1) := dk_28 (dk_at dksX0_arc_0 12 rfl rfl)
theorem dX0_arc_13 : decode cX0_arc 13 = .ok (.iconst 0, 1) := dk_3 (dk_at dksX0_arc_0 13 rfl rfl)
theorem dX0_arc_14 : decode cX0_arc 14 = .ok (.aload_n 0, 1) := dk_42 (dk_at dksX0_arc_0 14 rfl rfl)
theorem dX0_arc_15 : decode cX0_arc 15 = .ok (.getfield 34, 3) := dk_180 0 34 (dk_at dksX0_arc_0 15 rfl rfl)
theorem dX0_arc_18 : decode cX0_arc 18 = .ok (.getfield 38, 3) := dk_180 0 38 (dk_at dksX0_arc_0 18 rfl rfl)
theorem dX0_arc_21 : decode cX0_arc 21 = .ok (.iconst 2, 1) := dk_5 (dk_at dksX0_arc_0 21 rfl rfl)
theorem dX0_arc_22 : decode cX0_arc 22 = .ok (.isub, 1) := dk_100 (dk_at dksX0_arc_0 22 rfl rfl)
theorem dX0_arc_23 : decode cX0_arc 23 = .ok (.invokestatic 112, 3) := dk_184 0 112 (dk_at dksX0_arc_1 0 rfl rfl)
theorem dX0_arc_26 : decode cX0_arc 26 = .ok (.ifCond .eq 15, 3) := dk_153 0 15 (dk_at dksX0_arc_1 3 rfl rfl)
theorem dX0_arc_29 : decode cX0_arc 29 = .ok (.aload_n 0, 1) := dk_42 (dk_at dksX0_arc_1 6 rfl rfl)
theorem dX0_arc_30 : decode cX0_arc 30 = .ok (.aload_n 0, 1) := dk_42 (dk_at dksX0_arc_1 7 rfl rfl)
theorem dX0_arc_31 : decode cX0_arc 31 = .ok (.getfield 137, 3) := dk_180 0 137 (dk_at dksX0_arc_1 8 rfl rfl)
theorem dX0_arc_34 : decode cX0_arc 34 = .ok (.iload_n 2, 1) := dk_28 (dk_at dksX0_arc_1 11 rfl rfl)
theorem dX0_arc_35 : decode cX0_arc 35 = .ok (.invokevirtual 343, 3) := dk_182 1 87 (dk_at dksX0_arc_1 12 rfl rfl)
theorem dX0_arc_38 : decode cX0_arc 38 = .ok (.goto 4, 3) := dk_167 0 4 (dk_at dksX0_arc_1 15 rfl rfl)
theorem dX0_arc_41 : decode cX0_arc 41 = .ok (.iconst (-1), 1) := dk_2 (dk_at dksX0_arc_1 18 rfl rfl)
theorem dX0_arc_42 : decode cX0_arc 42 = .ok (.ireturn, 1) := dk_172 (dk_at dksX0_arc_1 19 rfl rfl)
abbrev cX0_arcAt : ByteArray := prog_1_method_49_code
def yX0_arcAt : MethodName := ⟨RX0, "arcAt", "([BI)I"⟩
def dkwX0_arcAt_4 : List UInt8 := [172]
abbrev dktX0_arcAt_4 : List UInt8 := dkwX0_arcAt_4 ++ []
def dkwX0_arcAt_3 : List UInt8 := [54, 5, 132, 6, 1, 167, 255, 211, 29, 21, 4, 42, 180, 0, 34, 180, 0, 38, 184, 0, 48, 21, 5, 96]
abbrev dktX0_arcAt_3 : List UInt8 := dkwX0_arcAt_3 ++ dktX0_arcAt_4
def dkwX0_arcAt_2 : List UInt8 := [43, 21, 6, 51, 21, 4, 162, 0, 16, 4, 43, 21, 6, 51, 29, 100, 4, 100, 120, 167, 0, 4, 3, 128]
abbrev dktX0_arcAt_2 : List UInt8 := dkwX0_arcAt_2 ++ dktX0_arcAt_3
def dkwX0_arcAt_1 : List UInt8 := [54, 4, 3, 54, 5, 3, 54, 6, 21, 6, 28, 162, 0, 45, 21, 5, 43, 21, 6, 51, 29, 164, 0, 25]
abbrev dktX0_arcAt_1 : List UInt8 := dkwX0_arcAt_1 ++ dktX0_arcAt_2
def dkwX0_arcAt_0 : List UInt8 := [43, 28, 51, 43, 28, 4, 96, 51, 184, 1, 64, 62, 43, 28, 51, 43, 28, 4, 96, 51, 184, 1, 70]
abbrev dktX0_arcAt_0 : List UInt8 := dkwX0_arcAt_0 ++ dktX0_arcAt_1
theorem dksX0_arcAt_0 : cX0_arcAt.data.toList.drop 0 = dktX0_arcAt_0 := by decide +kernel
theorem dksX0_arcAt_1 : cX0_arcAt.data.toList.drop 23 = dktX0_arcAt_1 := dk_seg dksX0_arcAt_0 23 rfl rfl
theorem dksX0_arcAt_2 : cX0_arcAt.data.toList.drop 47 = dktX0_arcAt_2 := dk_seg dksX0_arcAt_1 24 rfl rfl
theorem dksX0_arcAt_3 : cX0_arcAt.data.toList.drop 71 = dktX0_arcAt_3 := dk_seg dksX0_arcAt_2 24 rfl rfl
theorem dksX0_arcAt_4 : cX0_arcAt.data.toList.drop 95 = dktX0_arcAt_4 := dk_seg dksX0_arcAt_3 24 rfl rfl
theorem dX0_arcAt_0 : decode cX0_arcAt 0 = .ok (.aload_n 1, 1) := dk_43 (dk_at dksX0_arcAt_0 0 rfl rfl)
theorem dX0_arcAt_1 : decode cX0_arcAt 1 = .ok (.iload_n 2, 1) := dk_28 (dk_at dksX0_arcAt_0 1 rfl rfl)
theorem dX0_arcAt_2 : decode cX0_arcAt 2 = .ok (.baload, 1) := dk_51 (dk_at dksX0_arcAt_0 2 rfl rfl)
theorem dX0_arcAt_3 : decode cX0_arcAt 3 = .ok (.aload_n 1, 1) := dk_43 (dk_at dksX0_arcAt_0 3 rfl rfl)
theorem dX0_arcAt_4 : decode cX0_arcAt 4 = .ok (.iload_n 2, 1) := dk_28 (dk_at dksX0_arcAt_0 4 rfl rfl)
theorem dX0_arcAt_5 : decode cX0_arcAt 5 = .ok (.iconst 1, 1) := dk_4 (dk_at dksX0_arcAt_0 5 rfl rfl)
theorem dX0_arcAt_6 : decode cX0_arcAt 6 = .ok (.iadd, 1) := dk_96 (dk_at dksX0_arcAt_0 6 rfl rfl)
theorem dX0_arcAt_7 : decode cX0_arcAt 7 = .ok (.baload, 1) := dk_51 (dk_at dksX0_arcAt_0 7 rfl rfl)
theorem dX0_arcAt_8 : decode cX0_arcAt 8 = .ok (.invokestatic 320, 3) := dk_184 1 64 (dk_at dksX0_arcAt_0 8 rfl rfl)
theorem dX0_arcAt_11 : decode cX0_arcAt 11 = .ok (.istore_n 3, 1) := dk_62 (dk_at dksX0_arcAt_0 11 rfl rfl)
theorem dX0_arcAt_12 : decode cX0_arcAt 12 = .ok (.aload_n 1, 1) := dk_43 (dk_at dksX0_arcAt_0 12 rfl rfl)
theorem dX0_arcAt_13 : decode cX0_arcAt 13 = .ok (.iload_n 2, 1) := dk_28 (dk_at dksX0_arcAt_0 13 rfl rfl)
theorem dX0_arcAt_14 : decode cX0_arcAt 14 = .ok (.baload, 1) := dk_51 (dk_at dksX0_arcAt_0 14 rfl rfl)
theorem dX0_arcAt_15 : decode cX0_arcAt 15 = .ok (.aload_n 1, 1) := dk_43 (dk_at dksX0_arcAt_0 15 rfl rfl)
theorem dX0_arcAt_16 : decode cX0_arcAt 16 = .ok (.iload_n 2, 1) := dk_28 (dk_at dksX0_arcAt_0 16 rfl rfl)
theorem dX0_arcAt_17 : decode cX0_arcAt 17 = .ok (.iconst 1, 1) := dk_4 (dk_at dksX0_arcAt_0 17 rfl rfl)
theorem dX0_arcAt_18 : decode cX0_arcAt 18 = .ok (.iadd, 1) := dk_96 (dk_at dksX0_arcAt_0 18 rfl rfl)
theorem dX0_arcAt_19 : decode cX0_arcAt 19 = .ok (.baload, 1) := dk_51 (dk_at dksX0_arcAt_0 19 rfl rfl)
theorem dX0_arcAt_20 : decode cX0_arcAt 20 = .ok (.invokestatic 326, 3) := dk_184 1 70 (dk_at dksX0_arcAt_0 20 rfl rfl)
theorem dX0_arcAt_23 : decode cX0_arcAt 23 = .ok (.istore 4, 2) := dk_54 4 (dk_at dksX0_arcAt_1 0 rfl rfl)
theorem dX0_arcAt_25 : decode cX0_arcAt 25 = .ok (.iconst 0, 1) := dk_3 (dk_at dksX0_arcAt_1 2 rfl rfl)
theorem dX0_arcAt_26 : decode cX0_arcAt 26 = .ok (.istore 5, 2) := dk_54 5 (dk_at dksX0_arcAt_1 3 rfl rfl)
theorem dX0_arcAt_28 : decode cX0_arcAt 28 = .ok (.iconst 0, 1) := dk_3 (dk_at dksX0_arcAt_1 5 rfl rfl)
theorem dX0_arcAt_29 : decode cX0_arcAt 29 = .ok (.istore 6, 2) := dk_54 6 (dk_at dksX0_arcAt_1 6 rfl rfl)
theorem dX0_arcAt_31 : decode cX0_arcAt 31 = .ok (.iload 6, 2) := dk_21 6 (dk_at dksX0_arcAt_1 8 rfl rfl)
theorem dX0_arcAt_33 : decode cX0_arcAt 33 = .ok (.iload_n 2, 1) := dk_28 (dk_at dksX0_arcAt_1 10 rfl rfl)
theorem dX0_arcAt_34 : decode cX0_arcAt 34 = .ok (.if_icmp .ge 45, 3) := dk_162 0 45 (dk_at dksX0_arcAt_1 11 rfl rfl)
theorem dX0_arcAt_37 : decode cX0_arcAt 37 = .ok (.iload 5, 2) := dk_21 5 (dk_at dksX0_arcAt_1 14 rfl rfl)
theorem dX0_arcAt_39 : decode cX0_arcAt 39 = .ok (.aload_n 1, 1) := dk_43 (dk_at dksX0_arcAt_1 16 rfl rfl)
theorem dX0_arcAt_40 : decode cX0_arcAt 40 = .ok (.iload 6, 2) := dk_21 6 (dk_at dksX0_arcAt_1 17 rfl rfl)
theorem dX0_arcAt_42 : decode cX0_arcAt 42 = .ok (.baload, 1) := dk_51 (dk_at dksX0_arcAt_1 19 rfl rfl)
theorem dX0_arcAt_43 : decode cX0_arcAt 43 = .ok (.iload_n 3, 1) := dk_29 (dk_at dksX0_arcAt_1 20 rfl rfl)
theorem dX0_arcAt_44 : decode cX0_arcAt 44 = .ok (.if_icmp .le 25, 3) := dk_164 0 25 (dk_at dksX0_arcAt_1 21 rfl rfl)
theorem dX0_arcAt_47 : decode cX0_arcAt 47 = .ok (.aload_n 1, 1) := dk_43 (dk_at dksX0_arcAt_2 0 rfl rfl)
theorem dX0_arcAt_48 : decode cX0_arcAt 48 = .ok (.iload 6, 2) := dk_21 6 (dk_at dksX0_arcAt_2 1 rfl rfl)
theorem dX0_arcAt_50 : decode cX0_arcAt 50 = .ok (.baload, 1) := dk_51 (dk_at dksX0_arcAt_2 3 rfl rfl)
theorem dX0_arcAt_51 : decode cX0_arcAt 51 = .ok (.iload 4, 2) := dk_21 4 (dk_at dksX0_arcAt_2 4 rfl rfl)
theorem dX0_arcAt_53 : decode cX0_arcAt 53 = .ok (.if_icmp .ge 16, 3) := dk_162 0 16 (dk_at dksX0_arcAt_2 6 rfl rfl)
theorem dX0_arcAt_56 : decode cX0_arcAt 56 = .ok (.iconst 1, 1) := dk_4 (dk_at dksX0_arcAt_2 9 rfl rfl)
theorem dX0_arcAt_57 : decode cX0_arcAt 57 = .ok (.aload_n 1, 1) := dk_43 (dk_at dksX0_arcAt_2 10 rfl rfl)
theorem dX0_arcAt_58 : decode cX0_arcAt 58 = .ok (.iload 6, 2) := dk_21 6 (dk_at dksX0_arcAt_2 11 rfl rfl)
theorem dX0_arcAt_60 : decode cX0_arcAt 60 = .ok (.baload, 1) := dk_51 (dk_at dksX0_arcAt_2 13 rfl rfl)
theorem dX0_arcAt_61 : decode cX0_arcAt 61 = .ok (.iload_n 3, 1) := dk_29 (dk_at dksX0_arcAt_2 14 rfl rfl)
theorem dX0_arcAt_62 : decode cX0_arcAt 62 = .ok (.isub, 1) := dk_100 (dk_at dksX0_arcAt_2 15 rfl rfl)
theorem dX0_arcAt_63 : decode cX0_arcAt 63 = .ok (.iconst 1, 1) := dk_4 (dk_at dksX0_arcAt_2 16 rfl rfl)
theorem dX0_arcAt_64 : decode cX0_arcAt 64 = .ok (.isub, 1) := dk_100 (dk_at dksX0_arcAt_2 17 rfl rfl)
theorem dX0_arcAt_65 : decode cX0_arcAt 65 = .ok (.ishl, 1) := dk_120 (dk_at dksX0_arcAt_2 18 rfl rfl)
theorem dX0_arcAt_66 : decode cX0_arcAt 66 = .ok (.goto 4, 3) := dk_167 0 4 (dk_at dksX0_arcAt_2 19 rfl rfl)
theorem dX0_arcAt_69 : decode cX0_arcAt 69 = .ok (.iconst 0, 1) := dk_3 (dk_at dksX0_arcAt_2 22 rfl rfl)
theorem dX0_arcAt_70 : decode cX0_arcAt 70 = .ok (.ior, 1) := dk_128 (dk_at dksX0_arcAt_2 23 rfl rfl)
theorem dX0_arcAt_71 : decode cX0_arcAt 71 = .ok (.istore 5, 2) := dk_54 5 (dk_at dksX0_arcAt_3 0 rfl rfl)
theorem dX0_arcAt_73 : decode cX0_arcAt 73 = .ok (.iinc 6 1, 3) := dk_132 6 1 (dk_at dksX0_arcAt_3 2 rfl rfl)
theorem dX0_arcAt_76 : decode cX0_arcAt 76 = .ok (.goto (-45), 3) := dk_167 255 211 (dk_at dksX0_arcAt_3 5 rfl rfl)
theorem dX0_arcAt_79 : decode cX0_arcAt 79 = .ok (.iload_n 3, 1) := dk_29 (dk_at dksX0_arcAt_3 8 rfl rfl)
theorem dX0_arcAt_80 : decode cX0_arcAt 80 = .ok (.iload 4, 2) := dk_21 4 (dk_at dksX0_arcAt_3 9 rfl rfl)
theorem dX0_arcAt_82 : decode cX0_arcAt 82 = .ok (.aload_n 0, 1) := dk_42 (dk_at dksX0_arcAt_3 11 rfl rfl)
theorem dX0_arcAt_83 : decode cX0_arcAt 83 = .ok (.getfield 34, 3) := dk_180 0 34 (dk_at dksX0_arcAt_3 12 rfl rfl)
theorem dX0_arcAt_86 : decode cX0_arcAt 86 = .ok (.getfield 38, 3) := dk_180 0 38 (dk_at dksX0_arcAt_3 15 rfl rfl)
theorem dX0_arcAt_89 : decode cX0_arcAt 89 = .ok (.invokestatic 48, 3) := dk_184 0 48 (dk_at dksX0_arcAt_3 18 rfl rfl)
theorem dX0_arcAt_92 : decode cX0_arcAt 92 = .ok (.iload 5, 2) := dk_21 5 (dk_at dksX0_arcAt_3 21 rfl rfl)
theorem dX0_arcAt_94 : decode cX0_arcAt 94 = .ok (.iadd, 1) := dk_96 (dk_at dksX0_arcAt_3 23 rfl rfl)
theorem dX0_arcAt_95 : decode cX0_arcAt 95 = .ok (.ireturn, 1) := dk_172 (dk_at dksX0_arcAt_4 0 rfl rfl)
abbrev cX0_arcIs : ByteArray := prog_1_method_54_code
def yX0_arcIs : MethodName := ⟨RX0, "arcIs", "(II)I"⟩
def dkwX0_arcIs_5 : List UInt8 := [180, 0, 44, 27, 50, 182, 1, 108, 172, 2, 172]
abbrev dktX0_arcIs_5 : List UInt8 := dkwX0_arcIs_5 ++ []
def dkwX0_arcIs_4 : List UInt8 := [27, 50, 180, 0, 73, 184, 0, 232, 172, 42, 180, 0, 44, 27, 50, 180, 0, 77, 184, 0, 232, 172, 42, 42]
abbrev dktX0_arcIs_4 : List UInt8 := dkwX0_arcIs_4 ++ dktX0_arcIs_5
def dkwX0_arcIs_3 : List UInt8 := [27, 50, 180, 0, 86, 172, 42, 27, 182, 1, 105, 153, 0, 7, 4, 167, 0, 4, 3, 172, 42, 180, 0, 44]
abbrev dktX0_arcIs_3 : List UInt8 := dkwX0_arcIs_3 ++ dktX0_arcIs_4
def dkwX0_arcIs_2 : List UInt8 := [42, 180, 0, 44, 27, 50, 180, 0, 83, 172, 42, 180, 0, 44, 27, 50, 180, 0, 80, 172, 42, 180, 0, 44]
abbrev dktX0_arcIs_2 : List UInt8 := dkwX0_arcIs_2 ++ dktX0_arcIs_3
def dkwX0_arcIs_1 : List UInt8 := [170, 0, 0, 0, 122, 0, 0, 0, 0, 0, 0, 0, 6, 0, 0, 0, 41, 0, 0, 0, 51, 0, 0, 0, 61, 0, 0, 0, 71, 0, 0, 0, 85, 0, 0, 0, 98, 0, 0, 0, 111]
abbrev dktX0_arcIs_1 : List UInt8 := dkwX0_arcIs_1 ++ dktX0_arcIs_2
def dkwX0_arcIs_0 : List UInt8 := [42, 27, 182, 1, 102, 154, 0, 5, 2, 172, 28]
abbrev dktX0_arcIs_0 : List UInt8 := dkwX0_arcIs_0 ++ dktX0_arcIs_1
theorem dksX0_arcIs_0 : cX0_arcIs.data.toList.drop 0 = dktX0_arcIs_0 := by decide +kernel
theorem dksX0_arcIs_1 : cX0_arcIs.data.toList.drop 11 = dktX0_arcIs_1 := dk_seg dksX0_arcIs_0 11 rfl rfl
theorem dksX0_arcIs_2 : cX0_arcIs.data.toList.drop 52 = dktX0_arcIs_2 := dk_seg dksX0_arcIs_1 41 rfl rfl
theorem dksX0_arcIs_3 : cX0_arcIs.data.toList.drop 76 = dktX0_arcIs_3 := dk_seg dksX0_arcIs_2 24 rfl rfl
theorem dksX0_arcIs_4 : cX0_arcIs.data.toList.drop 100 = dktX0_arcIs_4 := dk_seg dksX0_arcIs_3 24 rfl rfl
theorem dksX0_arcIs_5 : cX0_arcIs.data.toList.drop 124 = dktX0_arcIs_5 := dk_seg dksX0_arcIs_4 24 rfl rfl
theorem dX0_arcIs_0 : decode cX0_arcIs 0 = .ok (.aload_n 0, 1) := dk_42 (dk_at dksX0_arcIs_0 0 rfl rfl)
theorem dX0_arcIs_1 : decode cX0_arcIs 1 = .ok (.iload_n 1, 1) := dk_27 (dk_at dksX0_arcIs_0 1 rfl rfl)
theorem dX0_arcIs_2 : decode cX0_arcIs 2 = .ok (.invokevirtual 358, 3) := dk_182 1 102 (dk_at dksX0_arcIs_0 2 rfl rfl)
theorem dX0_arcIs_5 : decode cX0_arcIs 5 = .ok (.ifCond .ne 5, 3) := dk_154 0 5 (dk_at dksX0_arcIs_0 5 rfl rfl)
theorem dX0_arcIs_8 : decode cX0_arcIs 8 = .ok (.iconst (-1), 1) := dk_2 (dk_at dksX0_arcIs_0 8 rfl rfl)
theorem dX0_arcIs_9 : decode cX0_arcIs 9 = .ok (.ireturn, 1) := dk_172 (dk_at dksX0_arcIs_0 9 rfl rfl)
theorem dX0_arcIs_10 : decode cX0_arcIs 10 = .ok (.iload_n 2, 1) := dk_28 (dk_at dksX0_arcIs_0 10 rfl rfl)
theorem dX0_arcIs_11 : decode cX0_arcIs 11 = .ok (.tableswitch 122 0 6 #[41, 51, 61, 71, 85, 98, 111], 41) := by decide +kernel
theorem dX0_arcIs_52 : decode cX0_arcIs 52 = .ok (.aload_n 0, 1) := dk_42 (dk_at dksX0_arcIs_2 0 rfl rfl)
theorem dX0_arcIs_53 : decode cX0_arcIs 53 = .ok (.getfield 44, 3) := dk_180 0 44 (dk_at dksX0_arcIs_2 1 rfl rfl)
theorem dX0_arcIs_56 : decode cX0_arcIs 56 = .ok (.iload_n 1, 1) := dk_27 (dk_at dksX0_arcIs_2 4 rfl rfl)
theorem dX0_arcIs_57 : decode cX0_arcIs 57 = .ok (.aaload, 1) := dk_50 (dk_at dksX0_arcIs_2 5 rfl rfl)
theorem dX0_arcIs_58 : decode cX0_arcIs 58 = .ok (.getfield 83, 3) := dk_180 0 83 (dk_at dksX0_arcIs_2 6 rfl rfl)
theorem dX0_arcIs_61 : decode cX0_arcIs 61 = .ok (.ireturn, 1) := dk_172 (dk_at dksX0_arcIs_2 9 rfl rfl)
theorem dX0_arcIs_62 : decode cX0_arcIs 62 = .ok (.aload_n 0, 1) := dk_42 (dk_at dksX0_arcIs_2 10 rfl rfl)
theorem dX0_arcIs_63 : decode cX0_arcIs 63 = .ok (.getfield 44, 3) := dk_180 0 44 (dk_at dksX0_arcIs_2 11 rfl rfl)
theorem dX0_arcIs_66 : decode cX0_arcIs 66 = .ok (.iload_n 1, 1) := dk_27 (dk_at dksX0_arcIs_2 14 rfl rfl)
theorem dX0_arcIs_67 : decode cX0_arcIs 67 = .ok (.aaload, 1) := dk_50 (dk_at dksX0_arcIs_2 15 rfl rfl)
theorem dX0_arcIs_68 : decode cX0_arcIs 68 = .ok (.getfield 80, 3) := dk_180 0 80 (dk_at dksX0_arcIs_2 16 rfl rfl)
theorem dX0_arcIs_71 : decode cX0_arcIs 71 = .ok (.ireturn, 1) := dk_172 (dk_at dksX0_arcIs_2 19 rfl rfl)
theorem dX0_arcIs_72 : decode cX0_arcIs 72 = .ok (.aload_n 0, 1) := dk_42 (dk_at dksX0_arcIs_2 20 rfl rfl)
theorem dX0_arcIs_73 : decode cX0_arcIs 73 = .ok (.getfield 44, 3) := dk_180 0 44 (dk_at dksX0_arcIs_2 21 rfl rfl)
theorem dX0_arcIs_76 : decode cX0_arcIs 76 = .ok (.iload_n 1, 1) := dk_27 (dk_at dksX0_arcIs_3 0 rfl rfl)
theorem dX0_arcIs_77 : decode cX0_arcIs 77 = .ok (.aaload, 1) := dk_50 (dk_at dksX0_arcIs_3 1 rfl rfl)
theorem dX0_arcIs_78 : decode cX0_arcIs 78 = .ok (.getfield 86, 3) := dk_180 0 86 (dk_at dksX0_arcIs_3 2 rfl rfl)
theorem dX0_arcIs_81 : decode cX0_arcIs 81 = .ok (.ireturn, 1) := dk_172 (dk_at dksX0_arcIs_3 5 rfl rfl)
theorem dX0_arcIs_82 : decode cX0_arcIs 82 = .ok (.aload_n 0, 1) := dk_42 (dk_at dksX0_arcIs_3 6 rfl rfl)
theorem dX0_arcIs_83 : decode cX0_arcIs 83 = .ok (.iload_n 1, 1) := dk_27 (dk_at dksX0_arcIs_3 7 rfl rfl)
theorem dX0_arcIs_84 : decode cX0_arcIs 84 = .ok (.invokevirtual 361, 3) := dk_182 1 105 (dk_at dksX0_arcIs_3 8 rfl rfl)
theorem dX0_arcIs_87 : decode cX0_arcIs 87 = .ok (.ifCond .eq 7, 3) := dk_153 0 7 (dk_at dksX0_arcIs_3 11 rfl rfl)
theorem dX0_arcIs_90 : decode cX0_arcIs 90 = .ok (.iconst 1, 1) := dk_4 (dk_at dksX0_arcIs_3 14 rfl rfl)
theorem dX0_arcIs_91 : decode cX0_arcIs 91 = .ok (.goto 4, 3) := dk_167 0 4 (dk_at dksX0_arcIs_3 15 rfl rfl)
theorem dX0_arcIs_94 : decode cX0_arcIs 94 = .ok (.iconst 0, 1) := dk_3 (dk_at dksX0_arcIs_3 18 rfl rfl)
theorem dX0_arcIs_95 : decode cX0_arcIs 95 = .ok (.ireturn, 1) := dk_172 (dk_at dksX0_arcIs_3 19 rfl rfl)
theorem dX0_arcIs_96 : decode cX0_arcIs 96 = .ok (.aload_n 0, 1) := dk_42 (dk_at dksX0_arcIs_3 20 rfl rfl)
theorem dX0_arcIs_97 : decode cX0_arcIs 97 = .ok (.getfield 44, 3) := dk_180 0 44 (dk_at dksX0_arcIs_3 21 rfl rfl)
theorem dX0_arcIs_100 : decode cX0_arcIs 100 = .ok (.iload_n 1, 1) := dk_27 (dk_at dksX0_arcIs_4 0 rfl rfl)
theorem dX0_arcIs_101 : decode cX0_arcIs 101 = .ok (.aaload, 1) := dk_50 (dk_at dksX0_arcIs_4 1 rfl rfl)
theorem dX0_arcIs_102 : decode cX0_arcIs 102 = .ok (.getfield 73, 3) := dk_180 0 73 (dk_at dksX0_arcIs_4 2 rfl rfl)
theorem dX0_arcIs_105 : decode cX0_arcIs 105 = .ok (.invokestatic 232, 3) := dk_184 0 232 (dk_at dksX0_arcIs_4 5 rfl rfl)
theorem dX0_arcIs_108 : decode cX0_arcIs 108 = .ok (.ireturn, 1) := dk_172 (dk_at dksX0_arcIs_4 8 rfl rfl)
theorem dX0_arcIs_109 : decode cX0_arcIs 109 = .ok (.aload_n 0, 1) := dk_42 (dk_at dksX0_arcIs_4 9 rfl rfl)
theorem dX0_arcIs_110 : decode cX0_arcIs 110 = .ok (.getfield 44, 3) := dk_180 0 44 (dk_at dksX0_arcIs_4 10 rfl rfl)
theorem dX0_arcIs_113 : decode cX0_arcIs 113 = .ok (.iload_n 1, 1) := dk_27 (dk_at dksX0_arcIs_4 13 rfl rfl)
theorem dX0_arcIs_114 : decode cX0_arcIs 114 = .ok (.aaload, 1) := dk_50 (dk_at dksX0_arcIs_4 14 rfl rfl)
theorem dX0_arcIs_115 : decode cX0_arcIs 115 = .ok (.getfield 77, 3) := dk_180 0 77 (dk_at dksX0_arcIs_4 15 rfl rfl)
theorem dX0_arcIs_118 : decode cX0_arcIs 118 = .ok (.invokestatic 232, 3) := dk_184 0 232 (dk_at dksX0_arcIs_4 18 rfl rfl)
theorem dX0_arcIs_121 : decode cX0_arcIs 121 = .ok (.ireturn, 1) := dk_172 (dk_at dksX0_arcIs_4 21 rfl rfl)
theorem dX0_arcIs_122 : decode cX0_arcIs 122 = .ok (.aload_n 0, 1) := dk_42 (dk_at dksX0_arcIs_4 22 rfl rfl)
theorem dX0_arcIs_123 : decode cX0_arcIs 123 = .ok (.aload_n 0, 1) := dk_42 (dk_at dksX0_arcIs_4 23 rfl rfl)
theorem dX0_arcIs_124 : decode cX0_arcIs 124 = .ok (.getfield 44, 3) := dk_180 0 44 (dk_at dksX0_arcIs_5 0 rfl rfl)
theorem dX0_arcIs_127 : decode cX0_arcIs 127 = .ok (.iload_n 1, 1) := dk_27 (dk_at dksX0_arcIs_5 3 rfl rfl)
theorem dX0_arcIs_128 : decode cX0_arcIs 128 = .ok (.aaload, 1) := dk_50 (dk_at dksX0_arcIs_5 4 rfl rfl)
theorem dX0_arcIs_129 : decode cX0_arcIs 129 = .ok (.invokevirtual 364, 3) := dk_182 1 108 (dk_at dksX0_arcIs_5 5 rfl rfl)
theorem dX0_arcIs_132 : decode cX0_arcIs 132 = .ok (.ireturn, 1) := dk_172 (dk_at dksX0_arcIs_5 8 rfl rfl)
theorem dX0_arcIs_133 : decode cX0_arcIs 133 = .ok (.iconst (-1), 1) := dk_2 (dk_at dksX0_arcIs_5 9 rfl rfl)
theorem dX0_arcIs_134 : decode cX0_arcIs 134 = .ok (.ireturn, 1) := dk_172 (dk_at dksX0_arcIs_5 10 rfl rfl)
abbrev cX0_isArc : ByteArray := prog_1_method_9_code
def yX0_isArc : MethodName := ⟨RX0, "isArc", "(I)Z"⟩
def dkwX0_isArc_0 : List UInt8 := [27, 3, 42, 180, 0, 44, 190, 4, 100, 184, 0, 112, 172]
abbrev dktX0_isArc_0 : List UInt8 := dkwX0_isArc_0 ++ []
theorem dksX0_isArc_0 : cX0_isArc.data.toList.drop 0 = dktX0_isArc_0 := by decide +kernel
theorem dX0_isArc_0 : decode cX0_isArc 0 = .ok (.iload_n 1, 1) := dk_27 (dk_at dksX0_isArc_0 0 rfl rfl)
theorem dX0_isArc_1 : decode cX0_isArc 1 = .ok (.iconst 0, 1) := dk_3 (dk_at dksX0_isArc_0 1 rfl rfl)
theorem dX0_isArc_2 : decode cX0_isArc 2 = .ok (.aload_n 0, 1) := dk_42 (dk_at dksX0_isArc_0 2 rfl rfl)
theorem dX0_isArc_3 : decode cX0_isArc 3 = .ok (.getfield 44, 3) := dk_180 0 44 (dk_at dksX0_isArc_0 3 rfl rfl)
theorem dX0_isArc_6 : decode cX0_isArc 6 = .ok (.arraylength, 1) := dk_190 (dk_at dksX0_isArc_0 6 rfl rfl)
theorem dX0_isArc_7 : decode cX0_isArc 7 = .ok (.iconst 1, 1) := dk_4 (dk_at dksX0_isArc_0 7 rfl rfl)
theorem dX0_isArc_8 : decode cX0_isArc 8 = .ok (.isub, 1) := dk_100 (dk_at dksX0_isArc_0 8 rfl rfl)
theorem dX0_isArc_9 : decode cX0_isArc 9 = .ok (.invokestatic 112, 3) := dk_184 0 112 (dk_at dksX0_isArc_0 9 rfl rfl)
theorem dX0_isArc_12 : decode cX0_isArc 12 = .ok (.ireturn, 1) := dk_172 (dk_at dksX0_isArc_0 12 rfl rfl)
abbrev cX0_isGone : ByteArray := prog_1_method_14_code
def yX0_isGone : MethodName := ⟨RX0, "isGone", "(I)Z"⟩
def dkwX0_isGone_0 : List UInt8 := [42, 180, 0, 34, 180, 0, 229, 27, 125, 10, 127, 9, 148, 158, 0, 7, 4, 167, 0, 4, 3, 172]
abbrev dktX0_isGone_0 : List UInt8 := dkwX0_isGone_0 ++ []
theorem dksX0_isGone_0 : cX0_isGone.data.toList.drop 0 = dktX0_isGone_0 := by decide +kernel
theorem dX0_isGone_0 : decode cX0_isGone 0 = .ok (.aload_n 0, 1) := dk_42 (dk_at dksX0_isGone_0 0 rfl rfl)
theorem dX0_isGone_1 : decode cX0_isGone 1 = .ok (.getfield 34, 3) := dk_180 0 34 (dk_at dksX0_isGone_0 1 rfl rfl)
theorem dX0_isGone_4 : decode cX0_isGone 4 = .ok (.getfield 229, 3) := dk_180 0 229 (dk_at dksX0_isGone_0 4 rfl rfl)
theorem dX0_isGone_7 : decode cX0_isGone 7 = .ok (.iload_n 1, 1) := dk_27 (dk_at dksX0_isGone_0 7 rfl rfl)
theorem dX0_isGone_8 : decode cX0_isGone 8 = .ok (.lushr, 1) := dk_125 (dk_at dksX0_isGone_0 8 rfl rfl)
theorem dX0_isGone_9 : decode cX0_isGone 9 = .ok (.lconst 1, 1) := dk_10 (dk_at dksX0_isGone_0 9 rfl rfl)
theorem dX0_isGone_10 : decode cX0_isGone 10 = .ok (.land, 1) := dk_127 (dk_at dksX0_isGone_0 10 rfl rfl)
theorem dX0_isGone_11 : decode cX0_isGone 11 = .ok (.lconst 0, 1) := dk_9 (dk_at dksX0_isGone_0 11 rfl rfl)
theorem dX0_isGone_12 : decode cX0_isGone 12 = .ok (.lcmp, 1) := dk_148 (dk_at dksX0_isGone_0 12 rfl rfl)
theorem dX0_isGone_13 : decode cX0_isGone 13 = .ok (.ifCond .le 7, 3) := dk_158 0 7 (dk_at dksX0_isGone_0 13 rfl rfl)
theorem dX0_isGone_16 : decode cX0_isGone 16 = .ok (.iconst 1, 1) := dk_4 (dk_at dksX0_isGone_0 16 rfl rfl)
theorem dX0_isGone_17 : decode cX0_isGone 17 = .ok (.goto 4, 3) := dk_167 0 4 (dk_at dksX0_isGone_0 17 rfl rfl)
theorem dX0_isGone_20 : decode cX0_isGone 20 = .ok (.iconst 0, 1) := dk_3 (dk_at dksX0_isGone_0 20 rfl rfl)
theorem dX0_isGone_21 : decode cX0_isGone 21 = .ok (.ireturn, 1) := dk_172 (dk_at dksX0_isGone_0 21 rfl rfl)
abbrev cX0_toldStem : ByteArray := prog_1_method_52_code
def yX0_toldStem : MethodName := ⟨RX0, "toldStem", "(LCoarserOrders$Arc;)I"⟩
def dkwX0_toldStem_0 : List UInt8 := [42, 43, 42, 180, 0, 137, 182, 1, 98, 42, 42, 180, 0, 137, 182, 1, 40, 172]
abbrev dktX0_toldStem_0 : List UInt8 := dkwX0_toldStem_0 ++ []
theorem dksX0_toldStem_0 : cX0_toldStem.data.toList.drop 0 = dktX0_toldStem_0 := by decide +kernel
theorem dX0_toldStem_0 : decode cX0_toldStem 0 = .ok (.aload_n 0, 1) := dk_42 (dk_at dksX0_toldStem_0 0 rfl rfl)
theorem dX0_toldStem_1 : decode cX0_toldStem 1 = .ok (.aload_n 1, 1) := dk_43 (dk_at dksX0_toldStem_0 1 rfl rfl)
theorem dX0_toldStem_2 : decode cX0_toldStem 2 = .ok (.aload_n 0, 1) := dk_42 (dk_at dksX0_toldStem_0 2 rfl rfl)
theorem dX0_toldStem_3 : decode cX0_toldStem 3 = .ok (.getfield 137, 3) := dk_180 0 137 (dk_at dksX0_toldStem_0 3 rfl rfl)
theorem dX0_toldStem_6 : decode cX0_toldStem 6 = .ok (.invokevirtual 354, 3) := dk_182 1 98 (dk_at dksX0_toldStem_0 6 rfl rfl)
theorem dX0_toldStem_9 : decode cX0_toldStem 9 = .ok (.aload_n 0, 1) := dk_42 (dk_at dksX0_toldStem_0 9 rfl rfl)
theorem dX0_toldStem_10 : decode cX0_toldStem 10 = .ok (.aload_n 0, 1) := dk_42 (dk_at dksX0_toldStem_0 10 rfl rfl)
theorem dX0_toldStem_11 : decode cX0_toldStem 11 = .ok (.getfield 137, 3) := dk_180 0 137 (dk_at dksX0_toldStem_0 11 rfl rfl)
theorem dX0_toldStem_14 : decode cX0_toldStem 14 = .ok (.invokevirtual 296, 3) := dk_182 1 40 (dk_at dksX0_toldStem_0 14 rfl rfl)
theorem dX0_toldStem_17 : decode cX0_toldStem 17 = .ok (.ireturn, 1) := dk_172 (dk_at dksX0_toldStem_0 17 rfl rfl)
abbrev cX0_stemOf : ByteArray := prog_1_method_51_code
def yX0_stemOf : MethodName := ⟨RX0, "stemOf", "(LCoarserOrders$Arc;[B)V"⟩
def dkwX0_stemOf_5 : List UInt8 := [132, 4, 1, 167, 255, 223, 177]
abbrev dktX0_stemOf_5 : List UInt8 := dkwX0_stemOf_5 ++ []
def dkwX0_stemOf_4 : List UInt8 := [162, 0, 30, 43, 21, 4, 182, 1, 94, 153, 0, 6, 167, 0, 12, 44, 29, 21, 4, 145, 84, 132, 3, 1]
abbrev dktX0_stemOf_4 : List UInt8 := dkwX0_stemOf_4 ++ dktX0_stemOf_5
def dkwX0_stemOf_3 : List UInt8 := [180, 0, 83, 145, 84, 132, 3, 2, 43, 180, 0, 83, 4, 96, 54, 4, 21, 4, 43, 180, 0, 80]
abbrev dktX0_stemOf_3 : List UInt8 := dkwX0_stemOf_3 ++ dktX0_stemOf_4
def dkwX0_stemOf_2 : List UInt8 := [132, 3, 1, 132, 4, 1, 167, 255, 223, 44, 29, 43, 180, 0, 80, 145, 84, 44, 29, 4, 96, 43]
abbrev dktX0_stemOf_2 : List UInt8 := dkwX0_stemOf_2 ++ dktX0_stemOf_3
def dkwX0_stemOf_1 : List UInt8 := [180, 0, 80, 162, 0, 30, 43, 21, 4, 182, 1, 94, 154, 0, 6, 167, 0, 12, 44, 29, 21, 4, 145, 84]
abbrev dktX0_stemOf_1 : List UInt8 := dkwX0_stemOf_1 ++ dktX0_stemOf_2
def dkwX0_stemOf_0 : List UInt8 := [42, 44, 182, 1, 90, 43, 180, 0, 83, 4, 100, 62, 43, 180, 0, 83, 4, 96, 54, 4, 21, 4, 43]
abbrev dktX0_stemOf_0 : List UInt8 := dkwX0_stemOf_0 ++ dktX0_stemOf_1
theorem dksX0_stemOf_0 : cX0_stemOf.data.toList.drop 0 = dktX0_stemOf_0 := by decide +kernel
theorem dksX0_stemOf_1 : cX0_stemOf.data.toList.drop 23 = dktX0_stemOf_1 := dk_seg dksX0_stemOf_0 23 rfl rfl
theorem dksX0_stemOf_2 : cX0_stemOf.data.toList.drop 47 = dktX0_stemOf_2 := dk_seg dksX0_stemOf_1 24 rfl rfl
theorem dksX0_stemOf_3 : cX0_stemOf.data.toList.drop 69 = dktX0_stemOf_3 := dk_seg dksX0_stemOf_2 22 rfl rfl
theorem dksX0_stemOf_4 : cX0_stemOf.data.toList.drop 91 = dktX0_stemOf_4 := dk_seg dksX0_stemOf_3 22 rfl rfl
theorem dksX0_stemOf_5 : cX0_stemOf.data.toList.drop 115 = dktX0_stemOf_5 := dk_seg dksX0_stemOf_4 24 rfl rfl
theorem dX0_stemOf_0 : decode cX0_stemOf 0 = .ok (.aload_n 0, 1) := dk_42 (dk_at dksX0_stemOf_0 0 rfl rfl)
theorem dX0_stemOf_1 : decode cX0_stemOf 1 = .ok (.aload_n 2, 1) := dk_44 (dk_at dksX0_stemOf_0 1 rfl rfl)
theorem dX0_stemOf_2 : decode cX0_stemOf 2 = .ok (.invokevirtual 346, 3) := dk_182 1 90 (dk_at dksX0_stemOf_0 2 rfl rfl)
theorem dX0_stemOf_5 : decode cX0_stemOf 5 = .ok (.aload_n 1, 1) := dk_43 (dk_at dksX0_stemOf_0 5 rfl rfl)
theorem dX0_stemOf_6 : decode cX0_stemOf 6 = .ok (.getfield 83, 3) := dk_180 0 83 (dk_at dksX0_stemOf_0 6 rfl rfl)
theorem dX0_stemOf_9 : decode cX0_stemOf 9 = .ok (.iconst 1, 1) := dk_4 (dk_at dksX0_stemOf_0 9 rfl rfl)
theorem dX0_stemOf_10 : decode cX0_stemOf 10 = .ok (.isub, 1) := dk_100 (dk_at dksX0_stemOf_0 10 rfl rfl)
theorem dX0_stemOf_11 : decode cX0_stemOf 11 = .ok (.istore_n 3, 1) := dk_62 (dk_at dksX0_stemOf_0 11 rfl rfl)
theorem dX0_stemOf_12 : decode cX0_stemOf 12 = .ok (.aload_n 1, 1) := dk_43 (dk_at dksX0_stemOf_0 12 rfl rfl)
theorem dX0_stemOf_13 : decode cX0_stemOf 13 = .ok (.getfield 83, 3) := dk_180 0 83 (dk_at dksX0_stemOf_0 13 rfl rfl)
theorem dX0_stemOf_16 : decode cX0_stemOf 16 = .ok (.iconst 1, 1) := dk_4 (dk_at dksX0_stemOf_0 16 rfl rfl)
theorem dX0_stemOf_17 : decode cX0_stemOf 17 = .ok (.iadd, 1) := dk_96 (dk_at dksX0_stemOf_0 17 rfl rfl)
theorem dX0_stemOf_18 : decode cX0_stemOf 18 = .ok (.istore 4, 2) := dk_54 4 (dk_at dksX0_stemOf_0 18 rfl rfl)
theorem dX0_stemOf_20 : decode cX0_stemOf 20 = .ok (.iload 4, 2) := dk_21 4 (dk_at dksX0_stemOf_0 20 rfl rfl)
theorem dX0_stemOf_22 : decode cX0_stemOf 22 = .ok (.aload_n 1, 1) := dk_43 (dk_at dksX0_stemOf_0 22 rfl rfl)
theorem dX0_stemOf_23 : decode cX0_stemOf 23 = .ok (.getfield 80, 3) := dk_180 0 80 (dk_at dksX0_stemOf_1 0 rfl rfl)
theorem dX0_stemOf_26 : decode cX0_stemOf 26 = .ok (.if_icmp .ge 30, 3) := dk_162 0 30 (dk_at dksX0_stemOf_1 3 rfl rfl)
theorem dX0_stemOf_29 : decode cX0_stemOf 29 = .ok (.aload_n 1, 1) := dk_43 (dk_at dksX0_stemOf_1 6 rfl rfl)
theorem dX0_stemOf_30 : decode cX0_stemOf 30 = .ok (.iload 4, 2) := dk_21 4 (dk_at dksX0_stemOf_1 7 rfl rfl)
theorem dX0_stemOf_32 : decode cX0_stemOf 32 = .ok (.invokevirtual 350, 3) := dk_182 1 94 (dk_at dksX0_stemOf_1 9 rfl rfl)
theorem dX0_stemOf_35 : decode cX0_stemOf 35 = .ok (.ifCond .ne 6, 3) := dk_154 0 6 (dk_at dksX0_stemOf_1 12 rfl rfl)
theorem dX0_stemOf_38 : decode cX0_stemOf 38 = .ok (.goto 12, 3) := dk_167 0 12 (dk_at dksX0_stemOf_1 15 rfl rfl)
theorem dX0_stemOf_41 : decode cX0_stemOf 41 = .ok (.aload_n 2, 1) := dk_44 (dk_at dksX0_stemOf_1 18 rfl rfl)
theorem dX0_stemOf_42 : decode cX0_stemOf 42 = .ok (.iload_n 3, 1) := dk_29 (dk_at dksX0_stemOf_1 19 rfl rfl)
theorem dX0_stemOf_43 : decode cX0_stemOf 43 = .ok (.iload 4, 2) := dk_21 4 (dk_at dksX0_stemOf_1 20 rfl rfl)
theorem dX0_stemOf_45 : decode cX0_stemOf 45 = .ok (.i2b, 1) := dk_145 (dk_at dksX0_stemOf_1 22 rfl rfl)
theorem dX0_stemOf_46 : decode cX0_stemOf 46 = .ok (.bastore, 1) := dk_84 (dk_at dksX0_stemOf_1 23 rfl rfl)
theorem dX0_stemOf_47 : decode cX0_stemOf 47 = .ok (.iinc 3 1, 3) := dk_132 3 1 (dk_at dksX0_stemOf_2 0 rfl rfl)
theorem dX0_stemOf_50 : decode cX0_stemOf 50 = .ok (.iinc 4 1, 3) := dk_132 4 1 (dk_at dksX0_stemOf_2 3 rfl rfl)
theorem dX0_stemOf_53 : decode cX0_stemOf 53 = .ok (.goto (-33), 3) := dk_167 255 223 (dk_at dksX0_stemOf_2 6 rfl rfl)
theorem dX0_stemOf_56 : decode cX0_stemOf 56 = .ok (.aload_n 2, 1) := dk_44 (dk_at dksX0_stemOf_2 9 rfl rfl)
theorem dX0_stemOf_57 : decode cX0_stemOf 57 = .ok (.iload_n 3, 1) := dk_29 (dk_at dksX0_stemOf_2 10 rfl rfl)
theorem dX0_stemOf_58 : decode cX0_stemOf 58 = .ok (.aload_n 1, 1) := dk_43 (dk_at dksX0_stemOf_2 11 rfl rfl)
theorem dX0_stemOf_59 : decode cX0_stemOf 59 = .ok (.getfield 80, 3) := dk_180 0 80 (dk_at dksX0_stemOf_2 12 rfl rfl)
theorem dX0_stemOf_62 : decode cX0_stemOf 62 = .ok (.i2b, 1) := dk_145 (dk_at dksX0_stemOf_2 15 rfl rfl)
theorem dX0_stemOf_63 : decode cX0_stemOf 63 = .ok (.bastore, 1) := dk_84 (dk_at dksX0_stemOf_2 16 rfl rfl)
theorem dX0_stemOf_64 : decode cX0_stemOf 64 = .ok (.aload_n 2, 1) := dk_44 (dk_at dksX0_stemOf_2 17 rfl rfl)
theorem dX0_stemOf_65 : decode cX0_stemOf 65 = .ok (.iload_n 3, 1) := dk_29 (dk_at dksX0_stemOf_2 18 rfl rfl)
theorem dX0_stemOf_66 : decode cX0_stemOf 66 = .ok (.iconst 1, 1) := dk_4 (dk_at dksX0_stemOf_2 19 rfl rfl)
theorem dX0_stemOf_67 : decode cX0_stemOf 67 = .ok (.iadd, 1) := dk_96 (dk_at dksX0_stemOf_2 20 rfl rfl)
theorem dX0_stemOf_68 : decode cX0_stemOf 68 = .ok (.aload_n 1, 1) := dk_43 (dk_at dksX0_stemOf_2 21 rfl rfl)
theorem dX0_stemOf_69 : decode cX0_stemOf 69 = .ok (.getfield 83, 3) := dk_180 0 83 (dk_at dksX0_stemOf_3 0 rfl rfl)
theorem dX0_stemOf_72 : decode cX0_stemOf 72 = .ok (.i2b, 1) := dk_145 (dk_at dksX0_stemOf_3 3 rfl rfl)
theorem dX0_stemOf_73 : decode cX0_stemOf 73 = .ok (.bastore, 1) := dk_84 (dk_at dksX0_stemOf_3 4 rfl rfl)
theorem dX0_stemOf_74 : decode cX0_stemOf 74 = .ok (.iinc 3 2, 3) := dk_132 3 2 (dk_at dksX0_stemOf_3 5 rfl rfl)
theorem dX0_stemOf_77 : decode cX0_stemOf 77 = .ok (.aload_n 1, 1) := dk_43 (dk_at dksX0_stemOf_3 8 rfl rfl)
theorem dX0_stemOf_78 : decode cX0_stemOf 78 = .ok (.getfield 83, 3) := dk_180 0 83 (dk_at dksX0_stemOf_3 9 rfl rfl)
theorem dX0_stemOf_81 : decode cX0_stemOf 81 = .ok (.iconst 1, 1) := dk_4 (dk_at dksX0_stemOf_3 12 rfl rfl)
theorem dX0_stemOf_82 : decode cX0_stemOf 82 = .ok (.iadd, 1) := dk_96 (dk_at dksX0_stemOf_3 13 rfl rfl)
theorem dX0_stemOf_83 : decode cX0_stemOf 83 = .ok (.istore 4, 2) := dk_54 4 (dk_at dksX0_stemOf_3 14 rfl rfl)
theorem dX0_stemOf_85 : decode cX0_stemOf 85 = .ok (.iload 4, 2) := dk_21 4 (dk_at dksX0_stemOf_3 16 rfl rfl)
theorem dX0_stemOf_87 : decode cX0_stemOf 87 = .ok (.aload_n 1, 1) := dk_43 (dk_at dksX0_stemOf_3 18 rfl rfl)
theorem dX0_stemOf_88 : decode cX0_stemOf 88 = .ok (.getfield 80, 3) := dk_180 0 80 (dk_at dksX0_stemOf_3 19 rfl rfl)
theorem dX0_stemOf_91 : decode cX0_stemOf 91 = .ok (.if_icmp .ge 30, 3) := dk_162 0 30 (dk_at dksX0_stemOf_4 0 rfl rfl)
theorem dX0_stemOf_94 : decode cX0_stemOf 94 = .ok (.aload_n 1, 1) := dk_43 (dk_at dksX0_stemOf_4 3 rfl rfl)
theorem dX0_stemOf_95 : decode cX0_stemOf 95 = .ok (.iload 4, 2) := dk_21 4 (dk_at dksX0_stemOf_4 4 rfl rfl)
theorem dX0_stemOf_97 : decode cX0_stemOf 97 = .ok (.invokevirtual 350, 3) := dk_182 1 94 (dk_at dksX0_stemOf_4 6 rfl rfl)
theorem dX0_stemOf_100 : decode cX0_stemOf 100 = .ok (.ifCond .eq 6, 3) := dk_153 0 6 (dk_at dksX0_stemOf_4 9 rfl rfl)
theorem dX0_stemOf_103 : decode cX0_stemOf 103 = .ok (.goto 12, 3) := dk_167 0 12 (dk_at dksX0_stemOf_4 12 rfl rfl)
theorem dX0_stemOf_106 : decode cX0_stemOf 106 = .ok (.aload_n 2, 1) := dk_44 (dk_at dksX0_stemOf_4 15 rfl rfl)
theorem dX0_stemOf_107 : decode cX0_stemOf 107 = .ok (.iload_n 3, 1) := dk_29 (dk_at dksX0_stemOf_4 16 rfl rfl)
theorem dX0_stemOf_108 : decode cX0_stemOf 108 = .ok (.iload 4, 2) := dk_21 4 (dk_at dksX0_stemOf_4 17 rfl rfl)
theorem dX0_stemOf_110 : decode cX0_stemOf 110 = .ok (.i2b, 1) := dk_145 (dk_at dksX0_stemOf_4 19 rfl rfl)
theorem dX0_stemOf_111 : decode cX0_stemOf 111 = .ok (.bastore, 1) := dk_84 (dk_at dksX0_stemOf_4 20 rfl rfl)
theorem dX0_stemOf_112 : decode cX0_stemOf 112 = .ok (.iinc 3 1, 3) := dk_132 3 1 (dk_at dksX0_stemOf_4 21 rfl rfl)
theorem dX0_stemOf_115 : decode cX0_stemOf 115 = .ok (.iinc 4 1, 3) := dk_132 4 1 (dk_at dksX0_stemOf_5 0 rfl rfl)
theorem dX0_stemOf_118 : decode cX0_stemOf 118 = .ok (.goto (-33), 3) := dk_167 255 223 (dk_at dksX0_stemOf_5 3 rfl rfl)
theorem dX0_stemOf_121 : decode cX0_stemOf 121 = .ok (.return_, 1) := dk_177 (dk_at dksX0_stemOf_5 6 rfl rfl)
abbrev cX0_first : ByteArray := prog_1_method_19_code
def yX0_first : MethodName := ⟨RX0, "first", "([B)V"⟩
def dkwX0_first_1 : List UInt8 := [167, 255, 235, 177]
abbrev dktX0_first_1 : List UInt8 := dkwX0_first_1 ++ []
def dkwX0_first_0 : List UInt8 := [3, 61, 28, 42, 180, 0, 34, 180, 0, 38, 162, 0, 16, 43, 28, 28, 4, 96, 145, 84, 132, 2, 1]
abbrev dktX0_first_0 : List UInt8 := dkwX0_first_0 ++ dktX0_first_1
theorem dksX0_first_0 : cX0_first.data.toList.drop 0 = dktX0_first_0 := by decide +kernel
theorem dksX0_first_1 : cX0_first.data.toList.drop 23 = dktX0_first_1 := dk_seg dksX0_first_0 23 rfl rfl
theorem dX0_first_0 : decode cX0_first 0 = .ok (.iconst 0, 1) := dk_3 (dk_at dksX0_first_0 0 rfl rfl)
theorem dX0_first_1 : decode cX0_first 1 = .ok (.istore_n 2, 1) := dk_61 (dk_at dksX0_first_0 1 rfl rfl)
theorem dX0_first_2 : decode cX0_first 2 = .ok (.iload_n 2, 1) := dk_28 (dk_at dksX0_first_0 2 rfl rfl)
theorem dX0_first_3 : decode cX0_first 3 = .ok (.aload_n 0, 1) := dk_42 (dk_at dksX0_first_0 3 rfl rfl)
theorem dX0_first_4 : decode cX0_first 4 = .ok (.getfield 34, 3) := dk_180 0 34 (dk_at dksX0_first_0 4 rfl rfl)
theorem dX0_first_7 : decode cX0_first 7 = .ok (.getfield 38, 3) := dk_180 0 38 (dk_at dksX0_first_0 7 rfl rfl)
theorem dX0_first_10 : decode cX0_first 10 = .ok (.if_icmp .ge 16, 3) := dk_162 0 16 (dk_at dksX0_first_0 10 rfl rfl)
theorem dX0_first_13 : decode cX0_first 13 = .ok (.aload_n 1, 1) := dk_43 (dk_at dksX0_first_0 13 rfl rfl)
theorem dX0_first_14 : decode cX0_first 14 = .ok (.iload_n 2, 1) := dk_28 (dk_at dksX0_first_0 14 rfl rfl)
theorem dX0_first_15 : decode cX0_first 15 = .ok (.iload_n 2, 1) := dk_28 (dk_at dksX0_first_0 15 rfl rfl)
theorem dX0_first_16 : decode cX0_first 16 = .ok (.iconst 1, 1) := dk_4 (dk_at dksX0_first_0 16 rfl rfl)
theorem dX0_first_17 : decode cX0_first 17 = .ok (.iadd, 1) := dk_96 (dk_at dksX0_first_0 17 rfl rfl)
theorem dX0_first_18 : decode cX0_first 18 = .ok (.i2b, 1) := dk_145 (dk_at dksX0_first_0 18 rfl rfl)
theorem dX0_first_19 : decode cX0_first 19 = .ok (.bastore, 1) := dk_84 (dk_at dksX0_first_0 19 rfl rfl)
theorem dX0_first_20 : decode cX0_first 20 = .ok (.iinc 2 1, 3) := dk_132 2 1 (dk_at dksX0_first_0 20 rfl rfl)
theorem dX0_first_23 : decode cX0_first 23 = .ok (.goto (-21), 3) := dk_167 255 235 (dk_at dksX0_first_1 0 rfl rfl)
theorem dX0_first_26 : decode cX0_first 26 = .ok (.return_, 1) := dk_177 (dk_at dksX0_first_1 3 rfl rfl)
abbrev cX0_forces : ByteArray := prog_1_method_55_code
def yX0_forces : MethodName := ⟨RX0, "forces", "(II)I"⟩
def dkwX0_forces_1 : List UInt8 := [180, 0, 73, 28, 125, 10, 127, 136, 172]
abbrev dktX0_forces_1 : List UInt8 := dkwX0_forces_1 ++ []
def dkwX0_forces_0 : List UInt8 := [42, 27, 182, 1, 102, 153, 0, 11, 42, 28, 182, 1, 102, 154, 0, 5, 2, 172, 42, 180, 0, 44, 27, 50]
abbrev dktX0_forces_0 : List UInt8 := dkwX0_forces_0 ++ dktX0_forces_1
theorem dksX0_forces_0 : cX0_forces.data.toList.drop 0 = dktX0_forces_0 := by decide +kernel
theorem dksX0_forces_1 : cX0_forces.data.toList.drop 24 = dktX0_forces_1 := dk_seg dksX0_forces_0 24 rfl rfl
theorem dX0_forces_0 : decode cX0_forces 0 = .ok (.aload_n 0, 1) := dk_42 (dk_at dksX0_forces_0 0 rfl rfl)
theorem dX0_forces_1 : decode cX0_forces 1 = .ok (.iload_n 1, 1) := dk_27 (dk_at dksX0_forces_0 1 rfl rfl)
theorem dX0_forces_2 : decode cX0_forces 2 = .ok (.invokevirtual 358, 3) := dk_182 1 102 (dk_at dksX0_forces_0 2 rfl rfl)
theorem dX0_forces_5 : decode cX0_forces 5 = .ok (.ifCond .eq 11, 3) := dk_153 0 11 (dk_at dksX0_forces_0 5 rfl rfl)
theorem dX0_forces_8 : decode cX0_forces 8 = .ok (.aload_n 0, 1) := dk_42 (dk_at dksX0_forces_0 8 rfl rfl)
theorem dX0_forces_9 : decode cX0_forces 9 = .ok (.iload_n 2, 1) := dk_28 (dk_at dksX0_forces_0 9 rfl rfl)
theorem dX0_forces_10 : decode cX0_forces 10 = .ok (.invokevirtual 358, 3) := dk_182 1 102 (dk_at dksX0_forces_0 10 rfl rfl)
theorem dX0_forces_13 : decode cX0_forces 13 = .ok (.ifCond .ne 5, 3) := dk_154 0 5 (dk_at dksX0_forces_0 13 rfl rfl)
theorem dX0_forces_16 : decode cX0_forces 16 = .ok (.iconst (-1), 1) := dk_2 (dk_at dksX0_forces_0 16 rfl rfl)
theorem dX0_forces_17 : decode cX0_forces 17 = .ok (.ireturn, 1) := dk_172 (dk_at dksX0_forces_0 17 rfl rfl)
theorem dX0_forces_18 : decode cX0_forces 18 = .ok (.aload_n 0, 1) := dk_42 (dk_at dksX0_forces_0 18 rfl rfl)
theorem dX0_forces_19 : decode cX0_forces 19 = .ok (.getfield 44, 3) := dk_180 0 44 (dk_at dksX0_forces_0 19 rfl rfl)
theorem dX0_forces_22 : decode cX0_forces 22 = .ok (.iload_n 1, 1) := dk_27 (dk_at dksX0_forces_0 22 rfl rfl)
theorem dX0_forces_23 : decode cX0_forces 23 = .ok (.aaload, 1) := dk_50 (dk_at dksX0_forces_0 23 rfl rfl)
theorem dX0_forces_24 : decode cX0_forces 24 = .ok (.getfield 73, 3) := dk_180 0 73 (dk_at dksX0_forces_1 0 rfl rfl)
theorem dX0_forces_27 : decode cX0_forces 27 = .ok (.iload_n 2, 1) := dk_28 (dk_at dksX0_forces_1 3 rfl rfl)
theorem dX0_forces_28 : decode cX0_forces 28 = .ok (.lushr, 1) := dk_125 (dk_at dksX0_forces_1 4 rfl rfl)
theorem dX0_forces_29 : decode cX0_forces 29 = .ok (.lconst 1, 1) := dk_10 (dk_at dksX0_forces_1 5 rfl rfl)
theorem dX0_forces_30 : decode cX0_forces 30 = .ok (.land, 1) := dk_127 (dk_at dksX0_forces_1 6 rfl rfl)
theorem dX0_forces_31 : decode cX0_forces 31 = .ok (.l2i, 1) := dk_136 (dk_at dksX0_forces_1 7 rfl rfl)
theorem dX0_forces_32 : decode cX0_forces 32 = .ok (.ireturn, 1) := dk_172 (dk_at dksX0_forces_1 8 rfl rfl)
abbrev cX0_diagram : ByteArray := prog_1_method_56_code
def yX0_diagram : MethodName := ⟨RX0, "diagram", "(I)J"⟩
def dkwX0_diagram_1 : List UInt8 := [20, 1, 26, 173]
abbrev dktX0_diagram_1 : List UInt8 := dkwX0_diagram_1 ++ []
def dkwX0_diagram_0 : List UInt8 := [42, 27, 42, 180, 0, 137, 182, 0, 236, 153, 0, 14, 42, 42, 180, 0, 137, 182, 1, 112, 167, 0, 6]
abbrev dktX0_diagram_0 : List UInt8 := dkwX0_diagram_0 ++ dktX0_diagram_1
theorem dksX0_diagram_0 : cX0_diagram.data.toList.drop 0 = dktX0_diagram_0 := by decide +kernel
theorem dksX0_diagram_1 : cX0_diagram.data.toList.drop 23 = dktX0_diagram_1 := dk_seg dksX0_diagram_0 23 rfl rfl
theorem dX0_diagram_0 : decode cX0_diagram 0 = .ok (.aload_n 0, 1) := dk_42 (dk_at dksX0_diagram_0 0 rfl rfl)
theorem dX0_diagram_1 : decode cX0_diagram 1 = .ok (.iload_n 1, 1) := dk_27 (dk_at dksX0_diagram_0 1 rfl rfl)
theorem dX0_diagram_2 : decode cX0_diagram 2 = .ok (.aload_n 0, 1) := dk_42 (dk_at dksX0_diagram_0 2 rfl rfl)
theorem dX0_diagram_3 : decode cX0_diagram 3 = .ok (.getfield 137, 3) := dk_180 0 137 (dk_at dksX0_diagram_0 3 rfl rfl)
theorem dX0_diagram_6 : decode cX0_diagram 6 = .ok (.invokevirtual 236, 3) := dk_182 0 236 (dk_at dksX0_diagram_0 6 rfl rfl)
theorem dX0_diagram_9 : decode cX0_diagram 9 = .ok (.ifCond .eq 14, 3) := dk_153 0 14 (dk_at dksX0_diagram_0 9 rfl rfl)
theorem dX0_diagram_12 : decode cX0_diagram 12 = .ok (.aload_n 0, 1) := dk_42 (dk_at dksX0_diagram_0 12 rfl rfl)
theorem dX0_diagram_13 : decode cX0_diagram 13 = .ok (.aload_n 0, 1) := dk_42 (dk_at dksX0_diagram_0 13 rfl rfl)
theorem dX0_diagram_14 : decode cX0_diagram 14 = .ok (.getfield 137, 3) := dk_180 0 137 (dk_at dksX0_diagram_0 14 rfl rfl)
theorem dX0_diagram_17 : decode cX0_diagram 17 = .ok (.invokevirtual 368, 3) := dk_182 1 112 (dk_at dksX0_diagram_0 17 rfl rfl)
theorem dX0_diagram_20 : decode cX0_diagram 20 = .ok (.goto 6, 3) := dk_167 0 6 (dk_at dksX0_diagram_0 20 rfl rfl)
theorem dX0_diagram_23 : decode cX0_diagram 23 = .ok (.ldc2_w 282, 3) := dk_20 1 26 (dk_at dksX0_diagram_1 0 rfl rfl)
theorem dX0_diagram_26 : decode cX0_diagram 26 = .ok (.lreturn, 1) := dk_173 (dk_at dksX0_diagram_1 3 rfl rfl)
abbrev cX0_diagramOf : ByteArray := prog_1_method_50_code
def yX0_diagramOf : MethodName := ⟨RX0, "diagramOf", "([B)J"⟩
def dkwX0_diagramOf_2 : List UInt8 := [167, 255, 214, 32, 173]
abbrev dktX0_diagramOf_2 : List UInt8 := dkwX0_diagramOf_2 ++ []
def dkwX0_diagramOf_1 : List UInt8 := [184, 0, 250, 153, 0, 15, 10, 42, 43, 21, 4, 182, 1, 87, 121, 167, 0, 4, 9, 129, 65, 132, 4, 1]
abbrev dktX0_diagramOf_1 : List UInt8 := dkwX0_diagramOf_1 ++ dktX0_diagramOf_2
def dkwX0_diagramOf_0 : List UInt8 := [9, 65, 3, 54, 4, 21, 4, 4, 96, 42, 180, 0, 34, 180, 0, 38, 162, 0, 34, 32, 43, 21, 4]
abbrev dktX0_diagramOf_0 : List UInt8 := dkwX0_diagramOf_0 ++ dktX0_diagramOf_1
theorem dksX0_diagramOf_0 : cX0_diagramOf.data.toList.drop 0 = dktX0_diagramOf_0 := by decide +kernel
theorem dksX0_diagramOf_1 : cX0_diagramOf.data.toList.drop 23 = dktX0_diagramOf_1 := dk_seg dksX0_diagramOf_0 23 rfl rfl
theorem dksX0_diagramOf_2 : cX0_diagramOf.data.toList.drop 47 = dktX0_diagramOf_2 := dk_seg dksX0_diagramOf_1 24 rfl rfl
theorem dX0_diagramOf_0 : decode cX0_diagramOf 0 = .ok (.lconst 0, 1) := dk_9 (dk_at dksX0_diagramOf_0 0 rfl rfl)
theorem dX0_diagramOf_1 : decode cX0_diagramOf 1 = .ok (.lstore_n 2, 1) := dk_65 (dk_at dksX0_diagramOf_0 1 rfl rfl)
theorem dX0_diagramOf_2 : decode cX0_diagramOf 2 = .ok (.iconst 0, 1) := dk_3 (dk_at dksX0_diagramOf_0 2 rfl rfl)
theorem dX0_diagramOf_3 : decode cX0_diagramOf 3 = .ok (.istore 4, 2) := dk_54 4 (dk_at dksX0_diagramOf_0 3 rfl rfl)
theorem dX0_diagramOf_5 : decode cX0_diagramOf 5 = .ok (.iload 4, 2) := dk_21 4 (dk_at dksX0_diagramOf_0 5 rfl rfl)
theorem dX0_diagramOf_7 : decode cX0_diagramOf 7 = .ok (.iconst 1, 1) := dk_4 (dk_at dksX0_diagramOf_0 7 rfl rfl)
theorem dX0_diagramOf_8 : decode cX0_diagramOf 8 = .ok (.iadd, 1) := dk_96 (dk_at dksX0_diagramOf_0 8 rfl rfl)
theorem dX0_diagramOf_9 : decode cX0_diagramOf 9 = .ok (.aload_n 0, 1) := dk_42 (dk_at dksX0_diagramOf_0 9 rfl rfl)
theorem dX0_diagramOf_10 : decode cX0_diagramOf 10 = .ok (.getfield 34, 3) := dk_180 0 34 (dk_at dksX0_diagramOf_0 10 rfl rfl)
theorem dX0_diagramOf_13 : decode cX0_diagramOf 13 = .ok (.getfield 38, 3) := dk_180 0 38 (dk_at dksX0_diagramOf_0 13 rfl rfl)
theorem dX0_diagramOf_16 : decode cX0_diagramOf 16 = .ok (.if_icmp .ge 34, 3) := dk_162 0 34 (dk_at dksX0_diagramOf_0 16 rfl rfl)
theorem dX0_diagramOf_19 : decode cX0_diagramOf 19 = .ok (.lload_n 2, 1) := dk_32 (dk_at dksX0_diagramOf_0 19 rfl rfl)
theorem dX0_diagramOf_20 : decode cX0_diagramOf 20 = .ok (.aload_n 1, 1) := dk_43 (dk_at dksX0_diagramOf_0 20 rfl rfl)
theorem dX0_diagramOf_21 : decode cX0_diagramOf 21 = .ok (.iload 4, 2) := dk_21 4 (dk_at dksX0_diagramOf_0 21 rfl rfl)
theorem dX0_diagramOf_23 : decode cX0_diagramOf 23 = .ok (.invokestatic 250, 3) := dk_184 0 250 (dk_at dksX0_diagramOf_1 0 rfl rfl)
theorem dX0_diagramOf_26 : decode cX0_diagramOf 26 = .ok (.ifCond .eq 15, 3) := dk_153 0 15 (dk_at dksX0_diagramOf_1 3 rfl rfl)
theorem dX0_diagramOf_29 : decode cX0_diagramOf 29 = .ok (.lconst 1, 1) := dk_10 (dk_at dksX0_diagramOf_1 6 rfl rfl)
theorem dX0_diagramOf_30 : decode cX0_diagramOf 30 = .ok (.aload_n 0, 1) := dk_42 (dk_at dksX0_diagramOf_1 7 rfl rfl)
theorem dX0_diagramOf_31 : decode cX0_diagramOf 31 = .ok (.aload_n 1, 1) := dk_43 (dk_at dksX0_diagramOf_1 8 rfl rfl)
theorem dX0_diagramOf_32 : decode cX0_diagramOf 32 = .ok (.iload 4, 2) := dk_21 4 (dk_at dksX0_diagramOf_1 9 rfl rfl)
theorem dX0_diagramOf_34 : decode cX0_diagramOf 34 = .ok (.invokevirtual 343, 3) := dk_182 1 87 (dk_at dksX0_diagramOf_1 11 rfl rfl)
theorem dX0_diagramOf_37 : decode cX0_diagramOf 37 = .ok (.lshl, 1) := dk_121 (dk_at dksX0_diagramOf_1 14 rfl rfl)
theorem dX0_diagramOf_38 : decode cX0_diagramOf 38 = .ok (.goto 4, 3) := dk_167 0 4 (dk_at dksX0_diagramOf_1 15 rfl rfl)
theorem dX0_diagramOf_41 : decode cX0_diagramOf 41 = .ok (.lconst 0, 1) := dk_9 (dk_at dksX0_diagramOf_1 18 rfl rfl)
theorem dX0_diagramOf_42 : decode cX0_diagramOf 42 = .ok (.lor, 1) := dk_129 (dk_at dksX0_diagramOf_1 19 rfl rfl)
theorem dX0_diagramOf_43 : decode cX0_diagramOf 43 = .ok (.lstore_n 2, 1) := dk_65 (dk_at dksX0_diagramOf_1 20 rfl rfl)
theorem dX0_diagramOf_44 : decode cX0_diagramOf 44 = .ok (.iinc 4 1, 3) := dk_132 4 1 (dk_at dksX0_diagramOf_1 21 rfl rfl)
theorem dX0_diagramOf_47 : decode cX0_diagramOf 47 = .ok (.goto (-42), 3) := dk_167 255 214 (dk_at dksX0_diagramOf_2 0 rfl rfl)
theorem dX0_diagramOf_50 : decode cX0_diagramOf 50 = .ok (.lload_n 2, 1) := dk_32 (dk_at dksX0_diagramOf_2 3 rfl rfl)
theorem dX0_diagramOf_51 : decode cX0_diagramOf 51 = .ok (.lreturn, 1) := dk_173 (dk_at dksX0_diagramOf_2 4 rfl rfl)
abbrev cX0_rowOf : ByteArray := prog_1_method_57_code
def yX0_rowOf : MethodName := ⟨RX0, "rowOf", "(J)I"⟩
def dkwX0_rowOf_4 : List UInt8 := [180, 0, 137, 182, 1, 40, 167, 0, 5, 16, 253, 172]
abbrev dktX0_rowOf_4 : List UInt8 := dkwX0_rowOf_4 ++ []
def dkwX0_rowOf_3 : List UInt8 := [10, 101, 127, 66, 167, 255, 211, 42, 42, 180, 0, 137, 182, 1, 112, 31, 148, 154, 0, 14, 42, 42]
abbrev dktX0_rowOf_3 : List UInt8 := dkwX0_rowOf_3 ++ dktX0_rowOf_4
def dkwX0_rowOf_2 : List UInt8 := [180, 0, 141, 182, 1, 98, 42, 42, 180, 0, 137, 42, 180, 0, 141, 42, 180, 0, 137, 182, 1, 44, 33, 33]
abbrev dktX0_rowOf_2 : List UInt8 := dkwX0_rowOf_2 ++ dktX0_rowOf_3
def dkwX0_rowOf_1 : List UInt8 := [182, 1, 90, 31, 66, 33, 9, 148, 153, 0, 45, 42, 42, 180, 0, 44, 33, 184, 1, 118, 50, 42]
abbrev dktX0_rowOf_1 : List UInt8 := dkwX0_rowOf_1 ++ dktX0_rowOf_2
def dkwX0_rowOf_0 : List UInt8 := [31, 42, 182, 1, 115, 20, 1, 26, 131, 127, 9, 148, 153, 0, 5, 2, 172, 42, 42, 180, 0, 137]
abbrev dktX0_rowOf_0 : List UInt8 := dkwX0_rowOf_0 ++ dktX0_rowOf_1
theorem dksX0_rowOf_0 : cX0_rowOf.data.toList.drop 0 = dktX0_rowOf_0 := by decide +kernel
theorem dksX0_rowOf_1 : cX0_rowOf.data.toList.drop 22 = dktX0_rowOf_1 := dk_seg dksX0_rowOf_0 22 rfl rfl
theorem dksX0_rowOf_2 : cX0_rowOf.data.toList.drop 44 = dktX0_rowOf_2 := dk_seg dksX0_rowOf_1 22 rfl rfl
theorem dksX0_rowOf_3 : cX0_rowOf.data.toList.drop 68 = dktX0_rowOf_3 := dk_seg dksX0_rowOf_2 24 rfl rfl
theorem dksX0_rowOf_4 : cX0_rowOf.data.toList.drop 90 = dktX0_rowOf_4 := dk_seg dksX0_rowOf_3 22 rfl rfl
theorem dX0_rowOf_0 : decode cX0_rowOf 0 = .ok (.lload_n 1, 1) := dk_31 (dk_at dksX0_rowOf_0 0 rfl rfl)
theorem dX0_rowOf_1 : decode cX0_rowOf 1 = .ok (.aload_n 0, 1) := dk_42 (dk_at dksX0_rowOf_0 1 rfl rfl)
theorem dX0_rowOf_2 : decode cX0_rowOf 2 = .ok (.invokevirtual 371, 3) := dk_182 1 115 (dk_at dksX0_rowOf_0 2 rfl rfl)
theorem dX0_rowOf_5 : decode cX0_rowOf 5 = .ok (.ldc2_w 282, 3) := dk_20 1 26 (dk_at dksX0_rowOf_0 5 rfl rfl)
theorem dX0_rowOf_8 : decode cX0_rowOf 8 = .ok (.lxor, 1) := dk_131 (dk_at dksX0_rowOf_0 8 rfl rfl)
theorem dX0_rowOf_9 : decode cX0_rowOf 9 = .ok (.land, 1) := dk_127 (dk_at dksX0_rowOf_0 9 rfl rfl)
theorem dX0_rowOf_10 : decode cX0_rowOf 10 = .ok (.lconst 0, 1) := dk_9 (dk_at dksX0_rowOf_0 10 rfl rfl)
theorem dX0_rowOf_11 : decode cX0_rowOf 11 = .ok (.lcmp, 1) := dk_148 (dk_at dksX0_rowOf_0 11 rfl rfl)
theorem dX0_rowOf_12 : decode cX0_rowOf 12 = .ok (.ifCond .eq 5, 3) := dk_153 0 5 (dk_at dksX0_rowOf_0 12 rfl rfl)
theorem dX0_rowOf_15 : decode cX0_rowOf 15 = .ok (.iconst (-1), 1) := dk_2 (dk_at dksX0_rowOf_0 15 rfl rfl)
theorem dX0_rowOf_16 : decode cX0_rowOf 16 = .ok (.ireturn, 1) := dk_172 (dk_at dksX0_rowOf_0 16 rfl rfl)
theorem dX0_rowOf_17 : decode cX0_rowOf 17 = .ok (.aload_n 0, 1) := dk_42 (dk_at dksX0_rowOf_0 17 rfl rfl)
theorem dX0_rowOf_18 : decode cX0_rowOf 18 = .ok (.aload_n 0, 1) := dk_42 (dk_at dksX0_rowOf_0 18 rfl rfl)
theorem dX0_rowOf_19 : decode cX0_rowOf 19 = .ok (.getfield 137, 3) := dk_180 0 137 (dk_at dksX0_rowOf_0 19 rfl rfl)
theorem dX0_rowOf_22 : decode cX0_rowOf 22 = .ok (.invokevirtual 346, 3) := dk_182 1 90 (dk_at dksX0_rowOf_1 0 rfl rfl)
theorem dX0_rowOf_25 : decode cX0_rowOf 25 = .ok (.lload_n 1, 1) := dk_31 (dk_at dksX0_rowOf_1 3 rfl rfl)
theorem dX0_rowOf_26 : decode cX0_rowOf 26 = .ok (.lstore_n 3, 1) := dk_66 (dk_at dksX0_rowOf_1 4 rfl rfl)
theorem dX0_rowOf_27 : decode cX0_rowOf 27 = .ok (.lload_n 3, 1) := dk_33 (dk_at dksX0_rowOf_1 5 rfl rfl)
theorem dX0_rowOf_28 : decode cX0_rowOf 28 = .ok (.lconst 0, 1) := dk_9 (dk_at dksX0_rowOf_1 6 rfl rfl)
theorem dX0_rowOf_29 : decode cX0_rowOf 29 = .ok (.lcmp, 1) := dk_148 (dk_at dksX0_rowOf_1 7 rfl rfl)
theorem dX0_rowOf_30 : decode cX0_rowOf 30 = .ok (.ifCond .eq 45, 3) := dk_153 0 45 (dk_at dksX0_rowOf_1 8 rfl rfl)
theorem dX0_rowOf_33 : decode cX0_rowOf 33 = .ok (.aload_n 0, 1) := dk_42 (dk_at dksX0_rowOf_1 11 rfl rfl)
theorem dX0_rowOf_34 : decode cX0_rowOf 34 = .ok (.aload_n 0, 1) := dk_42 (dk_at dksX0_rowOf_1 12 rfl rfl)
theorem dX0_rowOf_35 : decode cX0_rowOf 35 = .ok (.getfield 44, 3) := dk_180 0 44 (dk_at dksX0_rowOf_1 13 rfl rfl)
theorem dX0_rowOf_38 : decode cX0_rowOf 38 = .ok (.lload_n 3, 1) := dk_33 (dk_at dksX0_rowOf_1 16 rfl rfl)
theorem dX0_rowOf_39 : decode cX0_rowOf 39 = .ok (.invokestatic 374, 3) := dk_184 1 118 (dk_at dksX0_rowOf_1 17 rfl rfl)
theorem dX0_rowOf_42 : decode cX0_rowOf 42 = .ok (.aaload, 1) := dk_50 (dk_at dksX0_rowOf_1 20 rfl rfl)
theorem dX0_rowOf_43 : decode cX0_rowOf 43 = .ok (.aload_n 0, 1) := dk_42 (dk_at dksX0_rowOf_1 21 rfl rfl)
theorem dX0_rowOf_44 : decode cX0_rowOf 44 = .ok (.getfield 141, 3) := dk_180 0 141 (dk_at dksX0_rowOf_2 0 rfl rfl)
theorem dX0_rowOf_47 : decode cX0_rowOf 47 = .ok (.invokevirtual 354, 3) := dk_182 1 98 (dk_at dksX0_rowOf_2 3 rfl rfl)
theorem dX0_rowOf_50 : decode cX0_rowOf 50 = .ok (.aload_n 0, 1) := dk_42 (dk_at dksX0_rowOf_2 6 rfl rfl)
theorem dX0_rowOf_51 : decode cX0_rowOf 51 = .ok (.aload_n 0, 1) := dk_42 (dk_at dksX0_rowOf_2 7 rfl rfl)
theorem dX0_rowOf_52 : decode cX0_rowOf 52 = .ok (.getfield 137, 3) := dk_180 0 137 (dk_at dksX0_rowOf_2 8 rfl rfl)
theorem dX0_rowOf_55 : decode cX0_rowOf 55 = .ok (.aload_n 0, 1) := dk_42 (dk_at dksX0_rowOf_2 11 rfl rfl)
theorem dX0_rowOf_56 : decode cX0_rowOf 56 = .ok (.getfield 141, 3) := dk_180 0 141 (dk_at dksX0_rowOf_2 12 rfl rfl)
theorem dX0_rowOf_59 : decode cX0_rowOf 59 = .ok (.aload_n 0, 1) := dk_42 (dk_at dksX0_rowOf_2 15 rfl rfl)
theorem dX0_rowOf_60 : decode cX0_rowOf 60 = .ok (.getfield 137, 3) := dk_180 0 137 (dk_at dksX0_rowOf_2 16 rfl rfl)
theorem dX0_rowOf_63 : decode cX0_rowOf 63 = .ok (.invokevirtual 300, 3) := dk_182 1 44 (dk_at dksX0_rowOf_2 19 rfl rfl)
theorem dX0_rowOf_66 : decode cX0_rowOf 66 = .ok (.lload_n 3, 1) := dk_33 (dk_at dksX0_rowOf_2 22 rfl rfl)
theorem dX0_rowOf_67 : decode cX0_rowOf 67 = .ok (.lload_n 3, 1) := dk_33 (dk_at dksX0_rowOf_2 23 rfl rfl)
theorem dX0_rowOf_68 : decode cX0_rowOf 68 = .ok (.lconst 1, 1) := dk_10 (dk_at dksX0_rowOf_3 0 rfl rfl)
theorem dX0_rowOf_69 : decode cX0_rowOf 69 = .ok (.lsub, 1) := dk_101 (dk_at dksX0_rowOf_3 1 rfl rfl)
theorem dX0_rowOf_70 : decode cX0_rowOf 70 = .ok (.land, 1) := dk_127 (dk_at dksX0_rowOf_3 2 rfl rfl)
theorem dX0_rowOf_71 : decode cX0_rowOf 71 = .ok (.lstore_n 3, 1) := dk_66 (dk_at dksX0_rowOf_3 3 rfl rfl)
theorem dX0_rowOf_72 : decode cX0_rowOf 72 = .ok (.goto (-45), 3) := dk_167 255 211 (dk_at dksX0_rowOf_3 4 rfl rfl)
theorem dX0_rowOf_75 : decode cX0_rowOf 75 = .ok (.aload_n 0, 1) := dk_42 (dk_at dksX0_rowOf_3 7 rfl rfl)
theorem dX0_rowOf_76 : decode cX0_rowOf 76 = .ok (.aload_n 0, 1) := dk_42 (dk_at dksX0_rowOf_3 8 rfl rfl)
theorem dX0_rowOf_77 : decode cX0_rowOf 77 = .ok (.getfield 137, 3) := dk_180 0 137 (dk_at dksX0_rowOf_3 9 rfl rfl)
theorem dX0_rowOf_80 : decode cX0_rowOf 80 = .ok (.invokevirtual 368, 3) := dk_182 1 112 (dk_at dksX0_rowOf_3 12 rfl rfl)
theorem dX0_rowOf_83 : decode cX0_rowOf 83 = .ok (.lload_n 1, 1) := dk_31 (dk_at dksX0_rowOf_3 15 rfl rfl)
theorem dX0_rowOf_84 : decode cX0_rowOf 84 = .ok (.lcmp, 1) := dk_148 (dk_at dksX0_rowOf_3 16 rfl rfl)
theorem dX0_rowOf_85 : decode cX0_rowOf 85 = .ok (.ifCond .ne 14, 3) := dk_154 0 14 (dk_at dksX0_rowOf_3 17 rfl rfl)
theorem dX0_rowOf_88 : decode cX0_rowOf 88 = .ok (.aload_n 0, 1) := dk_42 (dk_at dksX0_rowOf_3 20 rfl rfl)
theorem dX0_rowOf_89 : decode cX0_rowOf 89 = .ok (.aload_n 0, 1) := dk_42 (dk_at dksX0_rowOf_3 21 rfl rfl)
theorem dX0_rowOf_90 : decode cX0_rowOf 90 = .ok (.getfield 137, 3) := dk_180 0 137 (dk_at dksX0_rowOf_4 0 rfl rfl)
theorem dX0_rowOf_93 : decode cX0_rowOf 93 = .ok (.invokevirtual 296, 3) := dk_182 1 40 (dk_at dksX0_rowOf_4 3 rfl rfl)
theorem dX0_rowOf_96 : decode cX0_rowOf 96 = .ok (.goto 5, 3) := dk_167 0 5 (dk_at dksX0_rowOf_4 6 rfl rfl)
theorem dX0_rowOf_99 : decode cX0_rowOf 99 = .ok (.bipush (-3), 2) := dk_16 253 (dk_at dksX0_rowOf_4 9 rfl rfl)
theorem dX0_rowOf_101 : decode cX0_rowOf 101 = .ok (.ireturn, 1) := dk_172 (dk_at dksX0_rowOf_4 11 rfl rfl)
abbrev cX0_allArcs : ByteArray := prog_1_method_10_code
def yX0_allArcs : MethodName := ⟨RX0, "allArcs", "()J"⟩
def dkwX0_allArcs_0 : List UInt8 := [10, 42, 180, 0, 44, 190, 121, 10, 101, 173]
abbrev dktX0_allArcs_0 : List UInt8 := dkwX0_allArcs_0 ++ []
theorem dksX0_allArcs_0 : cX0_allArcs.data.toList.drop 0 = dktX0_allArcs_0 := by decide +kernel
theorem dX0_allArcs_0 : decode cX0_allArcs 0 = .ok (.lconst 1, 1) := dk_10 (dk_at dksX0_allArcs_0 0 rfl rfl)
theorem dX0_allArcs_1 : decode cX0_allArcs 1 = .ok (.aload_n 0, 1) := dk_42 (dk_at dksX0_allArcs_0 1 rfl rfl)
theorem dX0_allArcs_2 : decode cX0_allArcs 2 = .ok (.getfield 44, 3) := dk_180 0 44 (dk_at dksX0_allArcs_0 2 rfl rfl)
theorem dX0_allArcs_5 : decode cX0_allArcs 5 = .ok (.arraylength, 1) := dk_190 (dk_at dksX0_allArcs_0 5 rfl rfl)
theorem dX0_allArcs_6 : decode cX0_allArcs 6 = .ok (.lshl, 1) := dk_121 (dk_at dksX0_allArcs_0 6 rfl rfl)
theorem dX0_allArcs_7 : decode cX0_allArcs 7 = .ok (.lconst 1, 1) := dk_10 (dk_at dksX0_allArcs_0 7 rfl rfl)
theorem dX0_allArcs_8 : decode cX0_allArcs 8 = .ok (.lsub, 1) := dk_101 (dk_at dksX0_allArcs_0 8 rfl rfl)
theorem dX0_allArcs_9 : decode cX0_allArcs 9 = .ok (.lreturn, 1) := dk_173 (dk_at dksX0_allArcs_0 9 rfl rfl)
abbrev cX0_lowestOf : ByteArray := prog_1_method_13_code
def yX0_lowestOf : MethodName := ⟨RX0, "lowestOf", "(J)I"⟩
def dkwX0_lowestOf_0 : List UInt8 := [3, 61, 30, 28, 125, 10, 127, 9, 148, 154, 0, 9, 132, 2, 1, 167, 255, 243, 28, 172]
abbrev dktX0_lowestOf_0 : List UInt8 := dkwX0_lowestOf_0 ++ []
theorem dksX0_lowestOf_0 : cX0_lowestOf.data.toList.drop 0 = dktX0_lowestOf_0 := by decide +kernel
theorem dX0_lowestOf_0 : decode cX0_lowestOf 0 = .ok (.iconst 0, 1) := dk_3 (dk_at dksX0_lowestOf_0 0 rfl rfl)
theorem dX0_lowestOf_1 : decode cX0_lowestOf 1 = .ok (.istore_n 2, 1) := dk_61 (dk_at dksX0_lowestOf_0 1 rfl rfl)
theorem dX0_lowestOf_2 : decode cX0_lowestOf 2 = .ok (.lload_n 0, 1) := dk_30 (dk_at dksX0_lowestOf_0 2 rfl rfl)
theorem dX0_lowestOf_3 : decode cX0_lowestOf 3 = .ok (.iload_n 2, 1) := dk_28 (dk_at dksX0_lowestOf_0 3 rfl rfl)
theorem dX0_lowestOf_4 : decode cX0_lowestOf 4 = .ok (.lushr, 1) := dk_125 (dk_at dksX0_lowestOf_0 4 rfl rfl)
theorem dX0_lowestOf_5 : decode cX0_lowestOf 5 = .ok (.lconst 1, 1) := dk_10 (dk_at dksX0_lowestOf_0 5 rfl rfl)
theorem dX0_lowestOf_6 : decode cX0_lowestOf 6 = .ok (.land, 1) := dk_127 (dk_at dksX0_lowestOf_0 6 rfl rfl)
theorem dX0_lowestOf_7 : decode cX0_lowestOf 7 = .ok (.lconst 0, 1) := dk_9 (dk_at dksX0_lowestOf_0 7 rfl rfl)
theorem dX0_lowestOf_8 : decode cX0_lowestOf 8 = .ok (.lcmp, 1) := dk_148 (dk_at dksX0_lowestOf_0 8 rfl rfl)
theorem dX0_lowestOf_9 : decode cX0_lowestOf 9 = .ok (.ifCond .ne 9, 3) := dk_154 0 9 (dk_at dksX0_lowestOf_0 9 rfl rfl)
theorem dX0_lowestOf_12 : decode cX0_lowestOf 12 = .ok (.iinc 2 1, 3) := dk_132 2 1 (dk_at dksX0_lowestOf_0 12 rfl rfl)
theorem dX0_lowestOf_15 : decode cX0_lowestOf 15 = .ok (.goto (-13), 3) := dk_167 255 243 (dk_at dksX0_lowestOf_0 15 rfl rfl)
theorem dX0_lowestOf_18 : decode cX0_lowestOf 18 = .ok (.iload_n 2, 1) := dk_28 (dk_at dksX0_lowestOf_0 18 rfl rfl)
theorem dX0_lowestOf_19 : decode cX0_lowestOf 19 = .ok (.ireturn, 1) := dk_172 (dk_at dksX0_lowestOf_0 19 rfl rfl)
abbrev cX0_gone : ByteArray := prog_1_method_58_code
def yX0_gone : MethodName := ⟨RX0, "gone", "()J"⟩
def dkwX0_gone_0 : List UInt8 := [42, 180, 0, 34, 180, 0, 229, 173]
abbrev dktX0_gone_0 : List UInt8 := dkwX0_gone_0 ++ []
theorem dksX0_gone_0 : cX0_gone.data.toList.drop 0 = dktX0_gone_0 := by decide +kernel
theorem dX0_gone_0 : decode cX0_gone 0 = .ok (.aload_n 0, 1) := dk_42 (dk_at dksX0_gone_0 0 rfl rfl)
theorem dX0_gone_1 : decode cX0_gone 1 = .ok (.getfield 34, 3) := dk_180 0 34 (dk_at dksX0_gone_0 1 rfl rfl)
theorem dX0_gone_4 : decode cX0_gone 4 = .ok (.getfield 229, 3) := dk_180 0 229 (dk_at dksX0_gone_0 4 rfl rfl)
theorem dX0_gone_7 : decode cX0_gone 7 = .ok (.lreturn, 1) := dk_173 (dk_at dksX0_gone_0 7 rfl rfl)
abbrev cX0_contract : ByteArray := prog_1_method_59_code
def yX0_contract : MethodName := ⟨RX0, "contract", "(I)I"⟩
def dkwX0_contract_1 : List UInt8 := [180, 0, 73, 129, 181, 0, 229, 42, 182, 1, 121, 172]
abbrev dktX0_contract_1 : List UInt8 := dkwX0_contract_1 ++ []
def dkwX0_contract_0 : List UInt8 := [42, 27, 182, 1, 102, 154, 0, 5, 2, 172, 42, 180, 0, 34, 89, 180, 0, 229, 42, 180, 0, 44, 27, 50]
abbrev dktX0_contract_0 : List UInt8 := dkwX0_contract_0 ++ dktX0_contract_1
theorem dksX0_contract_0 : cX0_contract.data.toList.drop 0 = dktX0_contract_0 := by decide +kernel
theorem dksX0_contract_1 : cX0_contract.data.toList.drop 24 = dktX0_contract_1 := dk_seg dksX0_contract_0 24 rfl rfl
theorem dX0_contract_0 : decode cX0_contract 0 = .ok (.aload_n 0, 1) := dk_42 (dk_at dksX0_contract_0 0 rfl rfl)
theorem dX0_contract_1 : decode cX0_contract 1 = .ok (.iload_n 1, 1) := dk_27 (dk_at dksX0_contract_0 1 rfl rfl)
theorem dX0_contract_2 : decode cX0_contract 2 = .ok (.invokevirtual 358, 3) := dk_182 1 102 (dk_at dksX0_contract_0 2 rfl rfl)
theorem dX0_contract_5 : decode cX0_contract 5 = .ok (.ifCond .ne 5, 3) := dk_154 0 5 (dk_at dksX0_contract_0 5 rfl rfl)
theorem dX0_contract_8 : decode cX0_contract 8 = .ok (.iconst (-1), 1) := dk_2 (dk_at dksX0_contract_0 8 rfl rfl)
theorem dX0_contract_9 : decode cX0_contract 9 = .ok (.ireturn, 1) := dk_172 (dk_at dksX0_contract_0 9 rfl rfl)
theorem dX0_contract_10 : decode cX0_contract 10 = .ok (.aload_n 0, 1) := dk_42 (dk_at dksX0_contract_0 10 rfl rfl)
theorem dX0_contract_11 : decode cX0_contract 11 = .ok (.getfield 34, 3) := dk_180 0 34 (dk_at dksX0_contract_0 11 rfl rfl)
theorem dX0_contract_14 : decode cX0_contract 14 = .ok (.dup, 1) := dk_89 (dk_at dksX0_contract_0 14 rfl rfl)
theorem dX0_contract_15 : decode cX0_contract 15 = .ok (.getfield 229, 3) := dk_180 0 229 (dk_at dksX0_contract_0 15 rfl rfl)
theorem dX0_contract_18 : decode cX0_contract 18 = .ok (.aload_n 0, 1) := dk_42 (dk_at dksX0_contract_0 18 rfl rfl)
theorem dX0_contract_19 : decode cX0_contract 19 = .ok (.getfield 44, 3) := dk_180 0 44 (dk_at dksX0_contract_0 19 rfl rfl)
theorem dX0_contract_22 : decode cX0_contract 22 = .ok (.iload_n 1, 1) := dk_27 (dk_at dksX0_contract_0 22 rfl rfl)
theorem dX0_contract_23 : decode cX0_contract 23 = .ok (.aaload, 1) := dk_50 (dk_at dksX0_contract_0 23 rfl rfl)
theorem dX0_contract_24 : decode cX0_contract 24 = .ok (.getfield 73, 3) := dk_180 0 73 (dk_at dksX0_contract_1 0 rfl rfl)
theorem dX0_contract_27 : decode cX0_contract 27 = .ok (.lor, 1) := dk_129 (dk_at dksX0_contract_1 3 rfl rfl)
theorem dX0_contract_28 : decode cX0_contract 28 = .ok (.putfield 229, 3) := dk_181 0 229 (dk_at dksX0_contract_1 4 rfl rfl)
theorem dX0_contract_31 : decode cX0_contract 31 = .ok (.aload_n 0, 1) := dk_42 (dk_at dksX0_contract_1 7 rfl rfl)
theorem dX0_contract_32 : decode cX0_contract 32 = .ok (.invokevirtual 377, 3) := dk_182 1 121 (dk_at dksX0_contract_1 8 rfl rfl)
theorem dX0_contract_35 : decode cX0_contract 35 = .ok (.ireturn, 1) := dk_172 (dk_at dksX0_contract_1 11 rfl rfl)
abbrev cX0_manyGone : ByteArray := prog_1_method_15_code
def yX0_manyGone : MethodName := ⟨RX0, "manyGone", "()I"⟩
def dkwX0_manyGone_0 : List UInt8 := [42, 180, 0, 34, 180, 0, 229, 184, 0, 232, 172]
abbrev dktX0_manyGone_0 : List UInt8 := dkwX0_manyGone_0 ++ []
theorem dksX0_manyGone_0 : cX0_manyGone.data.toList.drop 0 = dktX0_manyGone_0 := by decide +kernel
theorem dX0_manyGone_0 : decode cX0_manyGone 0 = .ok (.aload_n 0, 1) := dk_42 (dk_at dksX0_manyGone_0 0 rfl rfl)
theorem dX0_manyGone_1 : decode cX0_manyGone 1 = .ok (.getfield 34, 3) := dk_180 0 34 (dk_at dksX0_manyGone_0 1 rfl rfl)
theorem dX0_manyGone_4 : decode cX0_manyGone 4 = .ok (.getfield 229, 3) := dk_180 0 229 (dk_at dksX0_manyGone_0 4 rfl rfl)
theorem dX0_manyGone_7 : decode cX0_manyGone 7 = .ok (.invokestatic 232, 3) := dk_184 0 232 (dk_at dksX0_manyGone_0 7 rfl rfl)
theorem dX0_manyGone_10 : decode cX0_manyGone 10 = .ok (.ireturn, 1) := dk_172 (dk_at dksX0_manyGone_0 10 rfl rfl)
abbrev cX0_restore : ByteArray := prog_1_method_60_code
def yX0_restore : MethodName := ⟨RX0, "restore", "(I)I"⟩
def dkwX0_restore_1 : List UInt8 := [180, 0, 77, 20, 1, 26, 131, 127, 181, 0, 229, 42, 182, 1, 121, 172]
abbrev dktX0_restore_1 : List UInt8 := dkwX0_restore_1 ++ []
def dkwX0_restore_0 : List UInt8 := [42, 27, 182, 1, 102, 154, 0, 5, 2, 172, 42, 180, 0, 34, 89, 180, 0, 229, 42, 180, 0, 44, 27, 50]
abbrev dktX0_restore_0 : List UInt8 := dkwX0_restore_0 ++ dktX0_restore_1
theorem dksX0_restore_0 : cX0_restore.data.toList.drop 0 = dktX0_restore_0 := by decide +kernel
theorem dksX0_restore_1 : cX0_restore.data.toList.drop 24 = dktX0_restore_1 := dk_seg dksX0_restore_0 24 rfl rfl
theorem dX0_restore_0 : decode cX0_restore 0 = .ok (.aload_n 0, 1) := dk_42 (dk_at dksX0_restore_0 0 rfl rfl)
theorem dX0_restore_1 : decode cX0_restore 1 = .ok (.iload_n 1, 1) := dk_27 (dk_at dksX0_restore_0 1 rfl rfl)
theorem dX0_restore_2 : decode cX0_restore 2 = .ok (.invokevirtual 358, 3) := dk_182 1 102 (dk_at dksX0_restore_0 2 rfl rfl)
theorem dX0_restore_5 : decode cX0_restore 5 = .ok (.ifCond .ne 5, 3) := dk_154 0 5 (dk_at dksX0_restore_0 5 rfl rfl)
theorem dX0_restore_8 : decode cX0_restore 8 = .ok (.iconst (-1), 1) := dk_2 (dk_at dksX0_restore_0 8 rfl rfl)
theorem dX0_restore_9 : decode cX0_restore 9 = .ok (.ireturn, 1) := dk_172 (dk_at dksX0_restore_0 9 rfl rfl)
theorem dX0_restore_10 : decode cX0_restore 10 = .ok (.aload_n 0, 1) := dk_42 (dk_at dksX0_restore_0 10 rfl rfl)
theorem dX0_restore_11 : decode cX0_restore 11 = .ok (.getfield 34, 3) := dk_180 0 34 (dk_at dksX0_restore_0 11 rfl rfl)
theorem dX0_restore_14 : decode cX0_restore 14 = .ok (.dup, 1) := dk_89 (dk_at dksX0_restore_0 14 rfl rfl)
theorem dX0_restore_15 : decode cX0_restore 15 = .ok (.getfield 229, 3) := dk_180 0 229 (dk_at dksX0_restore_0 15 rfl rfl)
theorem dX0_restore_18 : decode cX0_restore 18 = .ok (.aload_n 0, 1) := dk_42 (dk_at dksX0_restore_0 18 rfl rfl)
theorem dX0_restore_19 : decode cX0_restore 19 = .ok (.getfield 44, 3) := dk_180 0 44 (dk_at dksX0_restore_0 19 rfl rfl)
theorem dX0_restore_22 : decode cX0_restore 22 = .ok (.iload_n 1, 1) := dk_27 (dk_at dksX0_restore_0 22 rfl rfl)
theorem dX0_restore_23 : decode cX0_restore 23 = .ok (.aaload, 1) := dk_50 (dk_at dksX0_restore_0 23 rfl rfl)
theorem dX0_restore_24 : decode cX0_restore 24 = .ok (.getfield 77, 3) := dk_180 0 77 (dk_at dksX0_restore_1 0 rfl rfl)
theorem dX0_restore_27 : decode cX0_restore 27 = .ok (.ldc2_w 282, 3) := dk_20 1 26 (dk_at dksX0_restore_1 3 rfl rfl)
theorem dX0_restore_30 : decode cX0_restore 30 = .ok (.lxor, 1) := dk_131 (dk_at dksX0_restore_1 6 rfl rfl)
theorem dX0_restore_31 : decode cX0_restore 31 = .ok (.land, 1) := dk_127 (dk_at dksX0_restore_1 7 rfl rfl)
theorem dX0_restore_32 : decode cX0_restore 32 = .ok (.putfield 229, 3) := dk_181 0 229 (dk_at dksX0_restore_1 8 rfl rfl)
theorem dX0_restore_35 : decode cX0_restore 35 = .ok (.aload_n 0, 1) := dk_42 (dk_at dksX0_restore_1 11 rfl rfl)
theorem dX0_restore_36 : decode cX0_restore 36 = .ok (.invokevirtual 377, 3) := dk_182 1 121 (dk_at dksX0_restore_1 12 rfl rfl)
theorem dX0_restore_39 : decode cX0_restore 39 = .ok (.ireturn, 1) := dk_172 (dk_at dksX0_restore_1 15 rfl rfl)
abbrev cX0_collapse : ByteArray := prog_1_method_62_code
def yX0_collapse : MethodName := ⟨RX0, "collapse", "(II)I"⟩
def dkwX0_collapse_4 : List UInt8 := [167, 255, 205, 42, 182, 1, 121, 172]
abbrev dktX0_collapse_4 : List UInt8 := dkwX0_collapse_4 ++ []
def dkwX0_collapse_3 : List UInt8 := [180, 0, 44, 42, 42, 180, 0, 144, 42, 180, 0, 147, 182, 1, 127, 50, 180, 0, 73, 129, 181, 0, 229]
abbrev dktX0_collapse_3 : List UInt8 := dkwX0_collapse_3 ++ dktX0_collapse_4
def dkwX0_collapse_2 : List UInt8 := [182, 1, 40, 42, 42, 180, 0, 147, 182, 1, 40, 159, 0, 38, 42, 180, 0, 34, 89, 180, 0, 229, 42]
abbrev dktX0_collapse_2 : List UInt8 := dkwX0_collapse_2 ++ dktX0_collapse_3
def dkwX0_collapse_1 : List UInt8 := [182, 1, 36, 42, 42, 180, 0, 137, 42, 180, 0, 141, 42, 180, 0, 147, 182, 1, 44, 42, 42, 180, 0, 144]
abbrev dktX0_collapse_1 : List UInt8 := dkwX0_collapse_1 ++ dktX0_collapse_2
def dkwX0_collapse_0 : List UInt8 := [42, 27, 28, 182, 1, 28, 154, 0, 5, 2, 172, 42, 42, 180, 0, 137, 42, 180, 0, 141, 42, 180, 0, 144]
abbrev dktX0_collapse_0 : List UInt8 := dkwX0_collapse_0 ++ dktX0_collapse_1
theorem dksX0_collapse_0 : cX0_collapse.data.toList.drop 0 = dktX0_collapse_0 := by decide +kernel
theorem dksX0_collapse_1 : cX0_collapse.data.toList.drop 24 = dktX0_collapse_1 := dk_seg dksX0_collapse_0 24 rfl rfl
theorem dksX0_collapse_2 : cX0_collapse.data.toList.drop 48 = dktX0_collapse_2 := dk_seg dksX0_collapse_1 24 rfl rfl
theorem dksX0_collapse_3 : cX0_collapse.data.toList.drop 71 = dktX0_collapse_3 := dk_seg dksX0_collapse_2 23 rfl rfl
theorem dksX0_collapse_4 : cX0_collapse.data.toList.drop 94 = dktX0_collapse_4 := dk_seg dksX0_collapse_3 23 rfl rfl
theorem dX0_collapse_0 : decode cX0_collapse 0 = .ok (.aload_n 0, 1) := dk_42 (dk_at dksX0_collapse_0 0 rfl rfl)
theorem dX0_collapse_1 : decode cX0_collapse 1 = .ok (.iload_n 1, 1) := dk_27 (dk_at dksX0_collapse_0 1 rfl rfl)
theorem dX0_collapse_2 : decode cX0_collapse 2 = .ok (.iload_n 2, 1) := dk_28 (dk_at dksX0_collapse_0 2 rfl rfl)
theorem dX0_collapse_3 : decode cX0_collapse 3 = .ok (.invokevirtual 284, 3) := dk_182 1 28 (dk_at dksX0_collapse_0 3 rfl rfl)
theorem dX0_collapse_6 : decode cX0_collapse 6 = .ok (.ifCond .ne 5, 3) := dk_154 0 5 (dk_at dksX0_collapse_0 6 rfl rfl)
theorem dX0_collapse_9 : decode cX0_collapse 9 = .ok (.iconst (-1), 1) := dk_2 (dk_at dksX0_collapse_0 9 rfl rfl)
theorem dX0_collapse_10 : decode cX0_collapse 10 = .ok (.ireturn, 1) := dk_172 (dk_at dksX0_collapse_0 10 rfl rfl)
theorem dX0_collapse_11 : decode cX0_collapse 11 = .ok (.aload_n 0, 1) := dk_42 (dk_at dksX0_collapse_0 11 rfl rfl)
theorem dX0_collapse_12 : decode cX0_collapse 12 = .ok (.aload_n 0, 1) := dk_42 (dk_at dksX0_collapse_0 12 rfl rfl)
theorem dX0_collapse_13 : decode cX0_collapse 13 = .ok (.getfield 137, 3) := dk_180 0 137 (dk_at dksX0_collapse_0 13 rfl rfl)
theorem dX0_collapse_16 : decode cX0_collapse 16 = .ok (.aload_n 0, 1) := dk_42 (dk_at dksX0_collapse_0 16 rfl rfl)
theorem dX0_collapse_17 : decode cX0_collapse 17 = .ok (.getfield 141, 3) := dk_180 0 141 (dk_at dksX0_collapse_0 17 rfl rfl)
theorem dX0_collapse_20 : decode cX0_collapse 20 = .ok (.aload_n 0, 1) := dk_42 (dk_at dksX0_collapse_0 20 rfl rfl)
theorem dX0_collapse_21 : decode cX0_collapse 21 = .ok (.getfield 144, 3) := dk_180 0 144 (dk_at dksX0_collapse_0 21 rfl rfl)
theorem dX0_collapse_24 : decode cX0_collapse 24 = .ok (.invokevirtual 292, 3) := dk_182 1 36 (dk_at dksX0_collapse_1 0 rfl rfl)
theorem dX0_collapse_27 : decode cX0_collapse 27 = .ok (.aload_n 0, 1) := dk_42 (dk_at dksX0_collapse_1 3 rfl rfl)
theorem dX0_collapse_28 : decode cX0_collapse 28 = .ok (.aload_n 0, 1) := dk_42 (dk_at dksX0_collapse_1 4 rfl rfl)
theorem dX0_collapse_29 : decode cX0_collapse 29 = .ok (.getfield 137, 3) := dk_180 0 137 (dk_at dksX0_collapse_1 5 rfl rfl)
theorem dX0_collapse_32 : decode cX0_collapse 32 = .ok (.aload_n 0, 1) := dk_42 (dk_at dksX0_collapse_1 8 rfl rfl)
theorem dX0_collapse_33 : decode cX0_collapse 33 = .ok (.getfield 141, 3) := dk_180 0 141 (dk_at dksX0_collapse_1 9 rfl rfl)
theorem dX0_collapse_36 : decode cX0_collapse 36 = .ok (.aload_n 0, 1) := dk_42 (dk_at dksX0_collapse_1 12 rfl rfl)
theorem dX0_collapse_37 : decode cX0_collapse 37 = .ok (.getfield 147, 3) := dk_180 0 147 (dk_at dksX0_collapse_1 13 rfl rfl)
theorem dX0_collapse_40 : decode cX0_collapse 40 = .ok (.invokevirtual 300, 3) := dk_182 1 44 (dk_at dksX0_collapse_1 16 rfl rfl)
theorem dX0_collapse_43 : decode cX0_collapse 43 = .ok (.aload_n 0, 1) := dk_42 (dk_at dksX0_collapse_1 19 rfl rfl)
theorem dX0_collapse_44 : decode cX0_collapse 44 = .ok (.aload_n 0, 1) := dk_42 (dk_at dksX0_collapse_1 20 rfl rfl)
theorem dX0_collapse_45 : decode cX0_collapse 45 = .ok (.getfield 144, 3) := dk_180 0 144 (dk_at dksX0_collapse_1 21 rfl rfl)
theorem dX0_collapse_48 : decode cX0_collapse 48 = .ok (.invokevirtual 296, 3) := dk_182 1 40 (dk_at dksX0_collapse_2 0 rfl rfl)
theorem dX0_collapse_51 : decode cX0_collapse 51 = .ok (.aload_n 0, 1) := dk_42 (dk_at dksX0_collapse_2 3 rfl rfl)
theorem dX0_collapse_52 : decode cX0_collapse 52 = .ok (.aload_n 0, 1) := dk_42 (dk_at dksX0_collapse_2 4 rfl rfl)
theorem dX0_collapse_53 : decode cX0_collapse 53 = .ok (.getfield 147, 3) := dk_180 0 147 (dk_at dksX0_collapse_2 5 rfl rfl)
theorem dX0_collapse_56 : decode cX0_collapse 56 = .ok (.invokevirtual 296, 3) := dk_182 1 40 (dk_at dksX0_collapse_2 8 rfl rfl)
theorem dX0_collapse_59 : decode cX0_collapse 59 = .ok (.if_icmp .eq 38, 3) := dk_159 0 38 (dk_at dksX0_collapse_2 11 rfl rfl)
theorem dX0_collapse_62 : decode cX0_collapse 62 = .ok (.aload_n 0, 1) := dk_42 (dk_at dksX0_collapse_2 14 rfl rfl)
theorem dX0_collapse_63 : decode cX0_collapse 63 = .ok (.getfield 34, 3) := dk_180 0 34 (dk_at dksX0_collapse_2 15 rfl rfl)
theorem dX0_collapse_66 : decode cX0_collapse 66 = .ok (.dup, 1) := dk_89 (dk_at dksX0_collapse_2 18 rfl rfl)
theorem dX0_collapse_67 : decode cX0_collapse 67 = .ok (.getfield 229, 3) := dk_180 0 229 (dk_at dksX0_collapse_2 19 rfl rfl)
theorem dX0_collapse_70 : decode cX0_collapse 70 = .ok (.aload_n 0, 1) := dk_42 (dk_at dksX0_collapse_2 22 rfl rfl)
theorem dX0_collapse_71 : decode cX0_collapse 71 = .ok (.getfield 44, 3) := dk_180 0 44 (dk_at dksX0_collapse_3 0 rfl rfl)
theorem dX0_collapse_74 : decode cX0_collapse 74 = .ok (.aload_n 0, 1) := dk_42 (dk_at dksX0_collapse_3 3 rfl rfl)
theorem dX0_collapse_75 : decode cX0_collapse 75 = .ok (.aload_n 0, 1) := dk_42 (dk_at dksX0_collapse_3 4 rfl rfl)
theorem dX0_collapse_76 : decode cX0_collapse 76 = .ok (.getfield 144, 3) := dk_180 0 144 (dk_at dksX0_collapse_3 5 rfl rfl)
theorem dX0_collapse_79 : decode cX0_collapse 79 = .ok (.aload_n 0, 1) := dk_42 (dk_at dksX0_collapse_3 8 rfl rfl)
theorem dX0_collapse_80 : decode cX0_collapse 80 = .ok (.getfield 147, 3) := dk_180 0 147 (dk_at dksX0_collapse_3 9 rfl rfl)
theorem dX0_collapse_83 : decode cX0_collapse 83 = .ok (.invokevirtual 383, 3) := dk_182 1 127 (dk_at dksX0_collapse_3 12 rfl rfl)
theorem dX0_collapse_86 : decode cX0_collapse 86 = .ok (.aaload, 1) := dk_50 (dk_at dksX0_collapse_3 15 rfl rfl)
theorem dX0_collapse_87 : decode cX0_collapse 87 = .ok (.getfield 73, 3) := dk_180 0 73 (dk_at dksX0_collapse_3 16 rfl rfl)
theorem dX0_collapse_90 : decode cX0_collapse 90 = .ok (.lor, 1) := dk_129 (dk_at dksX0_collapse_3 19 rfl rfl)
theorem dX0_collapse_91 : decode cX0_collapse 91 = .ok (.putfield 229, 3) := dk_181 0 229 (dk_at dksX0_collapse_3 20 rfl rfl)
theorem dX0_collapse_94 : decode cX0_collapse 94 = .ok (.goto (-51), 3) := dk_167 255 205 (dk_at dksX0_collapse_4 0 rfl rfl)
theorem dX0_collapse_97 : decode cX0_collapse 97 = .ok (.aload_n 0, 1) := dk_42 (dk_at dksX0_collapse_4 3 rfl rfl)
theorem dX0_collapse_98 : decode cX0_collapse 98 = .ok (.invokevirtual 377, 3) := dk_182 1 121 (dk_at dksX0_collapse_4 4 rfl rfl)
theorem dX0_collapse_101 : decode cX0_collapse 101 = .ok (.ireturn, 1) := dk_172 (dk_at dksX0_collapse_4 7 rfl rfl)
abbrev cX0_stepsUp : ByteArray := prog_1_method_61_code
def yX0_stepsUp : MethodName := ⟨RX0, "stepsUp", "([B[B)I"⟩
def dkwX0_stepsUp_1 : List UInt8 := [42, 43, 29, 182, 1, 87, 172, 43, 29, 184, 1, 124, 132, 3, 1, 167, 255, 219]
abbrev dktX0_stepsUp_1 : List UInt8 := dkwX0_stepsUp_1 ++ []
def dkwX0_stepsUp_0 : List UInt8 := [3, 62, 43, 29, 184, 0, 250, 154, 0, 29, 43, 29, 184, 1, 124, 42, 43, 44, 182, 1, 32, 153, 0, 10]
abbrev dktX0_stepsUp_0 : List UInt8 := dkwX0_stepsUp_0 ++ dktX0_stepsUp_1
theorem dksX0_stepsUp_0 : cX0_stepsUp.data.toList.drop 0 = dktX0_stepsUp_0 := by decide +kernel
theorem dksX0_stepsUp_1 : cX0_stepsUp.data.toList.drop 24 = dktX0_stepsUp_1 := dk_seg dksX0_stepsUp_0 24 rfl rfl
theorem dX0_stepsUp_0 : decode cX0_stepsUp 0 = .ok (.iconst 0, 1) := dk_3 (dk_at dksX0_stepsUp_0 0 rfl rfl)
theorem dX0_stepsUp_1 : decode cX0_stepsUp 1 = .ok (.istore_n 3, 1) := dk_62 (dk_at dksX0_stepsUp_0 1 rfl rfl)
theorem dX0_stepsUp_2 : decode cX0_stepsUp 2 = .ok (.aload_n 1, 1) := dk_43 (dk_at dksX0_stepsUp_0 2 rfl rfl)
theorem dX0_stepsUp_3 : decode cX0_stepsUp 3 = .ok (.iload_n 3, 1) := dk_29 (dk_at dksX0_stepsUp_0 3 rfl rfl)
theorem dX0_stepsUp_4 : decode cX0_stepsUp 4 = .ok (.invokestatic 250, 3) := dk_184 0 250 (dk_at dksX0_stepsUp_0 4 rfl rfl)
theorem dX0_stepsUp_7 : decode cX0_stepsUp 7 = .ok (.ifCond .ne 29, 3) := dk_154 0 29 (dk_at dksX0_stepsUp_0 7 rfl rfl)
theorem dX0_stepsUp_10 : decode cX0_stepsUp 10 = .ok (.aload_n 1, 1) := dk_43 (dk_at dksX0_stepsUp_0 10 rfl rfl)
theorem dX0_stepsUp_11 : decode cX0_stepsUp 11 = .ok (.iload_n 3, 1) := dk_29 (dk_at dksX0_stepsUp_0 11 rfl rfl)
theorem dX0_stepsUp_12 : decode cX0_stepsUp 12 = .ok (.invokestatic 380, 3) := dk_184 1 124 (dk_at dksX0_stepsUp_0 12 rfl rfl)
theorem dX0_stepsUp_15 : decode cX0_stepsUp 15 = .ok (.aload_n 0, 1) := dk_42 (dk_at dksX0_stepsUp_0 15 rfl rfl)
theorem dX0_stepsUp_16 : decode cX0_stepsUp 16 = .ok (.aload_n 1, 1) := dk_43 (dk_at dksX0_stepsUp_0 16 rfl rfl)
theorem dX0_stepsUp_17 : decode cX0_stepsUp 17 = .ok (.aload_n 2, 1) := dk_44 (dk_at dksX0_stepsUp_0 17 rfl rfl)
theorem dX0_stepsUp_18 : decode cX0_stepsUp 18 = .ok (.invokevirtual 288, 3) := dk_182 1 32 (dk_at dksX0_stepsUp_0 18 rfl rfl)
theorem dX0_stepsUp_21 : decode cX0_stepsUp 21 = .ok (.ifCond .eq 10, 3) := dk_153 0 10 (dk_at dksX0_stepsUp_0 21 rfl rfl)
theorem dX0_stepsUp_24 : decode cX0_stepsUp 24 = .ok (.aload_n 0, 1) := dk_42 (dk_at dksX0_stepsUp_1 0 rfl rfl)
theorem dX0_stepsUp_25 : decode cX0_stepsUp 25 = .ok (.aload_n 1, 1) := dk_43 (dk_at dksX0_stepsUp_1 1 rfl rfl)
theorem dX0_stepsUp_26 : decode cX0_stepsUp 26 = .ok (.iload_n 3, 1) := dk_29 (dk_at dksX0_stepsUp_1 2 rfl rfl)
theorem dX0_stepsUp_27 : decode cX0_stepsUp 27 = .ok (.invokevirtual 343, 3) := dk_182 1 87 (dk_at dksX0_stepsUp_1 3 rfl rfl)
theorem dX0_stepsUp_30 : decode cX0_stepsUp 30 = .ok (.ireturn, 1) := dk_172 (dk_at dksX0_stepsUp_1 6 rfl rfl)
theorem dX0_stepsUp_31 : decode cX0_stepsUp 31 = .ok (.aload_n 1, 1) := dk_43 (dk_at dksX0_stepsUp_1 7 rfl rfl)
theorem dX0_stepsUp_32 : decode cX0_stepsUp 32 = .ok (.iload_n 3, 1) := dk_29 (dk_at dksX0_stepsUp_1 8 rfl rfl)
theorem dX0_stepsUp_33 : decode cX0_stepsUp 33 = .ok (.invokestatic 380, 3) := dk_184 1 124 (dk_at dksX0_stepsUp_1 9 rfl rfl)
theorem dX0_stepsUp_36 : decode cX0_stepsUp 36 = .ok (.iinc 3 1, 3) := dk_132 3 1 (dk_at dksX0_stepsUp_1 12 rfl rfl)
theorem dX0_stepsUp_39 : decode cX0_stepsUp 39 = .ok (.goto (-37), 3) := dk_167 255 219 (dk_at dksX0_stepsUp_1 15 rfl rfl)
abbrev cX0_swap : ByteArray := prog_1_method_22_code
def yX0_swap : MethodName := ⟨RX0, "swap", "([BI)V"⟩
def dkwX0_swap_0 : List UInt8 := [42, 27, 27, 4, 96, 184, 0, 246, 177]
abbrev dktX0_swap_0 : List UInt8 := dkwX0_swap_0 ++ []
theorem dksX0_swap_0 : cX0_swap.data.toList.drop 0 = dktX0_swap_0 := by decide +kernel
theorem dX0_swap_0 : decode cX0_swap 0 = .ok (.aload_n 0, 1) := dk_42 (dk_at dksX0_swap_0 0 rfl rfl)
theorem dX0_swap_1 : decode cX0_swap 1 = .ok (.iload_n 1, 1) := dk_27 (dk_at dksX0_swap_0 1 rfl rfl)
theorem dX0_swap_2 : decode cX0_swap 2 = .ok (.iload_n 1, 1) := dk_27 (dk_at dksX0_swap_0 2 rfl rfl)
theorem dX0_swap_3 : decode cX0_swap 3 = .ok (.iconst 1, 1) := dk_4 (dk_at dksX0_swap_0 3 rfl rfl)
theorem dX0_swap_4 : decode cX0_swap 4 = .ok (.iadd, 1) := dk_96 (dk_at dksX0_swap_0 4 rfl rfl)
theorem dX0_swap_5 : decode cX0_swap 5 = .ok (.invokestatic 246, 3) := dk_184 0 246 (dk_at dksX0_swap_0 5 rfl rfl)
theorem dX0_swap_8 : decode cX0_swap 8 = .ok (.return_, 1) := dk_177 (dk_at dksX0_swap_0 8 rfl rfl)
abbrev cX0_maker : ByteArray := prog_1_method_65_code
def yX0_maker : MethodName := ⟨RX0, "maker", "(II)I"⟩
def dkwX0_maker_3 : List UInt8 := [184, 1, 142, 83, 42, 180, 0, 34, 89, 180, 1, 131, 4, 96, 181, 1, 131, 29, 172]
abbrev dktX0_maker_3 : List UInt8 := dkwX0_maker_3 ++ []
def dkwX0_maker_2 : List UInt8 := [180, 1, 136, 29, 27, 79, 42, 180, 0, 34, 180, 1, 139, 29, 28, 79, 42, 180, 0, 133, 29, 27, 29, 28]
abbrev dktX0_maker_2 : List UInt8 := dkwX0_maker_2 ++ dktX0_maker_3
def dkwX0_maker_1 : List UInt8 := [180, 1, 131, 16, 6, 160, 0, 6, 16, 254, 172, 42, 180, 0, 34, 180, 1, 131, 62, 42, 180, 0, 34]
abbrev dktX0_maker_1 : List UInt8 := dkwX0_maker_1 ++ dktX0_maker_2
def dkwX0_maker_0 : List UInt8 := [27, 184, 1, 133, 153, 0, 13, 28, 3, 16, 15, 184, 0, 112, 154, 0, 5, 2, 172, 42, 180, 0, 34]
abbrev dktX0_maker_0 : List UInt8 := dkwX0_maker_0 ++ dktX0_maker_1
theorem dksX0_maker_0 : cX0_maker.data.toList.drop 0 = dktX0_maker_0 := by decide +kernel
theorem dksX0_maker_1 : cX0_maker.data.toList.drop 23 = dktX0_maker_1 := dk_seg dksX0_maker_0 23 rfl rfl
theorem dksX0_maker_2 : cX0_maker.data.toList.drop 46 = dktX0_maker_2 := dk_seg dksX0_maker_1 23 rfl rfl
theorem dksX0_maker_3 : cX0_maker.data.toList.drop 70 = dktX0_maker_3 := dk_seg dksX0_maker_2 24 rfl rfl
theorem dX0_maker_0 : decode cX0_maker 0 = .ok (.iload_n 1, 1) := dk_27 (dk_at dksX0_maker_0 0 rfl rfl)
theorem dX0_maker_1 : decode cX0_maker 1 = .ok (.invokestatic 389, 3) := dk_184 1 133 (dk_at dksX0_maker_0 1 rfl rfl)
theorem dX0_maker_4 : decode cX0_maker 4 = .ok (.ifCond .eq 13, 3) := dk_153 0 13 (dk_at dksX0_maker_0 4 rfl rfl)
theorem dX0_maker_7 : decode cX0_maker 7 = .ok (.iload_n 2, 1) := dk_28 (dk_at dksX0_maker_0 7 rfl rfl)
theorem dX0_maker_8 : decode cX0_maker 8 = .ok (.iconst 0, 1) := dk_3 (dk_at dksX0_maker_0 8 rfl rfl)
theorem dX0_maker_9 : decode cX0_maker 9 = .ok (.bipush 15, 2) := dk_16 15 (dk_at dksX0_maker_0 9 rfl rfl)
theorem dX0_maker_11 : decode cX0_maker 11 = .ok (.invokestatic 112, 3) := dk_184 0 112 (dk_at dksX0_maker_0 11 rfl rfl)
theorem dX0_maker_14 : decode cX0_maker 14 = .ok (.ifCond .ne 5, 3) := dk_154 0 5 (dk_at dksX0_maker_0 14 rfl rfl)
theorem dX0_maker_17 : decode cX0_maker 17 = .ok (.iconst (-1), 1) := dk_2 (dk_at dksX0_maker_0 17 rfl rfl)
theorem dX0_maker_18 : decode cX0_maker 18 = .ok (.ireturn, 1) := dk_172 (dk_at dksX0_maker_0 18 rfl rfl)
theorem dX0_maker_19 : decode cX0_maker 19 = .ok (.aload_n 0, 1) := dk_42 (dk_at dksX0_maker_0 19 rfl rfl)
theorem dX0_maker_20 : decode cX0_maker 20 = .ok (.getfield 34, 3) := dk_180 0 34 (dk_at dksX0_maker_0 20 rfl rfl)
theorem dX0_maker_23 : decode cX0_maker 23 = .ok (.getfield 387, 3) := dk_180 1 131 (dk_at dksX0_maker_1 0 rfl rfl)
theorem dX0_maker_26 : decode cX0_maker 26 = .ok (.bipush 6, 2) := dk_16 6 (dk_at dksX0_maker_1 3 rfl rfl)
theorem dX0_maker_28 : decode cX0_maker 28 = .ok (.if_icmp .ne 6, 3) := dk_160 0 6 (dk_at dksX0_maker_1 5 rfl rfl)
theorem dX0_maker_31 : decode cX0_maker 31 = .ok (.bipush (-2), 2) := dk_16 254 (dk_at dksX0_maker_1 8 rfl rfl)
theorem dX0_maker_33 : decode cX0_maker 33 = .ok (.ireturn, 1) := dk_172 (dk_at dksX0_maker_1 10 rfl rfl)
theorem dX0_maker_34 : decode cX0_maker 34 = .ok (.aload_n 0, 1) := dk_42 (dk_at dksX0_maker_1 11 rfl rfl)
theorem dX0_maker_35 : decode cX0_maker 35 = .ok (.getfield 34, 3) := dk_180 0 34 (dk_at dksX0_maker_1 12 rfl rfl)
theorem dX0_maker_38 : decode cX0_maker 38 = .ok (.getfield 387, 3) := dk_180 1 131 (dk_at dksX0_maker_1 15 rfl rfl)
theorem dX0_maker_41 : decode cX0_maker 41 = .ok (.istore_n 3, 1) := dk_62 (dk_at dksX0_maker_1 18 rfl rfl)
theorem dX0_maker_42 : decode cX0_maker 42 = .ok (.aload_n 0, 1) := dk_42 (dk_at dksX0_maker_1 19 rfl rfl)
theorem dX0_maker_43 : decode cX0_maker 43 = .ok (.getfield 34, 3) := dk_180 0 34 (dk_at dksX0_maker_1 20 rfl rfl)
theorem dX0_maker_46 : decode cX0_maker 46 = .ok (.getfield 392, 3) := dk_180 1 136 (dk_at dksX0_maker_2 0 rfl rfl)
theorem dX0_maker_49 : decode cX0_maker 49 = .ok (.iload_n 3, 1) := dk_29 (dk_at dksX0_maker_2 3 rfl rfl)
theorem dX0_maker_50 : decode cX0_maker 50 = .ok (.iload_n 1, 1) := dk_27 (dk_at dksX0_maker_2 4 rfl rfl)
theorem dX0_maker_51 : decode cX0_maker 51 = .ok (.iastore, 1) := dk_79 (dk_at dksX0_maker_2 5 rfl rfl)
theorem dX0_maker_52 : decode cX0_maker 52 = .ok (.aload_n 0, 1) := dk_42 (dk_at dksX0_maker_2 6 rfl rfl)
theorem dX0_maker_53 : decode cX0_maker 53 = .ok (.getfield 34, 3) := dk_180 0 34 (dk_at dksX0_maker_2 7 rfl rfl)
theorem dX0_maker_56 : decode cX0_maker 56 = .ok (.getfield 395, 3) := dk_180 1 139 (dk_at dksX0_maker_2 10 rfl rfl)
theorem dX0_maker_59 : decode cX0_maker 59 = .ok (.iload_n 3, 1) := dk_29 (dk_at dksX0_maker_2 13 rfl rfl)
theorem dX0_maker_60 : decode cX0_maker 60 = .ok (.iload_n 2, 1) := dk_28 (dk_at dksX0_maker_2 14 rfl rfl)
theorem dX0_maker_61 : decode cX0_maker 61 = .ok (.iastore, 1) := dk_79 (dk_at dksX0_maker_2 15 rfl rfl)
theorem dX0_maker_62 : decode cX0_maker 62 = .ok (.aload_n 0, 1) := dk_42 (dk_at dksX0_maker_2 16 rfl rfl)
theorem dX0_maker_63 : decode cX0_maker 63 = .ok (.getfield 133, 3) := dk_180 0 133 (dk_at dksX0_maker_2 17 rfl rfl)
theorem dX0_maker_66 : decode cX0_maker 66 = .ok (.iload_n 3, 1) := dk_29 (dk_at dksX0_maker_2 20 rfl rfl)
theorem dX0_maker_67 : decode cX0_maker 67 = .ok (.iload_n 1, 1) := dk_27 (dk_at dksX0_maker_2 21 rfl rfl)
theorem dX0_maker_68 : decode cX0_maker 68 = .ok (.iload_n 3, 1) := dk_29 (dk_at dksX0_maker_2 22 rfl rfl)
theorem dX0_maker_69 : decode cX0_maker 69 = .ok (.iload_n 2, 1) := dk_28 (dk_at dksX0_maker_2 23 rfl rfl)
theorem dX0_maker_70 : decode cX0_maker 70 = .ok (.invokestatic 398, 3) := dk_184 1 142 (dk_at dksX0_maker_3 0 rfl rfl)
theorem dX0_maker_73 : decode cX0_maker 73 = .ok (.aastore, 1) := dk_83 (dk_at dksX0_maker_3 3 rfl rfl)
theorem dX0_maker_74 : decode cX0_maker 74 = .ok (.aload_n 0, 1) := dk_42 (dk_at dksX0_maker_3 4 rfl rfl)
theorem dX0_maker_75 : decode cX0_maker 75 = .ok (.getfield 34, 3) := dk_180 0 34 (dk_at dksX0_maker_3 5 rfl rfl)
theorem dX0_maker_78 : decode cX0_maker 78 = .ok (.dup, 1) := dk_89 (dk_at dksX0_maker_3 8 rfl rfl)
theorem dX0_maker_79 : decode cX0_maker 79 = .ok (.getfield 387, 3) := dk_180 1 131 (dk_at dksX0_maker_3 9 rfl rfl)
theorem dX0_maker_82 : decode cX0_maker 82 = .ok (.iconst 1, 1) := dk_4 (dk_at dksX0_maker_3 12 rfl rfl)
theorem dX0_maker_83 : decode cX0_maker 83 = .ok (.iadd, 1) := dk_96 (dk_at dksX0_maker_3 13 rfl rfl)
theorem dX0_maker_84 : decode cX0_maker 84 = .ok (.putfield 387, 3) := dk_181 1 131 (dk_at dksX0_maker_3 14 rfl rfl)
theorem dX0_maker_87 : decode cX0_maker 87 = .ok (.iload_n 3, 1) := dk_29 (dk_at dksX0_maker_3 17 rfl rfl)
theorem dX0_maker_88 : decode cX0_maker 88 = .ok (.ireturn, 1) := dk_172 (dk_at dksX0_maker_3 18 rfl rfl)
abbrev cX0_isKind : ByteArray := prog_1_method_64_code
def yX0_isKind : MethodName := ⟨RX0, "isKind", "(I)Z"⟩
def dkwX0_isKind_0 : List UInt8 := [26, 3, 8, 184, 0, 112, 172]
abbrev dktX0_isKind_0 : List UInt8 := dkwX0_isKind_0 ++ []
theorem dksX0_isKind_0 : cX0_isKind.data.toList.drop 0 = dktX0_isKind_0 := by decide +kernel
theorem dX0_isKind_0 : decode cX0_isKind 0 = .ok (.iload_n 0, 1) := dk_26 (dk_at dksX0_isKind_0 0 rfl rfl)
theorem dX0_isKind_1 : decode cX0_isKind 1 = .ok (.iconst 0, 1) := dk_3 (dk_at dksX0_isKind_0 1 rfl rfl)
theorem dX0_isKind_2 : decode cX0_isKind 2 = .ok (.iconst 5, 1) := dk_8 (dk_at dksX0_isKind_0 2 rfl rfl)
theorem dX0_isKind_3 : decode cX0_isKind 3 = .ok (.invokestatic 112, 3) := dk_184 0 112 (dk_at dksX0_isKind_0 3 rfl rfl)
theorem dX0_isKind_6 : decode cX0_isKind 6 = .ok (.ireturn, 1) := dk_172 (dk_at dksX0_isKind_0 6 rfl rfl)
abbrev cX0_made : ByteArray := prog_1_method_3_code
def yX0_made : MethodName := ⟨RX0, "made", "(III)LCoarserOrders$Plain;"⟩
def dkwX0_made_4 : List UInt8 := [183, 0, 30, 176, 187, 0, 31, 89, 27, 28, 183, 0, 33, 176]
abbrev dktX0_made_4 : List UInt8 := dkwX0_made_4 ++ []
def dkwX0_made_3 : List UInt8 := [27, 28, 183, 0, 24, 176, 187, 0, 25, 89, 27, 28, 183, 0, 27, 176, 187, 0, 28, 89, 27, 28]
abbrev dktX0_made_3 : List UInt8 := dkwX0_made_3 ++ dktX0_made_4
def dkwX0_made_2 : List UInt8 := [187, 0, 13, 89, 27, 28, 183, 0, 15, 176, 187, 0, 19, 89, 27, 28, 183, 0, 21, 176, 187, 0, 22, 89]
abbrev dktX0_made_2 : List UInt8 := dkwX0_made_2 ++ dktX0_made_3
def dkwX0_made_1 : List UInt8 := [170, 0, 0, 0, 0, 0, 85, 0, 0, 0, 1, 0, 0, 0, 5, 0, 0, 0, 35, 0, 0, 0, 45, 0, 0, 0, 55, 0, 0, 0, 65, 0, 0, 0, 75]
abbrev dktX0_made_1 : List UInt8 := dkwX0_made_1 ++ dktX0_made_2
def dkwX0_made_0 : List UInt8 := [26]
abbrev dktX0_made_0 : List UInt8 := dkwX0_made_0 ++ dktX0_made_1
theorem dksX0_made_0 : cX0_made.data.toList.drop 0 = dktX0_made_0 := by decide +kernel
theorem dksX0_made_1 : cX0_made.data.toList.drop 1 = dktX0_made_1 := dk_seg dksX0_made_0 1 rfl rfl
theorem dksX0_made_2 : cX0_made.data.toList.drop 36 = dktX0_made_2 := dk_seg dksX0_made_1 35 rfl rfl
theorem dksX0_made_3 : cX0_made.data.toList.drop 60 = dktX0_made_3 := dk_seg dksX0_made_2 24 rfl rfl
theorem dksX0_made_4 : cX0_made.data.toList.drop 82 = dktX0_made_4 := dk_seg dksX0_made_3 22 rfl rfl
theorem dX0_made_0 : decode cX0_made 0 = .ok (.iload_n 0, 1) := dk_26 (dk_at dksX0_made_0 0 rfl rfl)
theorem dX0_made_1 : decode cX0_made 1 = .ok (.tableswitch 85 1 5 #[35, 45, 55, 65, 75], 35) := by decide +kernel
theorem dX0_made_36 : decode cX0_made 36 = .ok (.new 13, 3) := dk_187 0 13 (dk_at dksX0_made_2 0 rfl rfl)
theorem dX0_made_39 : decode cX0_made 39 = .ok (.dup, 1) := dk_89 (dk_at dksX0_made_2 3 rfl rfl)
theorem dX0_made_40 : decode cX0_made 40 = .ok (.iload_n 1, 1) := dk_27 (dk_at dksX0_made_2 4 rfl rfl)
theorem dX0_made_41 : decode cX0_made 41 = .ok (.iload_n 2, 1) := dk_28 (dk_at dksX0_made_2 5 rfl rfl)
theorem dX0_made_42 : decode cX0_made 42 = .ok (.invokespecial 15, 3) := dk_183 0 15 (dk_at dksX0_made_2 6 rfl rfl)
theorem dX0_made_45 : decode cX0_made 45 = .ok (.areturn, 1) := dk_176 (dk_at dksX0_made_2 9 rfl rfl)
theorem dX0_made_46 : decode cX0_made 46 = .ok (.new 19, 3) := dk_187 0 19 (dk_at dksX0_made_2 10 rfl rfl)
theorem dX0_made_49 : decode cX0_made 49 = .ok (.dup, 1) := dk_89 (dk_at dksX0_made_2 13 rfl rfl)
theorem dX0_made_50 : decode cX0_made 50 = .ok (.iload_n 1, 1) := dk_27 (dk_at dksX0_made_2 14 rfl rfl)
theorem dX0_made_51 : decode cX0_made 51 = .ok (.iload_n 2, 1) := dk_28 (dk_at dksX0_made_2 15 rfl rfl)
theorem dX0_made_52 : decode cX0_made 52 = .ok (.invokespecial 21, 3) := dk_183 0 21 (dk_at dksX0_made_2 16 rfl rfl)
theorem dX0_made_55 : decode cX0_made 55 = .ok (.areturn, 1) := dk_176 (dk_at dksX0_made_2 19 rfl rfl)
theorem dX0_made_56 : decode cX0_made 56 = .ok (.new 22, 3) := dk_187 0 22 (dk_at dksX0_made_2 20 rfl rfl)
theorem dX0_made_59 : decode cX0_made 59 = .ok (.dup, 1) := dk_89 (dk_at dksX0_made_2 23 rfl rfl)
theorem dX0_made_60 : decode cX0_made 60 = .ok (.iload_n 1, 1) := dk_27 (dk_at dksX0_made_3 0 rfl rfl)
theorem dX0_made_61 : decode cX0_made 61 = .ok (.iload_n 2, 1) := dk_28 (dk_at dksX0_made_3 1 rfl rfl)
theorem dX0_made_62 : decode cX0_made 62 = .ok (.invokespecial 24, 3) := dk_183 0 24 (dk_at dksX0_made_3 2 rfl rfl)
theorem dX0_made_65 : decode cX0_made 65 = .ok (.areturn, 1) := dk_176 (dk_at dksX0_made_3 5 rfl rfl)
theorem dX0_made_66 : decode cX0_made 66 = .ok (.new 25, 3) := dk_187 0 25 (dk_at dksX0_made_3 6 rfl rfl)
theorem dX0_made_69 : decode cX0_made 69 = .ok (.dup, 1) := dk_89 (dk_at dksX0_made_3 9 rfl rfl)
theorem dX0_made_70 : decode cX0_made 70 = .ok (.iload_n 1, 1) := dk_27 (dk_at dksX0_made_3 10 rfl rfl)
theorem dX0_made_71 : decode cX0_made 71 = .ok (.iload_n 2, 1) := dk_28 (dk_at dksX0_made_3 11 rfl rfl)
theorem dX0_made_72 : decode cX0_made 72 = .ok (.invokespecial 27, 3) := dk_183 0 27 (dk_at dksX0_made_3 12 rfl rfl)
theorem dX0_made_75 : decode cX0_made 75 = .ok (.areturn, 1) := dk_176 (dk_at dksX0_made_3 15 rfl rfl)
theorem dX0_made_76 : decode cX0_made 76 = .ok (.new 28, 3) := dk_187 0 28 (dk_at dksX0_made_3 16 rfl rfl)
theorem dX0_made_79 : decode cX0_made 79 = .ok (.dup, 1) := dk_89 (dk_at dksX0_made_3 19 rfl rfl)
theorem dX0_made_80 : decode cX0_made 80 = .ok (.iload_n 1, 1) := dk_27 (dk_at dksX0_made_3 20 rfl rfl)
theorem dX0_made_81 : decode cX0_made 81 = .ok (.iload_n 2, 1) := dk_28 (dk_at dksX0_made_3 21 rfl rfl)
theorem dX0_made_82 : decode cX0_made 82 = .ok (.invokespecial 30, 3) := dk_183 0 30 (dk_at dksX0_made_4 0 rfl rfl)
theorem dX0_made_85 : decode cX0_made 85 = .ok (.areturn, 1) := dk_176 (dk_at dksX0_made_4 3 rfl rfl)
theorem dX0_made_86 : decode cX0_made 86 = .ok (.new 31, 3) := dk_187 0 31 (dk_at dksX0_made_4 4 rfl rfl)
theorem dX0_made_89 : decode cX0_made 89 = .ok (.dup, 1) := dk_89 (dk_at dksX0_made_4 7 rfl rfl)
theorem dX0_made_90 : decode cX0_made 90 = .ok (.iload_n 1, 1) := dk_27 (dk_at dksX0_made_4 8 rfl rfl)
theorem dX0_made_91 : decode cX0_made 91 = .ok (.iload_n 2, 1) := dk_28 (dk_at dksX0_made_4 9 rfl rfl)
theorem dX0_made_92 : decode cX0_made 92 = .ok (.invokespecial 33, 3) := dk_183 0 33 (dk_at dksX0_made_4 10 rfl rfl)
theorem dX0_made_95 : decode cX0_made 95 = .ok (.areturn, 1) := dk_176 (dk_at dksX0_made_4 13 rfl rfl)
abbrev cX0_makerIs : ByteArray := prog_1_method_68_code
def yX0_makerIs : MethodName := ⟨RX0, "makerIs", "(II)I"⟩
def dkwX0_makerIs_3 : List UInt8 := [180, 0, 133, 27, 50, 182, 1, 157, 184, 0, 232, 172, 2, 172]
abbrev dktX0_makerIs_3 : List UInt8 := dkwX0_makerIs_3 ++ []
def dkwX0_makerIs_2 : List UInt8 := [42, 180, 0, 133, 27, 50, 182, 1, 153, 172, 42, 180, 0, 133, 27, 50, 182, 1, 155, 172, 42, 42]
abbrev dktX0_makerIs_2 : List UInt8 := dkwX0_makerIs_2 ++ dktX0_makerIs_3
def dkwX0_makerIs_1 : List UInt8 := [170, 0, 0, 0, 59, 0, 0, 0, 0, 0, 0, 0, 2, 0, 0, 0, 25, 0, 0, 0, 35, 0, 0, 0, 45]
abbrev dktX0_makerIs_1 : List UInt8 := dkwX0_makerIs_1 ++ dktX0_makerIs_2
def dkwX0_makerIs_0 : List UInt8 := [42, 27, 182, 1, 150, 154, 0, 5, 2, 172, 28]
abbrev dktX0_makerIs_0 : List UInt8 := dkwX0_makerIs_0 ++ dktX0_makerIs_1
theorem dksX0_makerIs_0 : cX0_makerIs.data.toList.drop 0 = dktX0_makerIs_0 := by decide +kernel
theorem dksX0_makerIs_1 : cX0_makerIs.data.toList.drop 11 = dktX0_makerIs_1 := dk_seg dksX0_makerIs_0 11 rfl rfl
theorem dksX0_makerIs_2 : cX0_makerIs.data.toList.drop 36 = dktX0_makerIs_2 := dk_seg dksX0_makerIs_1 25 rfl rfl
theorem dksX0_makerIs_3 : cX0_makerIs.data.toList.drop 58 = dktX0_makerIs_3 := dk_seg dksX0_makerIs_2 22 rfl rfl
theorem dX0_makerIs_0 : decode cX0_makerIs 0 = .ok (.aload_n 0, 1) := dk_42 (dk_at dksX0_makerIs_0 0 rfl rfl)
theorem dX0_makerIs_1 : decode cX0_makerIs 1 = .ok (.iload_n 1, 1) := dk_27 (dk_at dksX0_makerIs_0 1 rfl rfl)
theorem dX0_makerIs_2 : decode cX0_makerIs 2 = .ok (.invokevirtual 406, 3) := dk_182 1 150 (dk_at dksX0_makerIs_0 2 rfl rfl)
theorem dX0_makerIs_5 : decode cX0_makerIs 5 = .ok (.ifCond .ne 5, 3) := dk_154 0 5 (dk_at dksX0_makerIs_0 5 rfl rfl)
theorem dX0_makerIs_8 : decode cX0_makerIs 8 = .ok (.iconst (-1), 1) := dk_2 (dk_at dksX0_makerIs_0 8 rfl rfl)
theorem dX0_makerIs_9 : decode cX0_makerIs 9 = .ok (.ireturn, 1) := dk_172 (dk_at dksX0_makerIs_0 9 rfl rfl)
theorem dX0_makerIs_10 : decode cX0_makerIs 10 = .ok (.iload_n 2, 1) := dk_28 (dk_at dksX0_makerIs_0 10 rfl rfl)
theorem dX0_makerIs_11 : decode cX0_makerIs 11 = .ok (.tableswitch 59 0 2 #[25, 35, 45], 25) := by decide +kernel
theorem dX0_makerIs_36 : decode cX0_makerIs 36 = .ok (.aload_n 0, 1) := dk_42 (dk_at dksX0_makerIs_2 0 rfl rfl)
theorem dX0_makerIs_37 : decode cX0_makerIs 37 = .ok (.getfield 133, 3) := dk_180 0 133 (dk_at dksX0_makerIs_2 1 rfl rfl)
theorem dX0_makerIs_40 : decode cX0_makerIs 40 = .ok (.iload_n 1, 1) := dk_27 (dk_at dksX0_makerIs_2 4 rfl rfl)
theorem dX0_makerIs_41 : decode cX0_makerIs 41 = .ok (.aaload, 1) := dk_50 (dk_at dksX0_makerIs_2 5 rfl rfl)
theorem dX0_makerIs_42 : decode cX0_makerIs 42 = .ok (.invokevirtual 409, 3) := dk_182 1 153 (dk_at dksX0_makerIs_2 6 rfl rfl)
theorem dX0_makerIs_45 : decode cX0_makerIs 45 = .ok (.ireturn, 1) := dk_172 (dk_at dksX0_makerIs_2 9 rfl rfl)
theorem dX0_makerIs_46 : decode cX0_makerIs 46 = .ok (.aload_n 0, 1) := dk_42 (dk_at dksX0_makerIs_2 10 rfl rfl)
theorem dX0_makerIs_47 : decode cX0_makerIs 47 = .ok (.getfield 133, 3) := dk_180 0 133 (dk_at dksX0_makerIs_2 11 rfl rfl)
theorem dX0_makerIs_50 : decode cX0_makerIs 50 = .ok (.iload_n 1, 1) := dk_27 (dk_at dksX0_makerIs_2 14 rfl rfl)
theorem dX0_makerIs_51 : decode cX0_makerIs 51 = .ok (.aaload, 1) := dk_50 (dk_at dksX0_makerIs_2 15 rfl rfl)
theorem dX0_makerIs_52 : decode cX0_makerIs 52 = .ok (.invokevirtual 411, 3) := dk_182 1 155 (dk_at dksX0_makerIs_2 16 rfl rfl)
theorem dX0_makerIs_55 : decode cX0_makerIs 55 = .ok (.ireturn, 1) := dk_172 (dk_at dksX0_makerIs_2 19 rfl rfl)
theorem dX0_makerIs_56 : decode cX0_makerIs 56 = .ok (.aload_n 0, 1) := dk_42 (dk_at dksX0_makerIs_2 20 rfl rfl)
theorem dX0_makerIs_57 : decode cX0_makerIs 57 = .ok (.aload_n 0, 1) := dk_42 (dk_at dksX0_makerIs_2 21 rfl rfl)
theorem dX0_makerIs_58 : decode cX0_makerIs 58 = .ok (.getfield 133, 3) := dk_180 0 133 (dk_at dksX0_makerIs_3 0 rfl rfl)
theorem dX0_makerIs_61 : decode cX0_makerIs 61 = .ok (.iload_n 1, 1) := dk_27 (dk_at dksX0_makerIs_3 3 rfl rfl)
theorem dX0_makerIs_62 : decode cX0_makerIs 62 = .ok (.aaload, 1) := dk_50 (dk_at dksX0_makerIs_3 4 rfl rfl)
theorem dX0_makerIs_63 : decode cX0_makerIs 63 = .ok (.invokevirtual 413, 3) := dk_182 1 157 (dk_at dksX0_makerIs_3 5 rfl rfl)
theorem dX0_makerIs_66 : decode cX0_makerIs 66 = .ok (.invokestatic 232, 3) := dk_184 0 232 (dk_at dksX0_makerIs_3 8 rfl rfl)
theorem dX0_makerIs_69 : decode cX0_makerIs 69 = .ok (.ireturn, 1) := dk_172 (dk_at dksX0_makerIs_3 11 rfl rfl)
theorem dX0_makerIs_70 : decode cX0_makerIs 70 = .ok (.iconst (-1), 1) := dk_2 (dk_at dksX0_makerIs_3 12 rfl rfl)
theorem dX0_makerIs_71 : decode cX0_makerIs 71 = .ok (.ireturn, 1) := dk_172 (dk_at dksX0_makerIs_3 13 rfl rfl)
abbrev cX0_isMaker : ByteArray := prog_1_method_63_code
def yX0_isMaker : MethodName := ⟨RX0, "isMaker", "(I)Z"⟩
def dkwX0_isMaker_0 : List UInt8 := [27, 3, 42, 180, 0, 34, 180, 1, 131, 4, 100, 184, 0, 112, 172]
abbrev dktX0_isMaker_0 : List UInt8 := dkwX0_isMaker_0 ++ []
theorem dksX0_isMaker_0 : cX0_isMaker.data.toList.drop 0 = dktX0_isMaker_0 := by decide +kernel
theorem dX0_isMaker_0 : decode cX0_isMaker 0 = .ok (.iload_n 1, 1) := dk_27 (dk_at dksX0_isMaker_0 0 rfl rfl)
theorem dX0_isMaker_1 : decode cX0_isMaker 1 = .ok (.iconst 0, 1) := dk_3 (dk_at dksX0_isMaker_0 1 rfl rfl)
theorem dX0_isMaker_2 : decode cX0_isMaker 2 = .ok (.aload_n 0, 1) := dk_42 (dk_at dksX0_isMaker_0 2 rfl rfl)
theorem dX0_isMaker_3 : decode cX0_isMaker 3 = .ok (.getfield 34, 3) := dk_180 0 34 (dk_at dksX0_isMaker_0 3 rfl rfl)
theorem dX0_isMaker_6 : decode cX0_isMaker 6 = .ok (.getfield 387, 3) := dk_180 1 131 (dk_at dksX0_isMaker_0 6 rfl rfl)
theorem dX0_isMaker_9 : decode cX0_isMaker 9 = .ok (.iconst 1, 1) := dk_4 (dk_at dksX0_isMaker_0 9 rfl rfl)
theorem dX0_isMaker_10 : decode cX0_isMaker 10 = .ok (.isub, 1) := dk_100 (dk_at dksX0_isMaker_0 10 rfl rfl)
theorem dX0_isMaker_11 : decode cX0_isMaker 11 = .ok (.invokestatic 112, 3) := dk_184 0 112 (dk_at dksX0_isMaker_0 11 rfl rfl)
theorem dX0_isMaker_14 : decode cX0_isMaker 14 = .ok (.ireturn, 1) := dk_172 (dk_at dksX0_isMaker_0 14 rfl rfl)
abbrev cX0_takenBy : ByteArray := prog_1_method_66_code
def yX0_takenBy : MethodName := ⟨RX0, "takenBy", "(LCoarserOrders$Plain;)J"⟩
def dkwX0_takenBy_1 : List UInt8 := [182, 1, 146, 153, 0, 10, 10, 21, 4, 121, 167, 0, 4, 9, 129, 65, 132, 4, 1, 167, 255, 218, 32, 173]
abbrev dktX0_takenBy_1 : List UInt8 := dkwX0_takenBy_1 ++ []
def dkwX0_takenBy_0 : List UInt8 := [9, 65, 3, 54, 4, 21, 4, 42, 180, 0, 44, 190, 162, 0, 34, 32, 43, 42, 180, 0, 44, 21, 4, 50]
abbrev dktX0_takenBy_0 : List UInt8 := dkwX0_takenBy_0 ++ dktX0_takenBy_1
theorem dksX0_takenBy_0 : cX0_takenBy.data.toList.drop 0 = dktX0_takenBy_0 := by decide +kernel
theorem dksX0_takenBy_1 : cX0_takenBy.data.toList.drop 24 = dktX0_takenBy_1 := dk_seg dksX0_takenBy_0 24 rfl rfl
theorem dX0_takenBy_0 : decode cX0_takenBy 0 = .ok (.lconst 0, 1) := dk_9 (dk_at dksX0_takenBy_0 0 rfl rfl)
theorem dX0_takenBy_1 : decode cX0_takenBy 1 = .ok (.lstore_n 2, 1) := dk_65 (dk_at dksX0_takenBy_0 1 rfl rfl)
theorem dX0_takenBy_2 : decode cX0_takenBy 2 = .ok (.iconst 0, 1) := dk_3 (dk_at dksX0_takenBy_0 2 rfl rfl)
theorem dX0_takenBy_3 : decode cX0_takenBy 3 = .ok (.istore 4, 2) := dk_54 4 (dk_at dksX0_takenBy_0 3 rfl rfl)
theorem dX0_takenBy_5 : decode cX0_takenBy 5 = .ok (.iload 4, 2) := dk_21 4 (dk_at dksX0_takenBy_0 5 rfl rfl)
theorem dX0_takenBy_7 : decode cX0_takenBy 7 = .ok (.aload_n 0, 1) := dk_42 (dk_at dksX0_takenBy_0 7 rfl rfl)
theorem dX0_takenBy_8 : decode cX0_takenBy 8 = .ok (.getfield 44, 3) := dk_180 0 44 (dk_at dksX0_takenBy_0 8 rfl rfl)
theorem dX0_takenBy_11 : decode cX0_takenBy 11 = .ok (.arraylength, 1) := dk_190 (dk_at dksX0_takenBy_0 11 rfl rfl)
theorem dX0_takenBy_12 : decode cX0_takenBy 12 = .ok (.if_icmp .ge 34, 3) := dk_162 0 34 (dk_at dksX0_takenBy_0 12 rfl rfl)
theorem dX0_takenBy_15 : decode cX0_takenBy 15 = .ok (.lload_n 2, 1) := dk_32 (dk_at dksX0_takenBy_0 15 rfl rfl)
theorem dX0_takenBy_16 : decode cX0_takenBy 16 = .ok (.aload_n 1, 1) := dk_43 (dk_at dksX0_takenBy_0 16 rfl rfl)
theorem dX0_takenBy_17 : decode cX0_takenBy 17 = .ok (.aload_n 0, 1) := dk_42 (dk_at dksX0_takenBy_0 17 rfl rfl)
theorem dX0_takenBy_18 : decode cX0_takenBy 18 = .ok (.getfield 44, 3) := dk_180 0 44 (dk_at dksX0_takenBy_0 18 rfl rfl)
theorem dX0_takenBy_21 : decode cX0_takenBy 21 = .ok (.iload 4, 2) := dk_21 4 (dk_at dksX0_takenBy_0 21 rfl rfl)
theorem dX0_takenBy_23 : decode cX0_takenBy 23 = .ok (.aaload, 1) := dk_50 (dk_at dksX0_takenBy_0 23 rfl rfl)
theorem dX0_takenBy_24 : decode cX0_takenBy 24 = .ok (.invokevirtual 402, 3) := dk_182 1 146 (dk_at dksX0_takenBy_1 0 rfl rfl)
theorem dX0_takenBy_27 : decode cX0_takenBy 27 = .ok (.ifCond .eq 10, 3) := dk_153 0 10 (dk_at dksX0_takenBy_1 3 rfl rfl)
theorem dX0_takenBy_30 : decode cX0_takenBy 30 = .ok (.lconst 1, 1) := dk_10 (dk_at dksX0_takenBy_1 6 rfl rfl)
theorem dX0_takenBy_31 : decode cX0_takenBy 31 = .ok (.iload 4, 2) := dk_21 4 (dk_at dksX0_takenBy_1 7 rfl rfl)
theorem dX0_takenBy_33 : decode cX0_takenBy 33 = .ok (.lshl, 1) := dk_121 (dk_at dksX0_takenBy_1 9 rfl rfl)
theorem dX0_takenBy_34 : decode cX0_takenBy 34 = .ok (.goto 4, 3) := dk_167 0 4 (dk_at dksX0_takenBy_1 10 rfl rfl)
theorem dX0_takenBy_37 : decode cX0_takenBy 37 = .ok (.lconst 0, 1) := dk_9 (dk_at dksX0_takenBy_1 13 rfl rfl)
theorem dX0_takenBy_38 : decode cX0_takenBy 38 = .ok (.lor, 1) := dk_129 (dk_at dksX0_takenBy_1 14 rfl rfl)
theorem dX0_takenBy_39 : decode cX0_takenBy 39 = .ok (.lstore_n 2, 1) := dk_65 (dk_at dksX0_takenBy_1 15 rfl rfl)
theorem dX0_takenBy_40 : decode cX0_takenBy 40 = .ok (.iinc 4 1, 3) := dk_132 4 1 (dk_at dksX0_takenBy_1 16 rfl rfl)
theorem dX0_takenBy_43 : decode cX0_takenBy 43 = .ok (.goto (-38), 3) := dk_167 255 218 (dk_at dksX0_takenBy_1 19 rfl rfl)
theorem dX0_takenBy_46 : decode cX0_takenBy 46 = .ok (.lload_n 2, 1) := dk_32 (dk_at dksX0_takenBy_1 22 rfl rfl)
theorem dX0_takenBy_47 : decode cX0_takenBy 47 = .ok (.lreturn, 1) := dk_173 (dk_at dksX0_takenBy_1 23 rfl rfl)
abbrev cX0_make : ByteArray := prog_1_method_71_code
def yX0_make : MethodName := ⟨RX0, "make", "(II)I"⟩
def dkwX0_make_1 : List UInt8 := [182, 1, 157, 28, 182, 1, 167, 167, 0, 4, 2, 172]
abbrev dktX0_make_1 : List UInt8 := dkwX0_make_1 ++ []
def dkwX0_make_0 : List UInt8 := [42, 27, 182, 1, 150, 153, 0, 28, 28, 184, 1, 164, 153, 0, 21, 42, 42, 42, 180, 0, 133, 27, 50]
abbrev dktX0_make_0 : List UInt8 := dkwX0_make_0 ++ dktX0_make_1
theorem dksX0_make_0 : cX0_make.data.toList.drop 0 = dktX0_make_0 := by decide +kernel
theorem dksX0_make_1 : cX0_make.data.toList.drop 23 = dktX0_make_1 := dk_seg dksX0_make_0 23 rfl rfl
theorem dX0_make_0 : decode cX0_make 0 = .ok (.aload_n 0, 1) := dk_42 (dk_at dksX0_make_0 0 rfl rfl)
theorem dX0_make_1 : decode cX0_make 1 = .ok (.iload_n 1, 1) := dk_27 (dk_at dksX0_make_0 1 rfl rfl)
theorem dX0_make_2 : decode cX0_make 2 = .ok (.invokevirtual 406, 3) := dk_182 1 150 (dk_at dksX0_make_0 2 rfl rfl)
theorem dX0_make_5 : decode cX0_make 5 = .ok (.ifCond .eq 28, 3) := dk_153 0 28 (dk_at dksX0_make_0 5 rfl rfl)
theorem dX0_make_8 : decode cX0_make 8 = .ok (.iload_n 2, 1) := dk_28 (dk_at dksX0_make_0 8 rfl rfl)
theorem dX0_make_9 : decode cX0_make 9 = .ok (.invokestatic 420, 3) := dk_184 1 164 (dk_at dksX0_make_0 9 rfl rfl)
theorem dX0_make_12 : decode cX0_make 12 = .ok (.ifCond .eq 21, 3) := dk_153 0 21 (dk_at dksX0_make_0 12 rfl rfl)
theorem dX0_make_15 : decode cX0_make 15 = .ok (.aload_n 0, 1) := dk_42 (dk_at dksX0_make_0 15 rfl rfl)
theorem dX0_make_16 : decode cX0_make 16 = .ok (.aload_n 0, 1) := dk_42 (dk_at dksX0_make_0 16 rfl rfl)
theorem dX0_make_17 : decode cX0_make 17 = .ok (.aload_n 0, 1) := dk_42 (dk_at dksX0_make_0 17 rfl rfl)
theorem dX0_make_18 : decode cX0_make 18 = .ok (.getfield 133, 3) := dk_180 0 133 (dk_at dksX0_make_0 18 rfl rfl)
theorem dX0_make_21 : decode cX0_make 21 = .ok (.iload_n 1, 1) := dk_27 (dk_at dksX0_make_0 21 rfl rfl)
theorem dX0_make_22 : decode cX0_make 22 = .ok (.aaload, 1) := dk_50 (dk_at dksX0_make_0 22 rfl rfl)
theorem dX0_make_23 : decode cX0_make 23 = .ok (.invokevirtual 413, 3) := dk_182 1 157 (dk_at dksX0_make_1 0 rfl rfl)
theorem dX0_make_26 : decode cX0_make 26 = .ok (.iload_n 2, 1) := dk_28 (dk_at dksX0_make_1 3 rfl rfl)
theorem dX0_make_27 : decode cX0_make 27 = .ok (.invokevirtual 423, 3) := dk_182 1 167 (dk_at dksX0_make_1 4 rfl rfl)
theorem dX0_make_30 : decode cX0_make 30 = .ok (.goto 4, 3) := dk_167 0 4 (dk_at dksX0_make_1 7 rfl rfl)
theorem dX0_make_33 : decode cX0_make 33 = .ok (.iconst (-1), 1) := dk_2 (dk_at dksX0_make_1 10 rfl rfl)
theorem dX0_make_34 : decode cX0_make 34 = .ok (.ireturn, 1) := dk_172 (dk_at dksX0_make_1 11 rfl rfl)
abbrev cX0_isHow : ByteArray := prog_1_method_70_code
def yX0_isHow : MethodName := ⟨RX0, "isHow", "(I)Z"⟩
def dkwX0_isHow_0 : List UInt8 := [26, 3, 5, 184, 0, 112, 172]
abbrev dktX0_isHow_0 : List UInt8 := dkwX0_isHow_0 ++ []
theorem dksX0_isHow_0 : cX0_isHow.data.toList.drop 0 = dktX0_isHow_0 := by decide +kernel
theorem dX0_isHow_0 : decode cX0_isHow 0 = .ok (.iload_n 0, 1) := dk_26 (dk_at dksX0_isHow_0 0 rfl rfl)
theorem dX0_isHow_1 : decode cX0_isHow 1 = .ok (.iconst 0, 1) := dk_3 (dk_at dksX0_isHow_0 1 rfl rfl)
theorem dX0_isHow_2 : decode cX0_isHow 2 = .ok (.iconst 2, 1) := dk_5 (dk_at dksX0_isHow_0 2 rfl rfl)
theorem dX0_isHow_3 : decode cX0_isHow 3 = .ok (.invokestatic 112, 3) := dk_184 0 112 (dk_at dksX0_isHow_0 3 rfl rfl)
theorem dX0_isHow_6 : decode cX0_isHow 6 = .ok (.ireturn, 1) := dk_172 (dk_at dksX0_isHow_0 6 rfl rfl)
abbrev cX0_comes : ByteArray := prog_1_method_69_code
def yX0_comes : MethodName := ⟨RX0, "comes", "(JI)I"⟩
def dkwX0_comes_2 : List UInt8 := [22, 4, 127, 181, 0, 229, 42, 182, 1, 121, 172]
abbrev dktX0_comes_2 : List UInt8 := dkwX0_comes_2 ++ []
def dkwX0_comes_1 : List UInt8 := [160, 0, 16, 42, 180, 0, 34, 180, 0, 229, 22, 4, 129, 167, 0, 13, 42, 180, 0, 34, 180, 0, 229]
abbrev dktX0_comes_1 : List UInt8 := dkwX0_comes_1 ++ dktX0_comes_2
def dkwX0_comes_0 : List UInt8 := [42, 31, 182, 1, 161, 55, 4, 42, 180, 0, 34, 29, 154, 0, 8, 22, 4, 167, 0, 31, 29, 4]
abbrev dktX0_comes_0 : List UInt8 := dkwX0_comes_0 ++ dktX0_comes_1
theorem dksX0_comes_0 : cX0_comes.data.toList.drop 0 = dktX0_comes_0 := by decide +kernel
theorem dksX0_comes_1 : cX0_comes.data.toList.drop 22 = dktX0_comes_1 := dk_seg dksX0_comes_0 22 rfl rfl
theorem dksX0_comes_2 : cX0_comes.data.toList.drop 45 = dktX0_comes_2 := dk_seg dksX0_comes_1 23 rfl rfl
theorem dX0_comes_0 : decode cX0_comes 0 = .ok (.aload_n 0, 1) := dk_42 (dk_at dksX0_comes_0 0 rfl rfl)
theorem dX0_comes_1 : decode cX0_comes 1 = .ok (.lload_n 1, 1) := dk_31 (dk_at dksX0_comes_0 1 rfl rfl)
theorem dX0_comes_2 : decode cX0_comes 2 = .ok (.invokevirtual 417, 3) := dk_182 1 161 (dk_at dksX0_comes_0 2 rfl rfl)
theorem dX0_comes_5 : decode cX0_comes 5 = .ok (.lstore 4, 2) := dk_55 4 (dk_at dksX0_comes_0 5 rfl rfl)
theorem dX0_comes_7 : decode cX0_comes 7 = .ok (.aload_n 0, 1) := dk_42 (dk_at dksX0_comes_0 7 rfl rfl)
theorem dX0_comes_8 : decode cX0_comes 8 = .ok (.getfield 34, 3) := dk_180 0 34 (dk_at dksX0_comes_0 8 rfl rfl)
theorem dX0_comes_11 : decode cX0_comes 11 = .ok (.iload_n 3, 1) := dk_29 (dk_at dksX0_comes_0 11 rfl rfl)
theorem dX0_comes_12 : decode cX0_comes 12 = .ok (.ifCond .ne 8, 3) := dk_154 0 8 (dk_at dksX0_comes_0 12 rfl rfl)
theorem dX0_comes_15 : decode cX0_comes 15 = .ok (.lload 4, 2) := dk_22 4 (dk_at dksX0_comes_0 15 rfl rfl)
theorem dX0_comes_17 : decode cX0_comes 17 = .ok (.goto 31, 3) := dk_167 0 31 (dk_at dksX0_comes_0 17 rfl rfl)
theorem dX0_comes_20 : decode cX0_comes 20 = .ok (.iload_n 3, 1) := dk_29 (dk_at dksX0_comes_0 20 rfl rfl)
theorem dX0_comes_21 : decode cX0_comes 21 = .ok (.iconst 1, 1) := dk_4 (dk_at dksX0_comes_0 21 rfl rfl)
theorem dX0_comes_22 : decode cX0_comes 22 = .ok (.if_icmp .ne 16, 3) := dk_160 0 16 (dk_at dksX0_comes_1 0 rfl rfl)
theorem dX0_comes_25 : decode cX0_comes 25 = .ok (.aload_n 0, 1) := dk_42 (dk_at dksX0_comes_1 3 rfl rfl)
theorem dX0_comes_26 : decode cX0_comes 26 = .ok (.getfield 34, 3) := dk_180 0 34 (dk_at dksX0_comes_1 4 rfl rfl)
theorem dX0_comes_29 : decode cX0_comes 29 = .ok (.getfield 229, 3) := dk_180 0 229 (dk_at dksX0_comes_1 7 rfl rfl)
theorem dX0_comes_32 : decode cX0_comes 32 = .ok (.lload 4, 2) := dk_22 4 (dk_at dksX0_comes_1 10 rfl rfl)
theorem dX0_comes_34 : decode cX0_comes 34 = .ok (.lor, 1) := dk_129 (dk_at dksX0_comes_1 12 rfl rfl)
theorem dX0_comes_35 : decode cX0_comes 35 = .ok (.goto 13, 3) := dk_167 0 13 (dk_at dksX0_comes_1 13 rfl rfl)
theorem dX0_comes_38 : decode cX0_comes 38 = .ok (.aload_n 0, 1) := dk_42 (dk_at dksX0_comes_1 16 rfl rfl)
theorem dX0_comes_39 : decode cX0_comes 39 = .ok (.getfield 34, 3) := dk_180 0 34 (dk_at dksX0_comes_1 17 rfl rfl)
theorem dX0_comes_42 : decode cX0_comes 42 = .ok (.getfield 229, 3) := dk_180 0 229 (dk_at dksX0_comes_1 20 rfl rfl)
theorem dX0_comes_45 : decode cX0_comes 45 = .ok (.lload 4, 2) := dk_22 4 (dk_at dksX0_comes_2 0 rfl rfl)
theorem dX0_comes_47 : decode cX0_comes 47 = .ok (.land, 1) := dk_127 (dk_at dksX0_comes_2 2 rfl rfl)
theorem dX0_comes_48 : decode cX0_comes 48 = .ok (.putfield 229, 3) := dk_181 0 229 (dk_at dksX0_comes_2 3 rfl rfl)
theorem dX0_comes_51 : decode cX0_comes 51 = .ok (.aload_n 0, 1) := dk_42 (dk_at dksX0_comes_2 6 rfl rfl)
theorem dX0_comes_52 : decode cX0_comes 52 = .ok (.invokevirtual 377, 3) := dk_182 1 121 (dk_at dksX0_comes_2 7 rfl rfl)
theorem dX0_comes_55 : decode cX0_comes 55 = .ok (.ireturn, 1) := dk_172 (dk_at dksX0_comes_2 10 rfl rfl)
abbrev cX0_forcedBy : ByteArray := prog_1_method_67_code
def yX0_forcedBy : MethodName := ⟨RX0, "forcedBy", "(J)J"⟩
def dkwX0_forcedBy_1 : List UInt8 := [180, 0, 73, 129, 66, 22, 5, 22, 5, 10, 101, 127, 55, 5, 167, 255, 224, 33, 173]
abbrev dktX0_forcedBy_1 : List UInt8 := dkwX0_forcedBy_1 ++ []
def dkwX0_forcedBy_0 : List UInt8 := [9, 66, 31, 55, 5, 22, 5, 9, 148, 153, 0, 31, 33, 42, 180, 0, 44, 22, 5, 184, 1, 118, 50]
abbrev dktX0_forcedBy_0 : List UInt8 := dkwX0_forcedBy_0 ++ dktX0_forcedBy_1
theorem dksX0_forcedBy_0 : cX0_forcedBy.data.toList.drop 0 = dktX0_forcedBy_0 := by decide +kernel
theorem dksX0_forcedBy_1 : cX0_forcedBy.data.toList.drop 23 = dktX0_forcedBy_1 := dk_seg dksX0_forcedBy_0 23 rfl rfl
theorem dX0_forcedBy_0 : decode cX0_forcedBy 0 = .ok (.lconst 0, 1) := dk_9 (dk_at dksX0_forcedBy_0 0 rfl rfl)
theorem dX0_forcedBy_1 : decode cX0_forcedBy 1 = .ok (.lstore_n 3, 1) := dk_66 (dk_at dksX0_forcedBy_0 1 rfl rfl)
theorem dX0_forcedBy_2 : decode cX0_forcedBy 2 = .ok (.lload_n 1, 1) := dk_31 (dk_at dksX0_forcedBy_0 2 rfl rfl)
theorem dX0_forcedBy_3 : decode cX0_forcedBy 3 = .ok (.lstore 5, 2) := dk_55 5 (dk_at dksX0_forcedBy_0 3 rfl rfl)
theorem dX0_forcedBy_5 : decode cX0_forcedBy 5 = .ok (.lload 5, 2) := dk_22 5 (dk_at dksX0_forcedBy_0 5 rfl rfl)
theorem dX0_forcedBy_7 : decode cX0_forcedBy 7 = .ok (.lconst 0, 1) := dk_9 (dk_at dksX0_forcedBy_0 7 rfl rfl)
theorem dX0_forcedBy_8 : decode cX0_forcedBy 8 = .ok (.lcmp, 1) := dk_148 (dk_at dksX0_forcedBy_0 8 rfl rfl)
theorem dX0_forcedBy_9 : decode cX0_forcedBy 9 = .ok (.ifCond .eq 31, 3) := dk_153 0 31 (dk_at dksX0_forcedBy_0 9 rfl rfl)
theorem dX0_forcedBy_12 : decode cX0_forcedBy 12 = .ok (.lload_n 3, 1) := dk_33 (dk_at dksX0_forcedBy_0 12 rfl rfl)
theorem dX0_forcedBy_13 : decode cX0_forcedBy 13 = .ok (.aload_n 0, 1) := dk_42 (dk_at dksX0_forcedBy_0 13 rfl rfl)
theorem dX0_forcedBy_14 : decode cX0_forcedBy 14 = .ok (.getfield 44, 3) := dk_180 0 44 (dk_at dksX0_forcedBy_0 14 rfl rfl)
theorem dX0_forcedBy_17 : decode cX0_forcedBy 17 = .ok (.lload 5, 2) := dk_22 5 (dk_at dksX0_forcedBy_0 17 rfl rfl)
theorem dX0_forcedBy_19 : decode cX0_forcedBy 19 = .ok (.invokestatic 374, 3) := dk_184 1 118 (dk_at dksX0_forcedBy_0 19 rfl rfl)
theorem dX0_forcedBy_22 : decode cX0_forcedBy 22 = .ok (.aaload, 1) := dk_50 (dk_at dksX0_forcedBy_0 22 rfl rfl)
theorem dX0_forcedBy_23 : decode cX0_forcedBy 23 = .ok (.getfield 73, 3) := dk_180 0 73 (dk_at dksX0_forcedBy_1 0 rfl rfl)
theorem dX0_forcedBy_26 : decode cX0_forcedBy 26 = .ok (.lor, 1) := dk_129 (dk_at dksX0_forcedBy_1 3 rfl rfl)
theorem dX0_forcedBy_27 : decode cX0_forcedBy 27 = .ok (.lstore_n 3, 1) := dk_66 (dk_at dksX0_forcedBy_1 4 rfl rfl)
theorem dX0_forcedBy_28 : decode cX0_forcedBy 28 = .ok (.lload 5, 2) := dk_22 5 (dk_at dksX0_forcedBy_1 5 rfl rfl)
theorem dX0_forcedBy_30 : decode cX0_forcedBy 30 = .ok (.lload 5, 2) := dk_22 5 (dk_at dksX0_forcedBy_1 7 rfl rfl)
theorem dX0_forcedBy_32 : decode cX0_forcedBy 32 = .ok (.lconst 1, 1) := dk_10 (dk_at dksX0_forcedBy_1 9 rfl rfl)
theorem dX0_forcedBy_33 : decode cX0_forcedBy 33 = .ok (.lsub, 1) := dk_101 (dk_at dksX0_forcedBy_1 10 rfl rfl)
theorem dX0_forcedBy_34 : decode cX0_forcedBy 34 = .ok (.land, 1) := dk_127 (dk_at dksX0_forcedBy_1 11 rfl rfl)
theorem dX0_forcedBy_35 : decode cX0_forcedBy 35 = .ok (.lstore 5, 2) := dk_55 5 (dk_at dksX0_forcedBy_1 12 rfl rfl)
theorem dX0_forcedBy_37 : decode cX0_forcedBy 37 = .ok (.goto (-32), 3) := dk_167 255 224 (dk_at dksX0_forcedBy_1 14 rfl rfl)
theorem dX0_forcedBy_40 : decode cX0_forcedBy 40 = .ok (.lload_n 3, 1) := dk_33 (dk_at dksX0_forcedBy_1 17 rfl rfl)
theorem dX0_forcedBy_41 : decode cX0_forcedBy 41 = .ok (.lreturn, 1) := dk_173 (dk_at dksX0_forcedBy_1 18 rfl rfl)
abbrev cX0_clear : ByteArray := prog_1_method_72_code
def yX0_clear : MethodName := ⟨RX0, "clear", "()I"⟩
def dkwX0_clear_0 : List UInt8 := [42, 182, 1, 121, 60, 42, 180, 0, 34, 9, 181, 0, 229, 27, 172]
abbrev dktX0_clear_0 : List UInt8 := dkwX0_clear_0 ++ []
theorem dksX0_clear_0 : cX0_clear.data.toList.drop 0 = dktX0_clear_0 := by decide +kernel
theorem dX0_clear_0 : decode cX0_clear 0 = .ok (.aload_n 0, 1) := dk_42 (dk_at dksX0_clear_0 0 rfl rfl)
theorem dX0_clear_1 : decode cX0_clear 1 = .ok (.invokevirtual 377, 3) := dk_182 1 121 (dk_at dksX0_clear_0 1 rfl rfl)
theorem dX0_clear_4 : decode cX0_clear 4 = .ok (.istore_n 1, 1) := dk_60 (dk_at dksX0_clear_0 4 rfl rfl)
theorem dX0_clear_5 : decode cX0_clear 5 = .ok (.aload_n 0, 1) := dk_42 (dk_at dksX0_clear_0 5 rfl rfl)
theorem dX0_clear_6 : decode cX0_clear 6 = .ok (.getfield 34, 3) := dk_180 0 34 (dk_at dksX0_clear_0 6 rfl rfl)
theorem dX0_clear_9 : decode cX0_clear 9 = .ok (.lconst 0, 1) := dk_9 (dk_at dksX0_clear_0 9 rfl rfl)
theorem dX0_clear_10 : decode cX0_clear 10 = .ok (.putfield 229, 3) := dk_181 0 229 (dk_at dksX0_clear_0 10 rfl rfl)
theorem dX0_clear_13 : decode cX0_clear 13 = .ok (.iload_n 1, 1) := dk_27 (dk_at dksX0_clear_0 13 rfl rfl)
theorem dX0_clear_14 : decode cX0_clear 14 = .ok (.ireturn, 1) := dk_172 (dk_at dksX0_clear_0 14 rfl rfl)
abbrev cX0_feed : ByteArray := prog_1_method_73_code
def yX0_feed : MethodName := ⟨RX0, "feed", "(JI)I"⟩
def dkwX0_feed_3 : List UInt8 := [181, 1, 171, 42, 180, 1, 171, 172]
abbrev dktX0_feed_3 : List UInt8 := dkwX0_feed_3 ++ []
def dkwX0_feed_2 : List UInt8 := [16, 8, 21, 4, 104, 123, 136, 145, 84, 132, 4, 1, 167, 255, 226, 42, 89, 180, 1, 171, 29, 96]
abbrev dktX0_feed_2 : List UInt8 := dkwX0_feed_2 ++ dktX0_feed_3
def dkwX0_feed_1 : List UInt8 := [16, 254, 172, 3, 54, 4, 21, 4, 29, 162, 0, 30, 42, 180, 0, 174, 42, 180, 1, 171, 21, 4, 96, 31]
abbrev dktX0_feed_1 : List UInt8 := dkwX0_feed_1 ++ dktX0_feed_2
def dkwX0_feed_0 : List UInt8 := [29, 4, 16, 8, 184, 0, 112, 154, 0, 5, 2, 172, 42, 180, 1, 171, 29, 96, 17, 0, 200, 164, 0, 6]
abbrev dktX0_feed_0 : List UInt8 := dkwX0_feed_0 ++ dktX0_feed_1
theorem dksX0_feed_0 : cX0_feed.data.toList.drop 0 = dktX0_feed_0 := by decide +kernel
theorem dksX0_feed_1 : cX0_feed.data.toList.drop 24 = dktX0_feed_1 := dk_seg dksX0_feed_0 24 rfl rfl
theorem dksX0_feed_2 : cX0_feed.data.toList.drop 48 = dktX0_feed_2 := dk_seg dksX0_feed_1 24 rfl rfl
theorem dksX0_feed_3 : cX0_feed.data.toList.drop 70 = dktX0_feed_3 := dk_seg dksX0_feed_2 22 rfl rfl
theorem dX0_feed_0 : decode cX0_feed 0 = .ok (.iload_n 3, 1) := dk_29 (dk_at dksX0_feed_0 0 rfl rfl)
theorem dX0_feed_1 : decode cX0_feed 1 = .ok (.iconst 1, 1) := dk_4 (dk_at dksX0_feed_0 1 rfl rfl)
theorem dX0_feed_2 : decode cX0_feed 2 = .ok (.bipush 8, 2) := dk_16 8 (dk_at dksX0_feed_0 2 rfl rfl)
theorem dX0_feed_4 : decode cX0_feed 4 = .ok (.invokestatic 112, 3) := dk_184 0 112 (dk_at dksX0_feed_0 4 rfl rfl)
theorem dX0_feed_7 : decode cX0_feed 7 = .ok (.ifCond .ne 5, 3) := dk_154 0 5 (dk_at dksX0_feed_0 7 rfl rfl)
theorem dX0_feed_10 : decode cX0_feed 10 = .ok (.iconst (-1), 1) := dk_2 (dk_at dksX0_feed_0 10 rfl rfl)
theorem dX0_feed_11 : decode cX0_feed 11 = .ok (.ireturn, 1) := dk_172 (dk_at dksX0_feed_0 11 rfl rfl)
theorem dX0_feed_12 : decode cX0_feed 12 = .ok (.aload_n 0, 1) := dk_42 (dk_at dksX0_feed_0 12 rfl rfl)
theorem dX0_feed_13 : decode cX0_feed 13 = .ok (.getfield 427, 3) := dk_180 1 171 (dk_at dksX0_feed_0 13 rfl rfl)
theorem dX0_feed_16 : decode cX0_feed 16 = .ok (.iload_n 3, 1) := dk_29 (dk_at dksX0_feed_0 16 rfl rfl)
theorem dX0_feed_17 : decode cX0_feed 17 = .ok (.iadd, 1) := dk_96 (dk_at dksX0_feed_0 17 rfl rfl)
theorem dX0_feed_18 : decode cX0_feed 18 = .ok (.sipush 200, 3) := dk_17 0 200 (dk_at dksX0_feed_0 18 rfl rfl)
theorem dX0_feed_21 : decode cX0_feed 21 = .ok (.if_icmp .le 6, 3) := dk_164 0 6 (dk_at dksX0_feed_0 21 rfl rfl)
theorem dX0_feed_24 : decode cX0_feed 24 = .ok (.bipush (-2), 2) := dk_16 254 (dk_at dksX0_feed_1 0 rfl rfl)
theorem dX0_feed_26 : decode cX0_feed 26 = .ok (.ireturn, 1) := dk_172 (dk_at dksX0_feed_1 2 rfl rfl)
theorem dX0_feed_27 : decode cX0_feed 27 = .ok (.iconst 0, 1) := dk_3 (dk_at dksX0_feed_1 3 rfl rfl)
theorem dX0_feed_28 : decode cX0_feed 28 = .ok (.istore 4, 2) := dk_54 4 (dk_at dksX0_feed_1 4 rfl rfl)
theorem dX0_feed_30 : decode cX0_feed 30 = .ok (.iload 4, 2) := dk_21 4 (dk_at dksX0_feed_1 6 rfl rfl)
theorem dX0_feed_32 : decode cX0_feed 32 = .ok (.iload_n 3, 1) := dk_29 (dk_at dksX0_feed_1 8 rfl rfl)
theorem dX0_feed_33 : decode cX0_feed 33 = .ok (.if_icmp .ge 30, 3) := dk_162 0 30 (dk_at dksX0_feed_1 9 rfl rfl)
theorem dX0_feed_36 : decode cX0_feed 36 = .ok (.aload_n 0, 1) := dk_42 (dk_at dksX0_feed_1 12 rfl rfl)
theorem dX0_feed_37 : decode cX0_feed 37 = .ok (.getfield 174, 3) := dk_180 0 174 (dk_at dksX0_feed_1 13 rfl rfl)
theorem dX0_feed_40 : decode cX0_feed 40 = .ok (.aload_n 0, 1) := dk_42 (dk_at dksX0_feed_1 16 rfl rfl)
theorem dX0_feed_41 : decode cX0_feed 41 = .ok (.getfield 427, 3) := dk_180 1 171 (dk_at dksX0_feed_1 17 rfl rfl)
theorem dX0_feed_44 : decode cX0_feed 44 = .ok (.iload 4, 2) := dk_21 4 (dk_at dksX0_feed_1 20 rfl rfl)
theorem dX0_feed_46 : decode cX0_feed 46 = .ok (.iadd, 1) := dk_96 (dk_at dksX0_feed_1 22 rfl rfl)
theorem dX0_feed_47 : decode cX0_feed 47 = .ok (.lload_n 1, 1) := dk_31 (dk_at dksX0_feed_1 23 rfl rfl)
theorem dX0_feed_48 : decode cX0_feed 48 = .ok (.bipush 8, 2) := dk_16 8 (dk_at dksX0_feed_2 0 rfl rfl)
theorem dX0_feed_50 : decode cX0_feed 50 = .ok (.iload 4, 2) := dk_21 4 (dk_at dksX0_feed_2 2 rfl rfl)
theorem dX0_feed_52 : decode cX0_feed 52 = .ok (.imul, 1) := dk_104 (dk_at dksX0_feed_2 4 rfl rfl)
theorem dX0_feed_53 : decode cX0_feed 53 = .ok (.lshr, 1) := dk_123 (dk_at dksX0_feed_2 5 rfl rfl)
theorem dX0_feed_54 : decode cX0_feed 54 = .ok (.l2i, 1) := dk_136 (dk_at dksX0_feed_2 6 rfl rfl)
theorem dX0_feed_55 : decode cX0_feed 55 = .ok (.i2b, 1) := dk_145 (dk_at dksX0_feed_2 7 rfl rfl)
theorem dX0_feed_56 : decode cX0_feed 56 = .ok (.bastore, 1) := dk_84 (dk_at dksX0_feed_2 8 rfl rfl)
theorem dX0_feed_57 : decode cX0_feed 57 = .ok (.iinc 4 1, 3) := dk_132 4 1 (dk_at dksX0_feed_2 9 rfl rfl)
theorem dX0_feed_60 : decode cX0_feed 60 = .ok (.goto (-30), 3) := dk_167 255 226 (dk_at dksX0_feed_2 12 rfl rfl)
theorem dX0_feed_63 : decode cX0_feed 63 = .ok (.aload_n 0, 1) := dk_42 (dk_at dksX0_feed_2 15 rfl rfl)
theorem dX0_feed_64 : decode cX0_feed 64 = .ok (.dup, 1) := dk_89 (dk_at dksX0_feed_2 16 rfl rfl)
theorem dX0_feed_65 : decode cX0_feed 65 = .ok (.getfield 427, 3) := dk_180 1 171 (dk_at dksX0_feed_2 17 rfl rfl)
theorem dX0_feed_68 : decode cX0_feed 68 = .ok (.iload_n 3, 1) := dk_29 (dk_at dksX0_feed_2 20 rfl rfl)
theorem dX0_feed_69 : decode cX0_feed 69 = .ok (.iadd, 1) := dk_96 (dk_at dksX0_feed_2 21 rfl rfl)
theorem dX0_feed_70 : decode cX0_feed 70 = .ok (.putfield 427, 3) := dk_181 1 171 (dk_at dksX0_feed_3 0 rfl rfl)
theorem dX0_feed_73 : decode cX0_feed 73 = .ok (.aload_n 0, 1) := dk_42 (dk_at dksX0_feed_3 3 rfl rfl)
theorem dX0_feed_74 : decode cX0_feed 74 = .ok (.getfield 427, 3) := dk_180 1 171 (dk_at dksX0_feed_3 4 rfl rfl)
theorem dX0_feed_77 : decode cX0_feed 77 = .ok (.ireturn, 1) := dk_172 (dk_at dksX0_feed_3 7 rfl rfl)
abbrev cX0_text : ByteArray := prog_1_method_89_code
def yX0_text : MethodName := ⟨RX0, "text", "(I)I"⟩
def dkwX0_text_4 : List UInt8 := [58, 6, 42, 3, 181, 1, 171, 25, 6, 191]
abbrev dktX0_text_4 : List UInt8 := dkwX0_text_4 ++ []
def dkwX0_text_3 : List UInt8 := [3, 181, 1, 171, 21, 5, 172, 77, 16, 156, 44, 180, 2, 28, 100, 62, 42, 3, 181, 1, 171, 29, 172]
abbrev dktX0_text_3 : List UInt8 := dkwX0_text_3 ++ dktX0_text_4
def dkwX0_text_2 : List UInt8 := [21, 5, 121, 167, 0, 4, 9, 129, 66, 132, 5, 1, 167, 255, 217, 42, 33, 27, 182, 1, 167, 54, 5, 42]
abbrev dktX0_text_2 : List UInt8 := dkwX0_text_2 ++ dktX0_text_3
def dkwX0_text_1 : List UInt8 := [180, 0, 44, 190, 162, 0, 35, 33, 42, 44, 42, 180, 0, 44, 21, 5, 50, 182, 2, 24, 153, 0, 10, 10]
abbrev dktX0_text_1 : List UInt8 := dkwX0_text_1 ++ dktX0_text_2
def dkwX0_text_0 : List UInt8 := [27, 184, 1, 164, 154, 0, 5, 2, 172, 42, 182, 2, 20, 77, 9, 66, 3, 54, 5, 21, 5, 42]
abbrev dktX0_text_0 : List UInt8 := dkwX0_text_0 ++ dktX0_text_1
theorem dksX0_text_0 : cX0_text.data.toList.drop 0 = dktX0_text_0 := by decide +kernel
theorem dksX0_text_1 : cX0_text.data.toList.drop 22 = dktX0_text_1 := dk_seg dksX0_text_0 22 rfl rfl
theorem dksX0_text_2 : cX0_text.data.toList.drop 46 = dktX0_text_2 := dk_seg dksX0_text_1 24 rfl rfl
theorem dksX0_text_3 : cX0_text.data.toList.drop 70 = dktX0_text_3 := dk_seg dksX0_text_2 24 rfl rfl
theorem dksX0_text_4 : cX0_text.data.toList.drop 93 = dktX0_text_4 := dk_seg dksX0_text_3 23 rfl rfl
theorem dX0_text_0 : decode cX0_text 0 = .ok (.iload_n 1, 1) := dk_27 (dk_at dksX0_text_0 0 rfl rfl)
theorem dX0_text_1 : decode cX0_text 1 = .ok (.invokestatic 420, 3) := dk_184 1 164 (dk_at dksX0_text_0 1 rfl rfl)
theorem dX0_text_4 : decode cX0_text 4 = .ok (.ifCond .ne 5, 3) := dk_154 0 5 (dk_at dksX0_text_0 4 rfl rfl)
theorem dX0_text_7 : decode cX0_text 7 = .ok (.iconst (-1), 1) := dk_2 (dk_at dksX0_text_0 7 rfl rfl)
theorem dX0_text_8 : decode cX0_text 8 = .ok (.ireturn, 1) := dk_172 (dk_at dksX0_text_0 8 rfl rfl)
theorem dX0_text_9 : decode cX0_text 9 = .ok (.aload_n 0, 1) := dk_42 (dk_at dksX0_text_0 9 rfl rfl)
theorem dX0_text_10 : decode cX0_text 10 = .ok (.invokevirtual 532, 3) := dk_182 2 20 (dk_at dksX0_text_0 10 rfl rfl)
theorem dX0_text_13 : decode cX0_text 13 = .ok (.astore_n 2, 1) := dk_77 (dk_at dksX0_text_0 13 rfl rfl)
theorem dX0_text_14 : decode cX0_text 14 = .ok (.lconst 0, 1) := dk_9 (dk_at dksX0_text_0 14 rfl rfl)
theorem dX0_text_15 : decode cX0_text 15 = .ok (.lstore_n 3, 1) := dk_66 (dk_at dksX0_text_0 15 rfl rfl)
theorem dX0_text_16 : decode cX0_text 16 = .ok (.iconst 0, 1) := dk_3 (dk_at dksX0_text_0 16 rfl rfl)
theorem dX0_text_17 : decode cX0_text 17 = .ok (.istore 5, 2) := dk_54 5 (dk_at dksX0_text_0 17 rfl rfl)
theorem dX0_text_19 : decode cX0_text 19 = .ok (.iload 5, 2) := dk_21 5 (dk_at dksX0_text_0 19 rfl rfl)
theorem dX0_text_21 : decode cX0_text 21 = .ok (.aload_n 0, 1) := dk_42 (dk_at dksX0_text_0 21 rfl rfl)
theorem dX0_text_22 : decode cX0_text 22 = .ok (.getfield 44, 3) := dk_180 0 44 (dk_at dksX0_text_1 0 rfl rfl)
theorem dX0_text_25 : decode cX0_text 25 = .ok (.arraylength, 1) := dk_190 (dk_at dksX0_text_1 3 rfl rfl)
theorem dX0_text_26 : decode cX0_text 26 = .ok (.if_icmp .ge 35, 3) := dk_162 0 35 (dk_at dksX0_text_1 4 rfl rfl)
theorem dX0_text_29 : decode cX0_text 29 = .ok (.lload_n 3, 1) := dk_33 (dk_at dksX0_text_1 7 rfl rfl)
theorem dX0_text_30 : decode cX0_text 30 = .ok (.aload_n 0, 1) := dk_42 (dk_at dksX0_text_1 8 rfl rfl)
theorem dX0_text_31 : decode cX0_text 31 = .ok (.aload_n 2, 1) := dk_44 (dk_at dksX0_text_1 9 rfl rfl)
theorem dX0_text_32 : decode cX0_text 32 = .ok (.aload_n 0, 1) := dk_42 (dk_at dksX0_text_1 10 rfl rfl)
theorem dX0_text_33 : decode cX0_text 33 = .ok (.getfield 44, 3) := dk_180 0 44 (dk_at dksX0_text_1 11 rfl rfl)
theorem dX0_text_36 : decode cX0_text 36 = .ok (.iload 5, 2) := dk_21 5 (dk_at dksX0_text_1 14 rfl rfl)
theorem dX0_text_38 : decode cX0_text 38 = .ok (.aaload, 1) := dk_50 (dk_at dksX0_text_1 16 rfl rfl)
theorem dX0_text_39 : decode cX0_text 39 = .ok (.invokevirtual 536, 3) := dk_182 2 24 (dk_at dksX0_text_1 17 rfl rfl)
theorem dX0_text_42 : decode cX0_text 42 = .ok (.ifCond .eq 10, 3) := dk_153 0 10 (dk_at dksX0_text_1 20 rfl rfl)
theorem dX0_text_45 : decode cX0_text 45 = .ok (.lconst 1, 1) := dk_10 (dk_at dksX0_text_1 23 rfl rfl)
theorem dX0_text_46 : decode cX0_text 46 = .ok (.iload 5, 2) := dk_21 5 (dk_at dksX0_text_2 0 rfl rfl)
theorem dX0_text_48 : decode cX0_text 48 = .ok (.lshl, 1) := dk_121 (dk_at dksX0_text_2 2 rfl rfl)
theorem dX0_text_49 : decode cX0_text 49 = .ok (.goto 4, 3) := dk_167 0 4 (dk_at dksX0_text_2 3 rfl rfl)
theorem dX0_text_52 : decode cX0_text 52 = .ok (.lconst 0, 1) := dk_9 (dk_at dksX0_text_2 6 rfl rfl)
theorem dX0_text_53 : decode cX0_text 53 = .ok (.lor, 1) := dk_129 (dk_at dksX0_text_2 7 rfl rfl)
theorem dX0_text_54 : decode cX0_text 54 = .ok (.lstore_n 3, 1) := dk_66 (dk_at dksX0_text_2 8 rfl rfl)
theorem dX0_text_55 : decode cX0_text 55 = .ok (.iinc 5 1, 3) := dk_132 5 1 (dk_at dksX0_text_2 9 rfl rfl)
theorem dX0_text_58 : decode cX0_text 58 = .ok (.goto (-39), 3) := dk_167 255 217 (dk_at dksX0_text_2 12 rfl rfl)
theorem dX0_text_61 : decode cX0_text 61 = .ok (.aload_n 0, 1) := dk_42 (dk_at dksX0_text_2 15 rfl rfl)
theorem dX0_text_62 : decode cX0_text 62 = .ok (.lload_n 3, 1) := dk_33 (dk_at dksX0_text_2 16 rfl rfl)
theorem dX0_text_63 : decode cX0_text 63 = .ok (.iload_n 1, 1) := dk_27 (dk_at dksX0_text_2 17 rfl rfl)
theorem dX0_text_64 : decode cX0_text 64 = .ok (.invokevirtual 423, 3) := dk_182 1 167 (dk_at dksX0_text_2 18 rfl rfl)
theorem dX0_text_67 : decode cX0_text 67 = .ok (.istore 5, 2) := dk_54 5 (dk_at dksX0_text_2 21 rfl rfl)
theorem dX0_text_69 : decode cX0_text 69 = .ok (.aload_n 0, 1) := dk_42 (dk_at dksX0_text_2 23 rfl rfl)
theorem dX0_text_70 : decode cX0_text 70 = .ok (.iconst 0, 1) := dk_3 (dk_at dksX0_text_3 0 rfl rfl)
theorem dX0_text_71 : decode cX0_text 71 = .ok (.putfield 427, 3) := dk_181 1 171 (dk_at dksX0_text_3 1 rfl rfl)
theorem dX0_text_74 : decode cX0_text 74 = .ok (.iload 5, 2) := dk_21 5 (dk_at dksX0_text_3 4 rfl rfl)
theorem dX0_text_76 : decode cX0_text 76 = .ok (.ireturn, 1) := dk_172 (dk_at dksX0_text_3 6 rfl rfl)
theorem dX0_text_77 : decode cX0_text 77 = .ok (.astore_n 2, 1) := dk_77 (dk_at dksX0_text_3 7 rfl rfl)
theorem dX0_text_78 : decode cX0_text 78 = .ok (.bipush (-100), 2) := dk_16 156 (dk_at dksX0_text_3 8 rfl rfl)
theorem dX0_text_80 : decode cX0_text 80 = .ok (.aload_n 2, 1) := dk_44 (dk_at dksX0_text_3 10 rfl rfl)
theorem dX0_text_81 : decode cX0_text 81 = .ok (.getfield 540, 3) := dk_180 2 28 (dk_at dksX0_text_3 11 rfl rfl)
theorem dX0_text_84 : decode cX0_text 84 = .ok (.isub, 1) := dk_100 (dk_at dksX0_text_3 14 rfl rfl)
theorem dX0_text_85 : decode cX0_text 85 = .ok (.istore_n 3, 1) := dk_62 (dk_at dksX0_text_3 15 rfl rfl)
theorem dX0_text_86 : decode cX0_text 86 = .ok (.aload_n 0, 1) := dk_42 (dk_at dksX0_text_3 16 rfl rfl)
theorem dX0_text_87 : decode cX0_text 87 = .ok (.iconst 0, 1) := dk_3 (dk_at dksX0_text_3 17 rfl rfl)
theorem dX0_text_88 : decode cX0_text 88 = .ok (.putfield 427, 3) := dk_181 1 171 (dk_at dksX0_text_3 18 rfl rfl)
theorem dX0_text_91 : decode cX0_text 91 = .ok (.iload_n 3, 1) := dk_29 (dk_at dksX0_text_3 21 rfl rfl)
theorem dX0_text_92 : decode cX0_text 92 = .ok (.ireturn, 1) := dk_172 (dk_at dksX0_text_3 22 rfl rfl)
theorem dX0_text_93 : decode cX0_text 93 = .ok (.astore 6, 2) := dk_58 6 (dk_at dksX0_text_4 0 rfl rfl)
theorem dX0_text_95 : decode cX0_text 95 = .ok (.aload_n 0, 1) := dk_42 (dk_at dksX0_text_4 2 rfl rfl)
theorem dX0_text_96 : decode cX0_text 96 = .ok (.iconst 0, 1) := dk_3 (dk_at dksX0_text_4 3 rfl rfl)
theorem dX0_text_97 : decode cX0_text 97 = .ok (.putfield 427, 3) := dk_181 1 171 (dk_at dksX0_text_4 4 rfl rfl)
theorem dX0_text_100 : decode cX0_text 100 = .ok (.aload 6, 2) := dk_25 6 (dk_at dksX0_text_4 7 rfl rfl)
theorem dX0_text_102 : decode cX0_text 102 = .ok (.athrow, 1) := dk_191 (dk_at dksX0_text_4 9 rfl rfl)
abbrev cX0_wholeText : ByteArray := prog_1_method_87_code
def yX0_wholeText : MethodName := ⟨RX0, "wholeText", "()LCoarserOrders$Cond;"⟩
def dkwX0_wholeText_1 : List UInt8 := [162, 0, 8, 42, 182, 1, 204, 191, 43, 176]
abbrev dktX0_wholeText_1 : List UInt8 := dkwX0_wholeText_1 ++ []
def dkwX0_wholeText_0 : List UInt8 := [42, 3, 181, 1, 174, 42, 182, 1, 198, 42, 3, 182, 1, 231, 76, 42, 180, 1, 177, 42, 180, 1, 171]
abbrev dktX0_wholeText_0 : List UInt8 := dkwX0_wholeText_0 ++ dktX0_wholeText_1
theorem dksX0_wholeText_0 : cX0_wholeText.data.toList.drop 0 = dktX0_wholeText_0 := by decide +kernel
theorem dksX0_wholeText_1 : cX0_wholeText.data.toList.drop 23 = dktX0_wholeText_1 := dk_seg dksX0_wholeText_0 23 rfl rfl
theorem dX0_wholeText_0 : decode cX0_wholeText 0 = .ok (.aload_n 0, 1) := dk_42 (dk_at dksX0_wholeText_0 0 rfl rfl)
theorem dX0_wholeText_1 : decode cX0_wholeText 1 = .ok (.iconst 0, 1) := dk_3 (dk_at dksX0_wholeText_0 1 rfl rfl)
theorem dX0_wholeText_2 : decode cX0_wholeText 2 = .ok (.putfield 430, 3) := dk_181 1 174 (dk_at dksX0_wholeText_0 2 rfl rfl)
theorem dX0_wholeText_5 : decode cX0_wholeText 5 = .ok (.aload_n 0, 1) := dk_42 (dk_at dksX0_wholeText_0 5 rfl rfl)
theorem dX0_wholeText_6 : decode cX0_wholeText 6 = .ok (.invokevirtual 454, 3) := dk_182 1 198 (dk_at dksX0_wholeText_0 6 rfl rfl)
theorem dX0_wholeText_9 : decode cX0_wholeText 9 = .ok (.aload_n 0, 1) := dk_42 (dk_at dksX0_wholeText_0 9 rfl rfl)
theorem dX0_wholeText_10 : decode cX0_wholeText 10 = .ok (.iconst 0, 1) := dk_3 (dk_at dksX0_wholeText_0 10 rfl rfl)
theorem dX0_wholeText_11 : decode cX0_wholeText 11 = .ok (.invokevirtual 487, 3) := dk_182 1 231 (dk_at dksX0_wholeText_0 11 rfl rfl)
theorem dX0_wholeText_14 : decode cX0_wholeText 14 = .ok (.astore_n 1, 1) := dk_76 (dk_at dksX0_wholeText_0 14 rfl rfl)
theorem dX0_wholeText_15 : decode cX0_wholeText 15 = .ok (.aload_n 0, 1) := dk_42 (dk_at dksX0_wholeText_0 15 rfl rfl)
theorem dX0_wholeText_16 : decode cX0_wholeText 16 = .ok (.getfield 433, 3) := dk_180 1 177 (dk_at dksX0_wholeText_0 16 rfl rfl)
theorem dX0_wholeText_19 : decode cX0_wholeText 19 = .ok (.aload_n 0, 1) := dk_42 (dk_at dksX0_wholeText_0 19 rfl rfl)
theorem dX0_wholeText_20 : decode cX0_wholeText 20 = .ok (.getfield 427, 3) := dk_180 1 171 (dk_at dksX0_wholeText_0 20 rfl rfl)
theorem dX0_wholeText_23 : decode cX0_wholeText 23 = .ok (.if_icmp .ge 8, 3) := dk_162 0 8 (dk_at dksX0_wholeText_1 0 rfl rfl)
theorem dX0_wholeText_26 : decode cX0_wholeText 26 = .ok (.aload_n 0, 1) := dk_42 (dk_at dksX0_wholeText_1 3 rfl rfl)
theorem dX0_wholeText_27 : decode cX0_wholeText 27 = .ok (.invokevirtual 460, 3) := dk_182 1 204 (dk_at dksX0_wholeText_1 4 rfl rfl)
theorem dX0_wholeText_30 : decode cX0_wholeText 30 = .ok (.athrow, 1) := dk_191 (dk_at dksX0_wholeText_1 7 rfl rfl)
theorem dX0_wholeText_31 : decode cX0_wholeText 31 = .ok (.aload_n 1, 1) := dk_43 (dk_at dksX0_wholeText_1 8 rfl rfl)
theorem dX0_wholeText_32 : decode cX0_wholeText 32 = .ok (.areturn, 1) := dk_176 (dk_at dksX0_wholeText_1 9 rfl rfl)
abbrev cX0_next : ByteArray := prog_1_method_76_code
def yX0_next : MethodName := ⟨RX0, "next", "()V"⟩
def dkwX0_next_6 : List UInt8 := [132, 1, 1, 167, 255, 213, 42, 27, 181, 1, 174, 177]
abbrev dktX0_next_6 : List UInt8 := dkwX0_next_6 ++ []
def dkwX0_next_5 : List UInt8 := [184, 1, 180, 154, 0, 19, 29, 153, 0, 21, 42, 180, 0, 174, 27, 51, 184, 1, 183, 153, 0, 9]
abbrev dktX0_next_5 : List UInt8 := dkwX0_next_5 ++ dktX0_next_6
def dkwX0_next_4 : List UInt8 := [162, 0, 6, 132, 1, 1, 27, 42, 180, 1, 171, 162, 0, 41, 28, 153, 0, 15, 42, 180, 0, 174, 27, 51]
abbrev dktX0_next_4 : List UInt8 := dkwX0_next_4 ++ dktX0_next_5
def dkwX0_next_3 : List UInt8 := [180, 0, 174, 27, 51, 184, 1, 183, 153, 0, 7, 4, 167, 0, 4, 3, 62, 27, 42, 180, 1, 171]
abbrev dktX0_next_3 : List UInt8 := dkwX0_next_3 ++ dktX0_next_4
def dkwX0_next_2 : List UInt8 := [51, 184, 1, 180, 153, 0, 7, 4, 167, 0, 4, 3, 61, 27, 42, 180, 1, 171, 162, 0, 19, 42]
abbrev dktX0_next_2 : List UInt8 := dkwX0_next_2 ++ dktX0_next_3
def dkwX0_next_1 : List UInt8 := [132, 1, 1, 167, 255, 234, 42, 27, 181, 1, 177, 27, 42, 180, 1, 171, 162, 0, 19, 42, 180, 0, 174, 27]
abbrev dktX0_next_1 : List UInt8 := dkwX0_next_1 ++ dktX0_next_2
def dkwX0_next_0 : List UInt8 := [42, 180, 1, 174, 60, 27, 42, 180, 1, 171, 162, 0, 20, 42, 180, 0, 174, 27, 51, 16, 32, 160, 0, 9]
abbrev dktX0_next_0 : List UInt8 := dkwX0_next_0 ++ dktX0_next_1
theorem dksX0_next_0 : cX0_next.data.toList.drop 0 = dktX0_next_0 := by decide +kernel
theorem dksX0_next_1 : cX0_next.data.toList.drop 24 = dktX0_next_1 := dk_seg dksX0_next_0 24 rfl rfl
theorem dksX0_next_2 : cX0_next.data.toList.drop 48 = dktX0_next_2 := dk_seg dksX0_next_1 24 rfl rfl
theorem dksX0_next_3 : cX0_next.data.toList.drop 70 = dktX0_next_3 := dk_seg dksX0_next_2 22 rfl rfl
theorem dksX0_next_4 : cX0_next.data.toList.drop 92 = dktX0_next_4 := dk_seg dksX0_next_3 22 rfl rfl
theorem dksX0_next_5 : cX0_next.data.toList.drop 116 = dktX0_next_5 := dk_seg dksX0_next_4 24 rfl rfl
theorem dksX0_next_6 : cX0_next.data.toList.drop 138 = dktX0_next_6 := dk_seg dksX0_next_5 22 rfl rfl
theorem dX0_next_0 : decode cX0_next 0 = .ok (.aload_n 0, 1) := dk_42 (dk_at dksX0_next_0 0 rfl rfl)
theorem dX0_next_1 : decode cX0_next 1 = .ok (.getfield 430, 3) := dk_180 1 174 (dk_at dksX0_next_0 1 rfl rfl)
theorem dX0_next_4 : decode cX0_next 4 = .ok (.istore_n 1, 1) := dk_60 (dk_at dksX0_next_0 4 rfl rfl)
theorem dX0_next_5 : decode cX0_next 5 = .ok (.iload_n 1, 1) := dk_27 (dk_at dksX0_next_0 5 rfl rfl)
theorem dX0_next_6 : decode cX0_next 6 = .ok (.aload_n 0, 1) := dk_42 (dk_at dksX0_next_0 6 rfl rfl)
theorem dX0_next_7 : decode cX0_next 7 = .ok (.getfield 427, 3) := dk_180 1 171 (dk_at dksX0_next_0 7 rfl rfl)
theorem dX0_next_10 : decode cX0_next 10 = .ok (.if_icmp .ge 20, 3) := dk_162 0 20 (dk_at dksX0_next_0 10 rfl rfl)
theorem dX0_next_13 : decode cX0_next 13 = .ok (.aload_n 0, 1) := dk_42 (dk_at dksX0_next_0 13 rfl rfl)
theorem dX0_next_14 : decode cX0_next 14 = .ok (.getfield 174, 3) := dk_180 0 174 (dk_at dksX0_next_0 14 rfl rfl)
theorem dX0_next_17 : decode cX0_next 17 = .ok (.iload_n 1, 1) := dk_27 (dk_at dksX0_next_0 17 rfl rfl)
theorem dX0_next_18 : decode cX0_next 18 = .ok (.baload, 1) := dk_51 (dk_at dksX0_next_0 18 rfl rfl)
theorem dX0_next_19 : decode cX0_next 19 = .ok (.bipush 32, 2) := dk_16 32 (dk_at dksX0_next_0 19 rfl rfl)
theorem dX0_next_21 : decode cX0_next 21 = .ok (.if_icmp .ne 9, 3) := dk_160 0 9 (dk_at dksX0_next_0 21 rfl rfl)
theorem dX0_next_24 : decode cX0_next 24 = .ok (.iinc 1 1, 3) := dk_132 1 1 (dk_at dksX0_next_1 0 rfl rfl)
theorem dX0_next_27 : decode cX0_next 27 = .ok (.goto (-22), 3) := dk_167 255 234 (dk_at dksX0_next_1 3 rfl rfl)
theorem dX0_next_30 : decode cX0_next 30 = .ok (.aload_n 0, 1) := dk_42 (dk_at dksX0_next_1 6 rfl rfl)
theorem dX0_next_31 : decode cX0_next 31 = .ok (.iload_n 1, 1) := dk_27 (dk_at dksX0_next_1 7 rfl rfl)
theorem dX0_next_32 : decode cX0_next 32 = .ok (.putfield 433, 3) := dk_181 1 177 (dk_at dksX0_next_1 8 rfl rfl)
theorem dX0_next_35 : decode cX0_next 35 = .ok (.iload_n 1, 1) := dk_27 (dk_at dksX0_next_1 11 rfl rfl)
theorem dX0_next_36 : decode cX0_next 36 = .ok (.aload_n 0, 1) := dk_42 (dk_at dksX0_next_1 12 rfl rfl)
theorem dX0_next_37 : decode cX0_next 37 = .ok (.getfield 427, 3) := dk_180 1 171 (dk_at dksX0_next_1 13 rfl rfl)
theorem dX0_next_40 : decode cX0_next 40 = .ok (.if_icmp .ge 19, 3) := dk_162 0 19 (dk_at dksX0_next_1 16 rfl rfl)
theorem dX0_next_43 : decode cX0_next 43 = .ok (.aload_n 0, 1) := dk_42 (dk_at dksX0_next_1 19 rfl rfl)
theorem dX0_next_44 : decode cX0_next 44 = .ok (.getfield 174, 3) := dk_180 0 174 (dk_at dksX0_next_1 20 rfl rfl)
theorem dX0_next_47 : decode cX0_next 47 = .ok (.iload_n 1, 1) := dk_27 (dk_at dksX0_next_1 23 rfl rfl)
theorem dX0_next_48 : decode cX0_next 48 = .ok (.baload, 1) := dk_51 (dk_at dksX0_next_2 0 rfl rfl)
theorem dX0_next_49 : decode cX0_next 49 = .ok (.invokestatic 436, 3) := dk_184 1 180 (dk_at dksX0_next_2 1 rfl rfl)
theorem dX0_next_52 : decode cX0_next 52 = .ok (.ifCond .eq 7, 3) := dk_153 0 7 (dk_at dksX0_next_2 4 rfl rfl)
theorem dX0_next_55 : decode cX0_next 55 = .ok (.iconst 1, 1) := dk_4 (dk_at dksX0_next_2 7 rfl rfl)
theorem dX0_next_56 : decode cX0_next 56 = .ok (.goto 4, 3) := dk_167 0 4 (dk_at dksX0_next_2 8 rfl rfl)
theorem dX0_next_59 : decode cX0_next 59 = .ok (.iconst 0, 1) := dk_3 (dk_at dksX0_next_2 11 rfl rfl)
theorem dX0_next_60 : decode cX0_next 60 = .ok (.istore_n 2, 1) := dk_61 (dk_at dksX0_next_2 12 rfl rfl)
theorem dX0_next_61 : decode cX0_next 61 = .ok (.iload_n 1, 1) := dk_27 (dk_at dksX0_next_2 13 rfl rfl)
theorem dX0_next_62 : decode cX0_next 62 = .ok (.aload_n 0, 1) := dk_42 (dk_at dksX0_next_2 14 rfl rfl)
theorem dX0_next_63 : decode cX0_next 63 = .ok (.getfield 427, 3) := dk_180 1 171 (dk_at dksX0_next_2 15 rfl rfl)
theorem dX0_next_66 : decode cX0_next 66 = .ok (.if_icmp .ge 19, 3) := dk_162 0 19 (dk_at dksX0_next_2 18 rfl rfl)
theorem dX0_next_69 : decode cX0_next 69 = .ok (.aload_n 0, 1) := dk_42 (dk_at dksX0_next_2 21 rfl rfl)
theorem dX0_next_70 : decode cX0_next 70 = .ok (.getfield 174, 3) := dk_180 0 174 (dk_at dksX0_next_3 0 rfl rfl)
theorem dX0_next_73 : decode cX0_next 73 = .ok (.iload_n 1, 1) := dk_27 (dk_at dksX0_next_3 3 rfl rfl)
theorem dX0_next_74 : decode cX0_next 74 = .ok (.baload, 1) := dk_51 (dk_at dksX0_next_3 4 rfl rfl)
theorem dX0_next_75 : decode cX0_next 75 = .ok (.invokestatic 439, 3) := dk_184 1 183 (dk_at dksX0_next_3 5 rfl rfl)
theorem dX0_next_78 : decode cX0_next 78 = .ok (.ifCond .eq 7, 3) := dk_153 0 7 (dk_at dksX0_next_3 8 rfl rfl)
theorem dX0_next_81 : decode cX0_next 81 = .ok (.iconst 1, 1) := dk_4 (dk_at dksX0_next_3 11 rfl rfl)
theorem dX0_next_82 : decode cX0_next 82 = .ok (.goto 4, 3) := dk_167 0 4 (dk_at dksX0_next_3 12 rfl rfl)
theorem dX0_next_85 : decode cX0_next 85 = .ok (.iconst 0, 1) := dk_3 (dk_at dksX0_next_3 15 rfl rfl)
theorem dX0_next_86 : decode cX0_next 86 = .ok (.istore_n 3, 1) := dk_62 (dk_at dksX0_next_3 16 rfl rfl)
theorem dX0_next_87 : decode cX0_next 87 = .ok (.iload_n 1, 1) := dk_27 (dk_at dksX0_next_3 17 rfl rfl)
theorem dX0_next_88 : decode cX0_next 88 = .ok (.aload_n 0, 1) := dk_42 (dk_at dksX0_next_3 18 rfl rfl)
theorem dX0_next_89 : decode cX0_next 89 = .ok (.getfield 427, 3) := dk_180 1 171 (dk_at dksX0_next_3 19 rfl rfl)
theorem dX0_next_92 : decode cX0_next 92 = .ok (.if_icmp .ge 6, 3) := dk_162 0 6 (dk_at dksX0_next_4 0 rfl rfl)
theorem dX0_next_95 : decode cX0_next 95 = .ok (.iinc 1 1, 3) := dk_132 1 1 (dk_at dksX0_next_4 3 rfl rfl)
theorem dX0_next_98 : decode cX0_next 98 = .ok (.iload_n 1, 1) := dk_27 (dk_at dksX0_next_4 6 rfl rfl)
theorem dX0_next_99 : decode cX0_next 99 = .ok (.aload_n 0, 1) := dk_42 (dk_at dksX0_next_4 7 rfl rfl)
theorem dX0_next_100 : decode cX0_next 100 = .ok (.getfield 427, 3) := dk_180 1 171 (dk_at dksX0_next_4 8 rfl rfl)
theorem dX0_next_103 : decode cX0_next 103 = .ok (.if_icmp .ge 41, 3) := dk_162 0 41 (dk_at dksX0_next_4 11 rfl rfl)
theorem dX0_next_106 : decode cX0_next 106 = .ok (.iload_n 2, 1) := dk_28 (dk_at dksX0_next_4 14 rfl rfl)
theorem dX0_next_107 : decode cX0_next 107 = .ok (.ifCond .eq 15, 3) := dk_153 0 15 (dk_at dksX0_next_4 15 rfl rfl)
theorem dX0_next_110 : decode cX0_next 110 = .ok (.aload_n 0, 1) := dk_42 (dk_at dksX0_next_4 18 rfl rfl)
theorem dX0_next_111 : decode cX0_next 111 = .ok (.getfield 174, 3) := dk_180 0 174 (dk_at dksX0_next_4 19 rfl rfl)
theorem dX0_next_114 : decode cX0_next 114 = .ok (.iload_n 1, 1) := dk_27 (dk_at dksX0_next_4 22 rfl rfl)
theorem dX0_next_115 : decode cX0_next 115 = .ok (.baload, 1) := dk_51 (dk_at dksX0_next_4 23 rfl rfl)
theorem dX0_next_116 : decode cX0_next 116 = .ok (.invokestatic 436, 3) := dk_184 1 180 (dk_at dksX0_next_5 0 rfl rfl)
theorem dX0_next_119 : decode cX0_next 119 = .ok (.ifCond .ne 19, 3) := dk_154 0 19 (dk_at dksX0_next_5 3 rfl rfl)
theorem dX0_next_122 : decode cX0_next 122 = .ok (.iload_n 3, 1) := dk_29 (dk_at dksX0_next_5 6 rfl rfl)
theorem dX0_next_123 : decode cX0_next 123 = .ok (.ifCond .eq 21, 3) := dk_153 0 21 (dk_at dksX0_next_5 7 rfl rfl)
theorem dX0_next_126 : decode cX0_next 126 = .ok (.aload_n 0, 1) := dk_42 (dk_at dksX0_next_5 10 rfl rfl)
theorem dX0_next_127 : decode cX0_next 127 = .ok (.getfield 174, 3) := dk_180 0 174 (dk_at dksX0_next_5 11 rfl rfl)
theorem dX0_next_130 : decode cX0_next 130 = .ok (.iload_n 1, 1) := dk_27 (dk_at dksX0_next_5 14 rfl rfl)
theorem dX0_next_131 : decode cX0_next 131 = .ok (.baload, 1) := dk_51 (dk_at dksX0_next_5 15 rfl rfl)
theorem dX0_next_132 : decode cX0_next 132 = .ok (.invokestatic 439, 3) := dk_184 1 183 (dk_at dksX0_next_5 16 rfl rfl)
theorem dX0_next_135 : decode cX0_next 135 = .ok (.ifCond .eq 9, 3) := dk_153 0 9 (dk_at dksX0_next_5 19 rfl rfl)
theorem dX0_next_138 : decode cX0_next 138 = .ok (.iinc 1 1, 3) := dk_132 1 1 (dk_at dksX0_next_6 0 rfl rfl)
theorem dX0_next_141 : decode cX0_next 141 = .ok (.goto (-43), 3) := dk_167 255 213 (dk_at dksX0_next_6 3 rfl rfl)
theorem dX0_next_144 : decode cX0_next 144 = .ok (.aload_n 0, 1) := dk_42 (dk_at dksX0_next_6 6 rfl rfl)
theorem dX0_next_145 : decode cX0_next 145 = .ok (.iload_n 1, 1) := dk_27 (dk_at dksX0_next_6 7 rfl rfl)
theorem dX0_next_146 : decode cX0_next 146 = .ok (.putfield 430, 3) := dk_181 1 174 (dk_at dksX0_next_6 8 rfl rfl)
theorem dX0_next_149 : decode cX0_next 149 = .ok (.return_, 1) := dk_177 (dk_at dksX0_next_6 11 rfl rfl)
abbrev cX0_isLetter : ByteArray := prog_1_method_75_code
def yX0_isLetter : MethodName := ⟨RX0, "isLetter", "(I)Z"⟩
def dkwX0_isLetter_0 : List UInt8 := [26, 16, 97, 161, 0, 13, 26, 16, 122, 163, 0, 7, 4, 167, 0, 4, 3, 172]
abbrev dktX0_isLetter_0 : List UInt8 := dkwX0_isLetter_0 ++ []
theorem dksX0_isLetter_0 : cX0_isLetter.data.toList.drop 0 = dktX0_isLetter_0 := by decide +kernel
theorem dX0_isLetter_0 : decode cX0_isLetter 0 = .ok (.iload_n 0, 1) := dk_26 (dk_at dksX0_isLetter_0 0 rfl rfl)
theorem dX0_isLetter_1 : decode cX0_isLetter 1 = .ok (.bipush 97, 2) := dk_16 97 (dk_at dksX0_isLetter_0 1 rfl rfl)
theorem dX0_isLetter_3 : decode cX0_isLetter 3 = .ok (.if_icmp .lt 13, 3) := dk_161 0 13 (dk_at dksX0_isLetter_0 3 rfl rfl)
theorem dX0_isLetter_6 : decode cX0_isLetter 6 = .ok (.iload_n 0, 1) := dk_26 (dk_at dksX0_isLetter_0 6 rfl rfl)
theorem dX0_isLetter_7 : decode cX0_isLetter 7 = .ok (.bipush 122, 2) := dk_16 122 (dk_at dksX0_isLetter_0 7 rfl rfl)
theorem dX0_isLetter_9 : decode cX0_isLetter 9 = .ok (.if_icmp .gt 7, 3) := dk_163 0 7 (dk_at dksX0_isLetter_0 9 rfl rfl)
theorem dX0_isLetter_12 : decode cX0_isLetter 12 = .ok (.iconst 1, 1) := dk_4 (dk_at dksX0_isLetter_0 12 rfl rfl)
theorem dX0_isLetter_13 : decode cX0_isLetter 13 = .ok (.goto 4, 3) := dk_167 0 4 (dk_at dksX0_isLetter_0 13 rfl rfl)
theorem dX0_isLetter_16 : decode cX0_isLetter 16 = .ok (.iconst 0, 1) := dk_3 (dk_at dksX0_isLetter_0 16 rfl rfl)
theorem dX0_isLetter_17 : decode cX0_isLetter 17 = .ok (.ireturn, 1) := dk_172 (dk_at dksX0_isLetter_0 17 rfl rfl)
abbrev cX0_isDigit : ByteArray := prog_1_method_74_code
def yX0_isDigit : MethodName := ⟨RX0, "isDigit", "(I)Z"⟩
def dkwX0_isDigit_0 : List UInt8 := [26, 16, 48, 161, 0, 13, 26, 16, 57, 163, 0, 7, 4, 167, 0, 4, 3, 172]
abbrev dktX0_isDigit_0 : List UInt8 := dkwX0_isDigit_0 ++ []
theorem dksX0_isDigit_0 : cX0_isDigit.data.toList.drop 0 = dktX0_isDigit_0 := by decide +kernel
theorem dX0_isDigit_0 : decode cX0_isDigit 0 = .ok (.iload_n 0, 1) := dk_26 (dk_at dksX0_isDigit_0 0 rfl rfl)
theorem dX0_isDigit_1 : decode cX0_isDigit 1 = .ok (.bipush 48, 2) := dk_16 48 (dk_at dksX0_isDigit_0 1 rfl rfl)
theorem dX0_isDigit_3 : decode cX0_isDigit 3 = .ok (.if_icmp .lt 13, 3) := dk_161 0 13 (dk_at dksX0_isDigit_0 3 rfl rfl)
theorem dX0_isDigit_6 : decode cX0_isDigit 6 = .ok (.iload_n 0, 1) := dk_26 (dk_at dksX0_isDigit_0 6 rfl rfl)
theorem dX0_isDigit_7 : decode cX0_isDigit 7 = .ok (.bipush 57, 2) := dk_16 57 (dk_at dksX0_isDigit_0 7 rfl rfl)
theorem dX0_isDigit_9 : decode cX0_isDigit 9 = .ok (.if_icmp .gt 7, 3) := dk_163 0 7 (dk_at dksX0_isDigit_0 9 rfl rfl)
theorem dX0_isDigit_12 : decode cX0_isDigit 12 = .ok (.iconst 1, 1) := dk_4 (dk_at dksX0_isDigit_0 12 rfl rfl)
theorem dX0_isDigit_13 : decode cX0_isDigit 13 = .ok (.goto 4, 3) := dk_167 0 4 (dk_at dksX0_isDigit_0 13 rfl rfl)
theorem dX0_isDigit_16 : decode cX0_isDigit 16 = .ok (.iconst 0, 1) := dk_3 (dk_at dksX0_isDigit_0 16 rfl rfl)
theorem dX0_isDigit_17 : decode cX0_isDigit 17 = .ok (.ireturn, 1) := dk_172 (dk_at dksX0_isDigit_0 17 rfl rfl)
abbrev cX0_cond : ByteArray := prog_1_method_86_code
def yX0_cond : MethodName := ⟨RX0, "cond", "(I)LCoarserOrders$Cond;"⟩
def dkwX0_cond_1 : List UInt8 := [182, 2, 0, 183, 2, 7, 77, 167, 255, 232, 44, 176]
abbrev dktX0_cond_1 : List UInt8 := dkwX0_cond_1 ++ []
def dkwX0_cond_0 : List UInt8 := [42, 27, 182, 2, 0, 77, 42, 19, 2, 3, 182, 1, 201, 153, 0, 20, 187, 2, 5, 89, 44, 42, 27]
abbrev dktX0_cond_0 : List UInt8 := dkwX0_cond_0 ++ dktX0_cond_1
theorem dksX0_cond_0 : cX0_cond.data.toList.drop 0 = dktX0_cond_0 := by decide +kernel
theorem dksX0_cond_1 : cX0_cond.data.toList.drop 23 = dktX0_cond_1 := dk_seg dksX0_cond_0 23 rfl rfl
theorem dX0_cond_0 : decode cX0_cond 0 = .ok (.aload_n 0, 1) := dk_42 (dk_at dksX0_cond_0 0 rfl rfl)
theorem dX0_cond_1 : decode cX0_cond 1 = .ok (.iload_n 1, 1) := dk_27 (dk_at dksX0_cond_0 1 rfl rfl)
theorem dX0_cond_2 : decode cX0_cond 2 = .ok (.invokevirtual 512, 3) := dk_182 2 0 (dk_at dksX0_cond_0 2 rfl rfl)
theorem dX0_cond_5 : decode cX0_cond 5 = .ok (.astore_n 2, 1) := dk_77 (dk_at dksX0_cond_0 5 rfl rfl)
theorem dX0_cond_6 : decode cX0_cond 6 = .ok (.aload_n 0, 1) := dk_42 (dk_at dksX0_cond_0 6 rfl rfl)
theorem dX0_cond_7 : decode cX0_cond 7 = .ok (.ldc_w 515, 3) := dk_19 2 3 (dk_at dksX0_cond_0 7 rfl rfl)
theorem dX0_cond_10 : decode cX0_cond 10 = .ok (.invokevirtual 457, 3) := dk_182 1 201 (dk_at dksX0_cond_0 10 rfl rfl)
theorem dX0_cond_13 : decode cX0_cond 13 = .ok (.ifCond .eq 20, 3) := dk_153 0 20 (dk_at dksX0_cond_0 13 rfl rfl)
theorem dX0_cond_16 : decode cX0_cond 16 = .ok (.new 517, 3) := dk_187 2 5 (dk_at dksX0_cond_0 16 rfl rfl)
theorem dX0_cond_19 : decode cX0_cond 19 = .ok (.dup, 1) := dk_89 (dk_at dksX0_cond_0 19 rfl rfl)
theorem dX0_cond_20 : decode cX0_cond 20 = .ok (.aload_n 2, 1) := dk_44 (dk_at dksX0_cond_0 20 rfl rfl)
theorem dX0_cond_21 : decode cX0_cond 21 = .ok (.aload_n 0, 1) := dk_42 (dk_at dksX0_cond_0 21 rfl rfl)
theorem dX0_cond_22 : decode cX0_cond 22 = .ok (.iload_n 1, 1) := dk_27 (dk_at dksX0_cond_0 22 rfl rfl)
theorem dX0_cond_23 : decode cX0_cond 23 = .ok (.invokevirtual 512, 3) := dk_182 2 0 (dk_at dksX0_cond_1 0 rfl rfl)
theorem dX0_cond_26 : decode cX0_cond 26 = .ok (.invokespecial 519, 3) := dk_183 2 7 (dk_at dksX0_cond_1 3 rfl rfl)
theorem dX0_cond_29 : decode cX0_cond 29 = .ok (.astore_n 2, 1) := dk_77 (dk_at dksX0_cond_1 6 rfl rfl)
theorem dX0_cond_30 : decode cX0_cond 30 = .ok (.goto (-24), 3) := dk_167 255 232 (dk_at dksX0_cond_1 7 rfl rfl)
theorem dX0_cond_33 : decode cX0_cond 33 = .ok (.aload_n 2, 1) := dk_44 (dk_at dksX0_cond_1 10 rfl rfl)
theorem dX0_cond_34 : decode cX0_cond 34 = .ok (.areturn, 1) := dk_176 (dk_at dksX0_cond_1 11 rfl rfl)
abbrev cX0_all : ByteArray := prog_1_method_85_code
def yX0_all : MethodName := ⟨RX0, "all", "(I)LCoarserOrders$Cond;"⟩
def dkwX0_all_1 : List UInt8 := [182, 1, 222, 183, 1, 253, 77, 167, 255, 232, 44, 176]
abbrev dktX0_all_1 : List UInt8 := dkwX0_all_1 ++ []
def dkwX0_all_0 : List UInt8 := [42, 27, 182, 1, 222, 77, 42, 19, 1, 249, 182, 1, 201, 153, 0, 20, 187, 1, 251, 89, 44, 42, 27]
abbrev dktX0_all_0 : List UInt8 := dkwX0_all_0 ++ dktX0_all_1
theorem dksX0_all_0 : cX0_all.data.toList.drop 0 = dktX0_all_0 := by decide +kernel
theorem dksX0_all_1 : cX0_all.data.toList.drop 23 = dktX0_all_1 := dk_seg dksX0_all_0 23 rfl rfl
theorem dX0_all_0 : decode cX0_all 0 = .ok (.aload_n 0, 1) := dk_42 (dk_at dksX0_all_0 0 rfl rfl)
theorem dX0_all_1 : decode cX0_all 1 = .ok (.iload_n 1, 1) := dk_27 (dk_at dksX0_all_0 1 rfl rfl)
theorem dX0_all_2 : decode cX0_all 2 = .ok (.invokevirtual 478, 3) := dk_182 1 222 (dk_at dksX0_all_0 2 rfl rfl)
theorem dX0_all_5 : decode cX0_all 5 = .ok (.astore_n 2, 1) := dk_77 (dk_at dksX0_all_0 5 rfl rfl)
theorem dX0_all_6 : decode cX0_all 6 = .ok (.aload_n 0, 1) := dk_42 (dk_at dksX0_all_0 6 rfl rfl)
theorem dX0_all_7 : decode cX0_all 7 = .ok (.ldc_w 505, 3) := dk_19 1 249 (dk_at dksX0_all_0 7 rfl rfl)
theorem dX0_all_10 : decode cX0_all 10 = .ok (.invokevirtual 457, 3) := dk_182 1 201 (dk_at dksX0_all_0 10 rfl rfl)
theorem dX0_all_13 : decode cX0_all 13 = .ok (.ifCond .eq 20, 3) := dk_153 0 20 (dk_at dksX0_all_0 13 rfl rfl)
theorem dX0_all_16 : decode cX0_all 16 = .ok (.new 507, 3) := dk_187 1 251 (dk_at dksX0_all_0 16 rfl rfl)
theorem dX0_all_19 : decode cX0_all 19 = .ok (.dup, 1) := dk_89 (dk_at dksX0_all_0 19 rfl rfl)
theorem dX0_all_20 : decode cX0_all 20 = .ok (.aload_n 2, 1) := dk_44 (dk_at dksX0_all_0 20 rfl rfl)
theorem dX0_all_21 : decode cX0_all 21 = .ok (.aload_n 0, 1) := dk_42 (dk_at dksX0_all_0 21 rfl rfl)
theorem dX0_all_22 : decode cX0_all 22 = .ok (.iload_n 1, 1) := dk_27 (dk_at dksX0_all_0 22 rfl rfl)
theorem dX0_all_23 : decode cX0_all 23 = .ok (.invokevirtual 478, 3) := dk_182 1 222 (dk_at dksX0_all_1 0 rfl rfl)
theorem dX0_all_26 : decode cX0_all 26 = .ok (.invokespecial 509, 3) := dk_183 1 253 (dk_at dksX0_all_1 3 rfl rfl)
theorem dX0_all_29 : decode cX0_all 29 = .ok (.astore_n 2, 1) := dk_77 (dk_at dksX0_all_1 6 rfl rfl)
theorem dX0_all_30 : decode cX0_all 30 = .ok (.goto (-24), 3) := dk_167 255 232 (dk_at dksX0_all_1 7 rfl rfl)
theorem dX0_all_33 : decode cX0_all 33 = .ok (.aload_n 2, 1) := dk_44 (dk_at dksX0_all_1 10 rfl rfl)
theorem dX0_all_34 : decode cX0_all 34 = .ok (.areturn, 1) := dk_176 (dk_at dksX0_all_1 11 rfl rfl)
abbrev cX0_oneOf : ByteArray := prog_1_method_84_code
def yX0_oneOf : MethodName := ⟨RX0, "oneOf", "(I)LCoarserOrders$Cond;"⟩
def dkwX0_oneOf_5 : List UInt8 := [44, 29, 42, 182, 1, 240, 183, 1, 246, 176]
abbrev dktX0_oneOf_5 : List UInt8 := dkwX0_oneOf_5 ++ []
def dkwX0_oneOf_4 : List UInt8 := [16, 61, 159, 0, 14, 29, 16, 62, 159, 0, 8, 42, 182, 1, 204, 191, 42, 182, 1, 198, 187, 1, 244, 89]
abbrev dktX0_oneOf_4 : List UInt8 := dkwX0_oneOf_4 ++ dktX0_oneOf_5
def dkwX0_oneOf_3 : List UInt8 := [160, 0, 15, 42, 180, 0, 174, 42, 180, 1, 177, 51, 167, 0, 4, 2, 62, 29, 16, 60, 159, 0, 20, 29]
abbrev dktX0_oneOf_3 : List UInt8 := dkwX0_oneOf_3 ++ dktX0_oneOf_4
def dkwX0_oneOf_2 : List UInt8 := [19, 1, 234, 182, 1, 236, 44, 176, 42, 182, 1, 240, 77, 42, 180, 1, 174, 42, 180, 1, 177, 100, 4]
abbrev dktX0_oneOf_2 : List UInt8 := dkwX0_oneOf_2 ++ dktX0_oneOf_3
def dkwX0_oneOf_1 : List UInt8 := [6, 162, 0, 30, 42, 19, 1, 229, 182, 1, 201, 153, 0, 20, 42, 27, 4, 96, 182, 1, 231, 77, 42]
abbrev dktX0_oneOf_1 : List UInt8 := dkwX0_oneOf_1 ++ dktX0_oneOf_2
def dkwX0_oneOf_0 : List UInt8 := [42, 19, 1, 218, 182, 1, 201, 153, 0, 16, 187, 1, 220, 89, 42, 27, 182, 1, 222, 183, 1, 226, 176, 27]
abbrev dktX0_oneOf_0 : List UInt8 := dkwX0_oneOf_0 ++ dktX0_oneOf_1
theorem dksX0_oneOf_0 : cX0_oneOf.data.toList.drop 0 = dktX0_oneOf_0 := by decide +kernel
theorem dksX0_oneOf_1 : cX0_oneOf.data.toList.drop 24 = dktX0_oneOf_1 := dk_seg dksX0_oneOf_0 24 rfl rfl
theorem dksX0_oneOf_2 : cX0_oneOf.data.toList.drop 47 = dktX0_oneOf_2 := dk_seg dksX0_oneOf_1 23 rfl rfl
theorem dksX0_oneOf_3 : cX0_oneOf.data.toList.drop 70 = dktX0_oneOf_3 := dk_seg dksX0_oneOf_2 23 rfl rfl
theorem dksX0_oneOf_4 : cX0_oneOf.data.toList.drop 94 = dktX0_oneOf_4 := dk_seg dksX0_oneOf_3 24 rfl rfl
theorem dksX0_oneOf_5 : cX0_oneOf.data.toList.drop 118 = dktX0_oneOf_5 := dk_seg dksX0_oneOf_4 24 rfl rfl
theorem dX0_oneOf_0 : decode cX0_oneOf 0 = .ok (.aload_n 0, 1) := dk_42 (dk_at dksX0_oneOf_0 0 rfl rfl)
theorem dX0_oneOf_1 : decode cX0_oneOf 1 = .ok (.ldc_w 474, 3) := dk_19 1 218 (dk_at dksX0_oneOf_0 1 rfl rfl)
theorem dX0_oneOf_4 : decode cX0_oneOf 4 = .ok (.invokevirtual 457, 3) := dk_182 1 201 (dk_at dksX0_oneOf_0 4 rfl rfl)
theorem dX0_oneOf_7 : decode cX0_oneOf 7 = .ok (.ifCond .eq 16, 3) := dk_153 0 16 (dk_at dksX0_oneOf_0 7 rfl rfl)
theorem dX0_oneOf_10 : decode cX0_oneOf 10 = .ok (.new 476, 3) := dk_187 1 220 (dk_at dksX0_oneOf_0 10 rfl rfl)
theorem dX0_oneOf_13 : decode cX0_oneOf 13 = .ok (.dup, 1) := dk_89 (dk_at dksX0_oneOf_0 13 rfl rfl)
theorem dX0_oneOf_14 : decode cX0_oneOf 14 = .ok (.aload_n 0, 1) := dk_42 (dk_at dksX0_oneOf_0 14 rfl rfl)
theorem dX0_oneOf_15 : decode cX0_oneOf 15 = .ok (.iload_n 1, 1) := dk_27 (dk_at dksX0_oneOf_0 15 rfl rfl)
theorem dX0_oneOf_16 : decode cX0_oneOf 16 = .ok (.invokevirtual 478, 3) := dk_182 1 222 (dk_at dksX0_oneOf_0 16 rfl rfl)
theorem dX0_oneOf_19 : decode cX0_oneOf 19 = .ok (.invokespecial 482, 3) := dk_183 1 226 (dk_at dksX0_oneOf_0 19 rfl rfl)
theorem dX0_oneOf_22 : decode cX0_oneOf 22 = .ok (.areturn, 1) := dk_176 (dk_at dksX0_oneOf_0 22 rfl rfl)
theorem dX0_oneOf_23 : decode cX0_oneOf 23 = .ok (.iload_n 1, 1) := dk_27 (dk_at dksX0_oneOf_0 23 rfl rfl)
theorem dX0_oneOf_24 : decode cX0_oneOf 24 = .ok (.iconst 3, 1) := dk_6 (dk_at dksX0_oneOf_1 0 rfl rfl)
theorem dX0_oneOf_25 : decode cX0_oneOf 25 = .ok (.if_icmp .ge 30, 3) := dk_162 0 30 (dk_at dksX0_oneOf_1 1 rfl rfl)
theorem dX0_oneOf_28 : decode cX0_oneOf 28 = .ok (.aload_n 0, 1) := dk_42 (dk_at dksX0_oneOf_1 4 rfl rfl)
theorem dX0_oneOf_29 : decode cX0_oneOf 29 = .ok (.ldc_w 485, 3) := dk_19 1 229 (dk_at dksX0_oneOf_1 5 rfl rfl)
theorem dX0_oneOf_32 : decode cX0_oneOf 32 = .ok (.invokevirtual 457, 3) := dk_182 1 201 (dk_at dksX0_oneOf_1 8 rfl rfl)
theorem dX0_oneOf_35 : decode cX0_oneOf 35 = .ok (.ifCond .eq 20, 3) := dk_153 0 20 (dk_at dksX0_oneOf_1 11 rfl rfl)
theorem dX0_oneOf_38 : decode cX0_oneOf 38 = .ok (.aload_n 0, 1) := dk_42 (dk_at dksX0_oneOf_1 14 rfl rfl)
theorem dX0_oneOf_39 : decode cX0_oneOf 39 = .ok (.iload_n 1, 1) := dk_27 (dk_at dksX0_oneOf_1 15 rfl rfl)
theorem dX0_oneOf_40 : decode cX0_oneOf 40 = .ok (.iconst 1, 1) := dk_4 (dk_at dksX0_oneOf_1 16 rfl rfl)
theorem dX0_oneOf_41 : decode cX0_oneOf 41 = .ok (.iadd, 1) := dk_96 (dk_at dksX0_oneOf_1 17 rfl rfl)
theorem dX0_oneOf_42 : decode cX0_oneOf 42 = .ok (.invokevirtual 487, 3) := dk_182 1 231 (dk_at dksX0_oneOf_1 18 rfl rfl)
theorem dX0_oneOf_45 : decode cX0_oneOf 45 = .ok (.astore_n 2, 1) := dk_77 (dk_at dksX0_oneOf_1 21 rfl rfl)
theorem dX0_oneOf_46 : decode cX0_oneOf 46 = .ok (.aload_n 0, 1) := dk_42 (dk_at dksX0_oneOf_1 22 rfl rfl)
theorem dX0_oneOf_47 : decode cX0_oneOf 47 = .ok (.ldc_w 490, 3) := dk_19 1 234 (dk_at dksX0_oneOf_2 0 rfl rfl)
theorem dX0_oneOf_50 : decode cX0_oneOf 50 = .ok (.invokevirtual 492, 3) := dk_182 1 236 (dk_at dksX0_oneOf_2 3 rfl rfl)
theorem dX0_oneOf_53 : decode cX0_oneOf 53 = .ok (.aload_n 2, 1) := dk_44 (dk_at dksX0_oneOf_2 6 rfl rfl)
theorem dX0_oneOf_54 : decode cX0_oneOf 54 = .ok (.areturn, 1) := dk_176 (dk_at dksX0_oneOf_2 7 rfl rfl)
theorem dX0_oneOf_55 : decode cX0_oneOf 55 = .ok (.aload_n 0, 1) := dk_42 (dk_at dksX0_oneOf_2 8 rfl rfl)
theorem dX0_oneOf_56 : decode cX0_oneOf 56 = .ok (.invokevirtual 496, 3) := dk_182 1 240 (dk_at dksX0_oneOf_2 9 rfl rfl)
theorem dX0_oneOf_59 : decode cX0_oneOf 59 = .ok (.astore_n 2, 1) := dk_77 (dk_at dksX0_oneOf_2 12 rfl rfl)
theorem dX0_oneOf_60 : decode cX0_oneOf 60 = .ok (.aload_n 0, 1) := dk_42 (dk_at dksX0_oneOf_2 13 rfl rfl)
theorem dX0_oneOf_61 : decode cX0_oneOf 61 = .ok (.getfield 430, 3) := dk_180 1 174 (dk_at dksX0_oneOf_2 14 rfl rfl)
theorem dX0_oneOf_64 : decode cX0_oneOf 64 = .ok (.aload_n 0, 1) := dk_42 (dk_at dksX0_oneOf_2 17 rfl rfl)
theorem dX0_oneOf_65 : decode cX0_oneOf 65 = .ok (.getfield 433, 3) := dk_180 1 177 (dk_at dksX0_oneOf_2 18 rfl rfl)
theorem dX0_oneOf_68 : decode cX0_oneOf 68 = .ok (.isub, 1) := dk_100 (dk_at dksX0_oneOf_2 21 rfl rfl)
theorem dX0_oneOf_69 : decode cX0_oneOf 69 = .ok (.iconst 1, 1) := dk_4 (dk_at dksX0_oneOf_2 22 rfl rfl)
theorem dX0_oneOf_70 : decode cX0_oneOf 70 = .ok (.if_icmp .ne 15, 3) := dk_160 0 15 (dk_at dksX0_oneOf_3 0 rfl rfl)
theorem dX0_oneOf_73 : decode cX0_oneOf 73 = .ok (.aload_n 0, 1) := dk_42 (dk_at dksX0_oneOf_3 3 rfl rfl)
theorem dX0_oneOf_74 : decode cX0_oneOf 74 = .ok (.getfield 174, 3) := dk_180 0 174 (dk_at dksX0_oneOf_3 4 rfl rfl)
theorem dX0_oneOf_77 : decode cX0_oneOf 77 = .ok (.aload_n 0, 1) := dk_42 (dk_at dksX0_oneOf_3 7 rfl rfl)
theorem dX0_oneOf_78 : decode cX0_oneOf 78 = .ok (.getfield 433, 3) := dk_180 1 177 (dk_at dksX0_oneOf_3 8 rfl rfl)
theorem dX0_oneOf_81 : decode cX0_oneOf 81 = .ok (.baload, 1) := dk_51 (dk_at dksX0_oneOf_3 11 rfl rfl)
theorem dX0_oneOf_82 : decode cX0_oneOf 82 = .ok (.goto 4, 3) := dk_167 0 4 (dk_at dksX0_oneOf_3 12 rfl rfl)
theorem dX0_oneOf_85 : decode cX0_oneOf 85 = .ok (.iconst (-1), 1) := dk_2 (dk_at dksX0_oneOf_3 15 rfl rfl)
theorem dX0_oneOf_86 : decode cX0_oneOf 86 = .ok (.istore_n 3, 1) := dk_62 (dk_at dksX0_oneOf_3 16 rfl rfl)
theorem dX0_oneOf_87 : decode cX0_oneOf 87 = .ok (.iload_n 3, 1) := dk_29 (dk_at dksX0_oneOf_3 17 rfl rfl)
theorem dX0_oneOf_88 : decode cX0_oneOf 88 = .ok (.bipush 60, 2) := dk_16 60 (dk_at dksX0_oneOf_3 18 rfl rfl)
theorem dX0_oneOf_90 : decode cX0_oneOf 90 = .ok (.if_icmp .eq 20, 3) := dk_159 0 20 (dk_at dksX0_oneOf_3 20 rfl rfl)
theorem dX0_oneOf_93 : decode cX0_oneOf 93 = .ok (.iload_n 3, 1) := dk_29 (dk_at dksX0_oneOf_3 23 rfl rfl)
theorem dX0_oneOf_94 : decode cX0_oneOf 94 = .ok (.bipush 61, 2) := dk_16 61 (dk_at dksX0_oneOf_4 0 rfl rfl)
theorem dX0_oneOf_96 : decode cX0_oneOf 96 = .ok (.if_icmp .eq 14, 3) := dk_159 0 14 (dk_at dksX0_oneOf_4 2 rfl rfl)
theorem dX0_oneOf_99 : decode cX0_oneOf 99 = .ok (.iload_n 3, 1) := dk_29 (dk_at dksX0_oneOf_4 5 rfl rfl)
theorem dX0_oneOf_100 : decode cX0_oneOf 100 = .ok (.bipush 62, 2) := dk_16 62 (dk_at dksX0_oneOf_4 6 rfl rfl)
theorem dX0_oneOf_102 : decode cX0_oneOf 102 = .ok (.if_icmp .eq 8, 3) := dk_159 0 8 (dk_at dksX0_oneOf_4 8 rfl rfl)
theorem dX0_oneOf_105 : decode cX0_oneOf 105 = .ok (.aload_n 0, 1) := dk_42 (dk_at dksX0_oneOf_4 11 rfl rfl)
theorem dX0_oneOf_106 : decode cX0_oneOf 106 = .ok (.invokevirtual 460, 3) := dk_182 1 204 (dk_at dksX0_oneOf_4 12 rfl rfl)
theorem dX0_oneOf_109 : decode cX0_oneOf 109 = .ok (.athrow, 1) := dk_191 (dk_at dksX0_oneOf_4 15 rfl rfl)
theorem dX0_oneOf_110 : decode cX0_oneOf 110 = .ok (.aload_n 0, 1) := dk_42 (dk_at dksX0_oneOf_4 16 rfl rfl)
theorem dX0_oneOf_111 : decode cX0_oneOf 111 = .ok (.invokevirtual 454, 3) := dk_182 1 198 (dk_at dksX0_oneOf_4 17 rfl rfl)
theorem dX0_oneOf_114 : decode cX0_oneOf 114 = .ok (.new 500, 3) := dk_187 1 244 (dk_at dksX0_oneOf_4 20 rfl rfl)
theorem dX0_oneOf_117 : decode cX0_oneOf 117 = .ok (.dup, 1) := dk_89 (dk_at dksX0_oneOf_4 23 rfl rfl)
theorem dX0_oneOf_118 : decode cX0_oneOf 118 = .ok (.aload_n 2, 1) := dk_44 (dk_at dksX0_oneOf_5 0 rfl rfl)
theorem dX0_oneOf_119 : decode cX0_oneOf 119 = .ok (.iload_n 3, 1) := dk_29 (dk_at dksX0_oneOf_5 1 rfl rfl)
theorem dX0_oneOf_120 : decode cX0_oneOf 120 = .ok (.aload_n 0, 1) := dk_42 (dk_at dksX0_oneOf_5 2 rfl rfl)
theorem dX0_oneOf_121 : decode cX0_oneOf 121 = .ok (.invokevirtual 496, 3) := dk_182 1 240 (dk_at dksX0_oneOf_5 3 rfl rfl)
theorem dX0_oneOf_124 : decode cX0_oneOf 124 = .ok (.invokespecial 502, 3) := dk_183 1 246 (dk_at dksX0_oneOf_5 6 rfl rfl)
theorem dX0_oneOf_127 : decode cX0_oneOf 127 = .ok (.areturn, 1) := dk_176 (dk_at dksX0_oneOf_5 9 rfl rfl)
abbrev cX0_goesOn : ByteArray := prog_1_method_79_code
def yX0_goesOn : MethodName := ⟨RX0, "goesOn", "(Ljava/lang/String;)Z"⟩
def dkwX0_goesOn_0 : List UInt8 := [42, 43, 182, 1, 194, 154, 0, 5, 3, 172, 42, 182, 1, 198, 4, 172]
abbrev dktX0_goesOn_0 : List UInt8 := dkwX0_goesOn_0 ++ []
theorem dksX0_goesOn_0 : cX0_goesOn.data.toList.drop 0 = dktX0_goesOn_0 := by decide +kernel
theorem dX0_goesOn_0 : decode cX0_goesOn 0 = .ok (.aload_n 0, 1) := dk_42 (dk_at dksX0_goesOn_0 0 rfl rfl)
theorem dX0_goesOn_1 : decode cX0_goesOn 1 = .ok (.aload_n 1, 1) := dk_43 (dk_at dksX0_goesOn_0 1 rfl rfl)
theorem dX0_goesOn_2 : decode cX0_goesOn 2 = .ok (.invokevirtual 450, 3) := dk_182 1 194 (dk_at dksX0_goesOn_0 2 rfl rfl)
theorem dX0_goesOn_5 : decode cX0_goesOn 5 = .ok (.ifCond .ne 5, 3) := dk_154 0 5 (dk_at dksX0_goesOn_0 5 rfl rfl)
theorem dX0_goesOn_8 : decode cX0_goesOn 8 = .ok (.iconst 0, 1) := dk_3 (dk_at dksX0_goesOn_0 8 rfl rfl)
theorem dX0_goesOn_9 : decode cX0_goesOn 9 = .ok (.ireturn, 1) := dk_172 (dk_at dksX0_goesOn_0 9 rfl rfl)
theorem dX0_goesOn_10 : decode cX0_goesOn 10 = .ok (.aload_n 0, 1) := dk_42 (dk_at dksX0_goesOn_0 10 rfl rfl)
theorem dX0_goesOn_11 : decode cX0_goesOn 11 = .ok (.invokevirtual 454, 3) := dk_182 1 198 (dk_at dksX0_goesOn_0 11 rfl rfl)
theorem dX0_goesOn_14 : decode cX0_goesOn 14 = .ok (.iconst 1, 1) := dk_4 (dk_at dksX0_goesOn_0 14 rfl rfl)
theorem dX0_goesOn_15 : decode cX0_goesOn 15 = .ok (.ireturn, 1) := dk_172 (dk_at dksX0_goesOn_0 15 rfl rfl)
abbrev cX0_isName : ByteArray := prog_1_method_78_code
def yX0_isName : MethodName := ⟨RX0, "isName", "(Ljava/lang/String;)Z"⟩
def dkwX0_isName_2 : List UInt8 := [159, 0, 5, 3, 172, 132, 2, 1, 167, 255, 224, 4, 172]
abbrev dktX0_isName_2 : List UInt8 := dkwX0_isName_2 ++ []
def dkwX0_isName_1 : List UInt8 := [182, 1, 187, 162, 0, 30, 42, 180, 0, 174, 42, 180, 1, 177, 28, 96, 51, 43, 28, 182, 1, 190]
abbrev dktX0_isName_1 : List UInt8 := dkwX0_isName_1 ++ dktX0_isName_2
def dkwX0_isName_0 : List UInt8 := [42, 180, 1, 174, 42, 180, 1, 177, 100, 43, 182, 1, 187, 159, 0, 5, 3, 172, 3, 61, 28, 43]
abbrev dktX0_isName_0 : List UInt8 := dkwX0_isName_0 ++ dktX0_isName_1
theorem dksX0_isName_0 : cX0_isName.data.toList.drop 0 = dktX0_isName_0 := by decide +kernel
theorem dksX0_isName_1 : cX0_isName.data.toList.drop 22 = dktX0_isName_1 := dk_seg dksX0_isName_0 22 rfl rfl
theorem dksX0_isName_2 : cX0_isName.data.toList.drop 44 = dktX0_isName_2 := dk_seg dksX0_isName_1 22 rfl rfl
theorem dX0_isName_0 : decode cX0_isName 0 = .ok (.aload_n 0, 1) := dk_42 (dk_at dksX0_isName_0 0 rfl rfl)
theorem dX0_isName_1 : decode cX0_isName 1 = .ok (.getfield 430, 3) := dk_180 1 174 (dk_at dksX0_isName_0 1 rfl rfl)
theorem dX0_isName_4 : decode cX0_isName 4 = .ok (.aload_n 0, 1) := dk_42 (dk_at dksX0_isName_0 4 rfl rfl)
theorem dX0_isName_5 : decode cX0_isName 5 = .ok (.getfield 433, 3) := dk_180 1 177 (dk_at dksX0_isName_0 5 rfl rfl)
theorem dX0_isName_8 : decode cX0_isName 8 = .ok (.isub, 1) := dk_100 (dk_at dksX0_isName_0 8 rfl rfl)
theorem dX0_isName_9 : decode cX0_isName 9 = .ok (.aload_n 1, 1) := dk_43 (dk_at dksX0_isName_0 9 rfl rfl)
theorem dX0_isName_10 : decode cX0_isName 10 = .ok (.invokevirtual 443, 3) := dk_182 1 187 (dk_at dksX0_isName_0 10 rfl rfl)
theorem dX0_isName_13 : decode cX0_isName 13 = .ok (.if_icmp .eq 5, 3) := dk_159 0 5 (dk_at dksX0_isName_0 13 rfl rfl)
theorem dX0_isName_16 : decode cX0_isName 16 = .ok (.iconst 0, 1) := dk_3 (dk_at dksX0_isName_0 16 rfl rfl)
theorem dX0_isName_17 : decode cX0_isName 17 = .ok (.ireturn, 1) := dk_172 (dk_at dksX0_isName_0 17 rfl rfl)
theorem dX0_isName_18 : decode cX0_isName 18 = .ok (.iconst 0, 1) := dk_3 (dk_at dksX0_isName_0 18 rfl rfl)
theorem dX0_isName_19 : decode cX0_isName 19 = .ok (.istore_n 2, 1) := dk_61 (dk_at dksX0_isName_0 19 rfl rfl)
theorem dX0_isName_20 : decode cX0_isName 20 = .ok (.iload_n 2, 1) := dk_28 (dk_at dksX0_isName_0 20 rfl rfl)
theorem dX0_isName_21 : decode cX0_isName 21 = .ok (.aload_n 1, 1) := dk_43 (dk_at dksX0_isName_0 21 rfl rfl)
theorem dX0_isName_22 : decode cX0_isName 22 = .ok (.invokevirtual 443, 3) := dk_182 1 187 (dk_at dksX0_isName_1 0 rfl rfl)
theorem dX0_isName_25 : decode cX0_isName 25 = .ok (.if_icmp .ge 30, 3) := dk_162 0 30 (dk_at dksX0_isName_1 3 rfl rfl)
theorem dX0_isName_28 : decode cX0_isName 28 = .ok (.aload_n 0, 1) := dk_42 (dk_at dksX0_isName_1 6 rfl rfl)
theorem dX0_isName_29 : decode cX0_isName 29 = .ok (.getfield 174, 3) := dk_180 0 174 (dk_at dksX0_isName_1 7 rfl rfl)
theorem dX0_isName_32 : decode cX0_isName 32 = .ok (.aload_n 0, 1) := dk_42 (dk_at dksX0_isName_1 10 rfl rfl)
theorem dX0_isName_33 : decode cX0_isName 33 = .ok (.getfield 433, 3) := dk_180 1 177 (dk_at dksX0_isName_1 11 rfl rfl)
theorem dX0_isName_36 : decode cX0_isName 36 = .ok (.iload_n 2, 1) := dk_28 (dk_at dksX0_isName_1 14 rfl rfl)
theorem dX0_isName_37 : decode cX0_isName 37 = .ok (.iadd, 1) := dk_96 (dk_at dksX0_isName_1 15 rfl rfl)
theorem dX0_isName_38 : decode cX0_isName 38 = .ok (.baload, 1) := dk_51 (dk_at dksX0_isName_1 16 rfl rfl)
theorem dX0_isName_39 : decode cX0_isName 39 = .ok (.aload_n 1, 1) := dk_43 (dk_at dksX0_isName_1 17 rfl rfl)
theorem dX0_isName_40 : decode cX0_isName 40 = .ok (.iload_n 2, 1) := dk_28 (dk_at dksX0_isName_1 18 rfl rfl)
theorem dX0_isName_41 : decode cX0_isName 41 = .ok (.invokevirtual 446, 3) := dk_182 1 190 (dk_at dksX0_isName_1 19 rfl rfl)
theorem dX0_isName_44 : decode cX0_isName 44 = .ok (.if_icmp .eq 5, 3) := dk_159 0 5 (dk_at dksX0_isName_2 0 rfl rfl)
theorem dX0_isName_47 : decode cX0_isName 47 = .ok (.iconst 0, 1) := dk_3 (dk_at dksX0_isName_2 3 rfl rfl)
theorem dX0_isName_48 : decode cX0_isName 48 = .ok (.ireturn, 1) := dk_172 (dk_at dksX0_isName_2 4 rfl rfl)
theorem dX0_isName_49 : decode cX0_isName 49 = .ok (.iinc 2 1, 3) := dk_132 2 1 (dk_at dksX0_isName_2 5 rfl rfl)
theorem dX0_isName_52 : decode cX0_isName 52 = .ok (.goto (-32), 3) := dk_167 255 224 (dk_at dksX0_isName_2 8 rfl rfl)
theorem dX0_isName_55 : decode cX0_isName 55 = .ok (.iconst 1, 1) := dk_4 (dk_at dksX0_isName_2 11 rfl rfl)
theorem dX0_isName_56 : decode cX0_isName 56 = .ok (.ireturn, 1) := dk_172 (dk_at dksX0_isName_2 12 rfl rfl)
abbrev cX0_want : ByteArray := prog_1_method_80_code
def yX0_want : MethodName := ⟨RX0, "want", "(Ljava/lang/String;)V"⟩
def dkwX0_want_0 : List UInt8 := [42, 43, 182, 1, 201, 154, 0, 8, 42, 182, 1, 204, 191, 177]
abbrev dktX0_want_0 : List UInt8 := dkwX0_want_0 ++ []
theorem dksX0_want_0 : cX0_want.data.toList.drop 0 = dktX0_want_0 := by decide +kernel
theorem dX0_want_0 : decode cX0_want 0 = .ok (.aload_n 0, 1) := dk_42 (dk_at dksX0_want_0 0 rfl rfl)
theorem dX0_want_1 : decode cX0_want 1 = .ok (.aload_n 1, 1) := dk_43 (dk_at dksX0_want_0 1 rfl rfl)
theorem dX0_want_2 : decode cX0_want 2 = .ok (.invokevirtual 457, 3) := dk_182 1 201 (dk_at dksX0_want_0 2 rfl rfl)
theorem dX0_want_5 : decode cX0_want 5 = .ok (.ifCond .ne 8, 3) := dk_154 0 8 (dk_at dksX0_want_0 5 rfl rfl)
theorem dX0_want_8 : decode cX0_want 8 = .ok (.aload_n 0, 1) := dk_42 (dk_at dksX0_want_0 8 rfl rfl)
theorem dX0_want_9 : decode cX0_want 9 = .ok (.invokevirtual 460, 3) := dk_182 1 204 (dk_at dksX0_want_0 9 rfl rfl)
theorem dX0_want_12 : decode cX0_want 12 = .ok (.athrow, 1) := dk_191 (dk_at dksX0_want_0 12 rfl rfl)
theorem dX0_want_13 : decode cX0_want 13 = .ok (.return_, 1) := dk_177 (dk_at dksX0_want_0 13 rfl rfl)
abbrev cX0_faultHere : ByteArray := prog_1_method_77_code
def yX0_faultHere : MethodName := ⟨RX0, "faultHere", "()LCoarserOrders$Refusal;"⟩
def dkwX0_faultHere_0 : List UInt8 := [42, 180, 0, 124, 42, 180, 1, 177, 182, 1, 186, 176]
abbrev dktX0_faultHere_0 : List UInt8 := dkwX0_faultHere_0 ++ []
theorem dksX0_faultHere_0 : cX0_faultHere.data.toList.drop 0 = dktX0_faultHere_0 := by decide +kernel
theorem dX0_faultHere_0 : decode cX0_faultHere 0 = .ok (.aload_n 0, 1) := dk_42 (dk_at dksX0_faultHere_0 0 rfl rfl)
theorem dX0_faultHere_1 : decode cX0_faultHere 1 = .ok (.getfield 124, 3) := dk_180 0 124 (dk_at dksX0_faultHere_0 1 rfl rfl)
theorem dX0_faultHere_4 : decode cX0_faultHere 4 = .ok (.aload_n 0, 1) := dk_42 (dk_at dksX0_faultHere_0 4 rfl rfl)
theorem dX0_faultHere_5 : decode cX0_faultHere 5 = .ok (.getfield 433, 3) := dk_180 1 177 (dk_at dksX0_faultHere_0 5 rfl rfl)
theorem dX0_faultHere_8 : decode cX0_faultHere 8 = .ok (.invokevirtual 442, 3) := dk_182 1 186 (dk_at dksX0_faultHere_0 8 rfl rfl)
theorem dX0_faultHere_11 : decode cX0_faultHere 11 = .ok (.areturn, 1) := dk_176 (dk_at dksX0_faultHere_0 11 rfl rfl)
abbrev cX0_value : ByteArray := prog_1_method_83_code
def yX0_value : MethodName := ⟨RX0, "value", "()LCoarserOrders$Value;"⟩
def dkwX0_value_1 : List UInt8 := [167, 0, 15, 187, 1, 212, 89, 2, 42, 182, 1, 215, 183, 1, 214, 176]
abbrev dktX0_value_1 : List UInt8 := dkwX0_value_1 ++ []
def dkwX0_value_0 : List UInt8 := [42, 42, 180, 0, 170, 182, 1, 208, 60, 27, 155, 0, 15, 187, 1, 212, 89, 27, 3, 183, 1, 214]
abbrev dktX0_value_0 : List UInt8 := dkwX0_value_0 ++ dktX0_value_1
theorem dksX0_value_0 : cX0_value.data.toList.drop 0 = dktX0_value_0 := by decide +kernel
theorem dksX0_value_1 : cX0_value.data.toList.drop 22 = dktX0_value_1 := dk_seg dksX0_value_0 22 rfl rfl
theorem dX0_value_0 : decode cX0_value 0 = .ok (.aload_n 0, 1) := dk_42 (dk_at dksX0_value_0 0 rfl rfl)
theorem dX0_value_1 : decode cX0_value 1 = .ok (.aload_n 0, 1) := dk_42 (dk_at dksX0_value_0 1 rfl rfl)
theorem dX0_value_2 : decode cX0_value 2 = .ok (.getfield 170, 3) := dk_180 0 170 (dk_at dksX0_value_0 2 rfl rfl)
theorem dX0_value_5 : decode cX0_value 5 = .ok (.invokevirtual 464, 3) := dk_182 1 208 (dk_at dksX0_value_0 5 rfl rfl)
theorem dX0_value_8 : decode cX0_value 8 = .ok (.istore_n 1, 1) := dk_60 (dk_at dksX0_value_0 8 rfl rfl)
theorem dX0_value_9 : decode cX0_value 9 = .ok (.iload_n 1, 1) := dk_27 (dk_at dksX0_value_0 9 rfl rfl)
theorem dX0_value_10 : decode cX0_value 10 = .ok (.ifCond .lt 15, 3) := dk_155 0 15 (dk_at dksX0_value_0 10 rfl rfl)
theorem dX0_value_13 : decode cX0_value 13 = .ok (.new 468, 3) := dk_187 1 212 (dk_at dksX0_value_0 13 rfl rfl)
theorem dX0_value_16 : decode cX0_value 16 = .ok (.dup, 1) := dk_89 (dk_at dksX0_value_0 16 rfl rfl)
theorem dX0_value_17 : decode cX0_value 17 = .ok (.iload_n 1, 1) := dk_27 (dk_at dksX0_value_0 17 rfl rfl)
theorem dX0_value_18 : decode cX0_value 18 = .ok (.iconst 0, 1) := dk_3 (dk_at dksX0_value_0 18 rfl rfl)
theorem dX0_value_19 : decode cX0_value 19 = .ok (.invokespecial 470, 3) := dk_183 1 214 (dk_at dksX0_value_0 19 rfl rfl)
theorem dX0_value_22 : decode cX0_value 22 = .ok (.goto 15, 3) := dk_167 0 15 (dk_at dksX0_value_1 0 rfl rfl)
theorem dX0_value_25 : decode cX0_value 25 = .ok (.new 468, 3) := dk_187 1 212 (dk_at dksX0_value_1 3 rfl rfl)
theorem dX0_value_28 : decode cX0_value 28 = .ok (.dup, 1) := dk_89 (dk_at dksX0_value_1 6 rfl rfl)
theorem dX0_value_29 : decode cX0_value 29 = .ok (.iconst (-1), 1) := dk_2 (dk_at dksX0_value_1 7 rfl rfl)
theorem dX0_value_30 : decode cX0_value 30 = .ok (.aload_n 0, 1) := dk_42 (dk_at dksX0_value_1 8 rfl rfl)
theorem dX0_value_31 : decode cX0_value 31 = .ok (.invokevirtual 471, 3) := dk_182 1 215 (dk_at dksX0_value_1 9 rfl rfl)
theorem dX0_value_34 : decode cX0_value 34 = .ok (.invokespecial 470, 3) := dk_183 1 214 (dk_at dksX0_value_1 12 rfl rfl)
theorem dX0_value_37 : decode cX0_value 37 = .ok (.areturn, 1) := dk_176 (dk_at dksX0_value_1 15 rfl rfl)
abbrev cX0_nameOf : ByteArray := prog_1_method_82_code
def yX0_nameOf : MethodName := ⟨RX0, "nameOf", "([Ljava/lang/String;)I"⟩
def dkwX0_nameOf_1 : List UInt8 := [167, 255, 239, 28, 155, 0, 7, 42, 182, 1, 198, 28, 172]
abbrev dktX0_nameOf_1 : List UInt8 := dkwX0_nameOf_1 ++ []
def dkwX0_nameOf_0 : List UInt8 := [43, 190, 4, 100, 61, 28, 155, 0, 19, 42, 43, 28, 50, 182, 1, 194, 154, 0, 9, 132, 2, 255]
abbrev dktX0_nameOf_0 : List UInt8 := dkwX0_nameOf_0 ++ dktX0_nameOf_1
theorem dksX0_nameOf_0 : cX0_nameOf.data.toList.drop 0 = dktX0_nameOf_0 := by decide +kernel
theorem dksX0_nameOf_1 : cX0_nameOf.data.toList.drop 22 = dktX0_nameOf_1 := dk_seg dksX0_nameOf_0 22 rfl rfl
theorem dX0_nameOf_0 : decode cX0_nameOf 0 = .ok (.aload_n 1, 1) := dk_43 (dk_at dksX0_nameOf_0 0 rfl rfl)
theorem dX0_nameOf_1 : decode cX0_nameOf 1 = .ok (.arraylength, 1) := dk_190 (dk_at dksX0_nameOf_0 1 rfl rfl)
theorem dX0_nameOf_2 : decode cX0_nameOf 2 = .ok (.iconst 1, 1) := dk_4 (dk_at dksX0_nameOf_0 2 rfl rfl)
theorem dX0_nameOf_3 : decode cX0_nameOf 3 = .ok (.isub, 1) := dk_100 (dk_at dksX0_nameOf_0 3 rfl rfl)
theorem dX0_nameOf_4 : decode cX0_nameOf 4 = .ok (.istore_n 2, 1) := dk_61 (dk_at dksX0_nameOf_0 4 rfl rfl)
theorem dX0_nameOf_5 : decode cX0_nameOf 5 = .ok (.iload_n 2, 1) := dk_28 (dk_at dksX0_nameOf_0 5 rfl rfl)
theorem dX0_nameOf_6 : decode cX0_nameOf 6 = .ok (.ifCond .lt 19, 3) := dk_155 0 19 (dk_at dksX0_nameOf_0 6 rfl rfl)
theorem dX0_nameOf_9 : decode cX0_nameOf 9 = .ok (.aload_n 0, 1) := dk_42 (dk_at dksX0_nameOf_0 9 rfl rfl)
theorem dX0_nameOf_10 : decode cX0_nameOf 10 = .ok (.aload_n 1, 1) := dk_43 (dk_at dksX0_nameOf_0 10 rfl rfl)
theorem dX0_nameOf_11 : decode cX0_nameOf 11 = .ok (.iload_n 2, 1) := dk_28 (dk_at dksX0_nameOf_0 11 rfl rfl)
theorem dX0_nameOf_12 : decode cX0_nameOf 12 = .ok (.aaload, 1) := dk_50 (dk_at dksX0_nameOf_0 12 rfl rfl)
theorem dX0_nameOf_13 : decode cX0_nameOf 13 = .ok (.invokevirtual 450, 3) := dk_182 1 194 (dk_at dksX0_nameOf_0 13 rfl rfl)
theorem dX0_nameOf_16 : decode cX0_nameOf 16 = .ok (.ifCond .ne 9, 3) := dk_154 0 9 (dk_at dksX0_nameOf_0 16 rfl rfl)
theorem dX0_nameOf_19 : decode cX0_nameOf 19 = .ok (.iinc 2 (-1), 3) := dk_132 2 255 (dk_at dksX0_nameOf_0 19 rfl rfl)
theorem dX0_nameOf_22 : decode cX0_nameOf 22 = .ok (.goto (-17), 3) := dk_167 255 239 (dk_at dksX0_nameOf_1 0 rfl rfl)
theorem dX0_nameOf_25 : decode cX0_nameOf 25 = .ok (.iload_n 2, 1) := dk_28 (dk_at dksX0_nameOf_1 3 rfl rfl)
theorem dX0_nameOf_26 : decode cX0_nameOf 26 = .ok (.ifCond .lt 7, 3) := dk_155 0 7 (dk_at dksX0_nameOf_1 4 rfl rfl)
theorem dX0_nameOf_29 : decode cX0_nameOf 29 = .ok (.aload_n 0, 1) := dk_42 (dk_at dksX0_nameOf_1 7 rfl rfl)
theorem dX0_nameOf_30 : decode cX0_nameOf 30 = .ok (.invokevirtual 454, 3) := dk_182 1 198 (dk_at dksX0_nameOf_1 8 rfl rfl)
theorem dX0_nameOf_33 : decode cX0_nameOf 33 = .ok (.iload_n 2, 1) := dk_28 (dk_at dksX0_nameOf_1 11 rfl rfl)
theorem dX0_nameOf_34 : decode cX0_nameOf 34 = .ok (.ireturn, 1) := dk_172 (dk_at dksX0_nameOf_1 12 rfl rfl)
abbrev cX0_figure : ByteArray := prog_1_method_81_code
def yX0_figure : MethodName := ⟨RX0, "figure", "()I"⟩
def dkwX0_figure_3 : List UInt8 := [132, 3, 1, 167, 255, 230, 42, 182, 1, 198, 28, 172]
abbrev dktX0_figure_3 : List UInt8 := dkwX0_figure_3 ++ []
def dkwX0_figure_2 : List UInt8 := [42, 180, 1, 174, 162, 0, 24, 16, 10, 28, 104, 42, 180, 0, 174, 29, 51, 96, 16, 48, 100, 61]
abbrev dktX0_figure_2 : List UInt8 := dkwX0_figure_2 ++ dktX0_figure_3
def dkwX0_figure_1 : List UInt8 := [42, 180, 1, 177, 51, 184, 1, 183, 154, 0, 8, 42, 182, 1, 204, 191, 3, 61, 42, 180, 1, 177, 62, 29]
abbrev dktX0_figure_1 : List UInt8 := dkwX0_figure_1 ++ dktX0_figure_2
def dkwX0_figure_0 : List UInt8 := [42, 180, 1, 174, 42, 180, 1, 177, 100, 60, 27, 4, 161, 0, 23, 27, 7, 163, 0, 18, 42, 180, 0, 174]
abbrev dktX0_figure_0 : List UInt8 := dkwX0_figure_0 ++ dktX0_figure_1
theorem dksX0_figure_0 : cX0_figure.data.toList.drop 0 = dktX0_figure_0 := by decide +kernel
theorem dksX0_figure_1 : cX0_figure.data.toList.drop 24 = dktX0_figure_1 := dk_seg dksX0_figure_0 24 rfl rfl
theorem dksX0_figure_2 : cX0_figure.data.toList.drop 48 = dktX0_figure_2 := dk_seg dksX0_figure_1 24 rfl rfl
theorem dksX0_figure_3 : cX0_figure.data.toList.drop 70 = dktX0_figure_3 := dk_seg dksX0_figure_2 22 rfl rfl
theorem dX0_figure_0 : decode cX0_figure 0 = .ok (.aload_n 0, 1) := dk_42 (dk_at dksX0_figure_0 0 rfl rfl)
theorem dX0_figure_1 : decode cX0_figure 1 = .ok (.getfield 430, 3) := dk_180 1 174 (dk_at dksX0_figure_0 1 rfl rfl)
theorem dX0_figure_4 : decode cX0_figure 4 = .ok (.aload_n 0, 1) := dk_42 (dk_at dksX0_figure_0 4 rfl rfl)
theorem dX0_figure_5 : decode cX0_figure 5 = .ok (.getfield 433, 3) := dk_180 1 177 (dk_at dksX0_figure_0 5 rfl rfl)
theorem dX0_figure_8 : decode cX0_figure 8 = .ok (.isub, 1) := dk_100 (dk_at dksX0_figure_0 8 rfl rfl)
theorem dX0_figure_9 : decode cX0_figure 9 = .ok (.istore_n 1, 1) := dk_60 (dk_at dksX0_figure_0 9 rfl rfl)
theorem dX0_figure_10 : decode cX0_figure 10 = .ok (.iload_n 1, 1) := dk_27 (dk_at dksX0_figure_0 10 rfl rfl)
theorem dX0_figure_11 : decode cX0_figure 11 = .ok (.iconst 1, 1) := dk_4 (dk_at dksX0_figure_0 11 rfl rfl)
theorem dX0_figure_12 : decode cX0_figure 12 = .ok (.if_icmp .lt 23, 3) := dk_161 0 23 (dk_at dksX0_figure_0 12 rfl rfl)
theorem dX0_figure_15 : decode cX0_figure 15 = .ok (.iload_n 1, 1) := dk_27 (dk_at dksX0_figure_0 15 rfl rfl)
theorem dX0_figure_16 : decode cX0_figure 16 = .ok (.iconst 4, 1) := dk_7 (dk_at dksX0_figure_0 16 rfl rfl)
theorem dX0_figure_17 : decode cX0_figure 17 = .ok (.if_icmp .gt 18, 3) := dk_163 0 18 (dk_at dksX0_figure_0 17 rfl rfl)
theorem dX0_figure_20 : decode cX0_figure 20 = .ok (.aload_n 0, 1) := dk_42 (dk_at dksX0_figure_0 20 rfl rfl)
theorem dX0_figure_21 : decode cX0_figure 21 = .ok (.getfield 174, 3) := dk_180 0 174 (dk_at dksX0_figure_0 21 rfl rfl)
theorem dX0_figure_24 : decode cX0_figure 24 = .ok (.aload_n 0, 1) := dk_42 (dk_at dksX0_figure_1 0 rfl rfl)
theorem dX0_figure_25 : decode cX0_figure 25 = .ok (.getfield 433, 3) := dk_180 1 177 (dk_at dksX0_figure_1 1 rfl rfl)
theorem dX0_figure_28 : decode cX0_figure 28 = .ok (.baload, 1) := dk_51 (dk_at dksX0_figure_1 4 rfl rfl)
theorem dX0_figure_29 : decode cX0_figure 29 = .ok (.invokestatic 439, 3) := dk_184 1 183 (dk_at dksX0_figure_1 5 rfl rfl)
theorem dX0_figure_32 : decode cX0_figure 32 = .ok (.ifCond .ne 8, 3) := dk_154 0 8 (dk_at dksX0_figure_1 8 rfl rfl)
theorem dX0_figure_35 : decode cX0_figure 35 = .ok (.aload_n 0, 1) := dk_42 (dk_at dksX0_figure_1 11 rfl rfl)
theorem dX0_figure_36 : decode cX0_figure 36 = .ok (.invokevirtual 460, 3) := dk_182 1 204 (dk_at dksX0_figure_1 12 rfl rfl)
theorem dX0_figure_39 : decode cX0_figure 39 = .ok (.athrow, 1) := dk_191 (dk_at dksX0_figure_1 15 rfl rfl)
theorem dX0_figure_40 : decode cX0_figure 40 = .ok (.iconst 0, 1) := dk_3 (dk_at dksX0_figure_1 16 rfl rfl)
theorem dX0_figure_41 : decode cX0_figure 41 = .ok (.istore_n 2, 1) := dk_61 (dk_at dksX0_figure_1 17 rfl rfl)
theorem dX0_figure_42 : decode cX0_figure 42 = .ok (.aload_n 0, 1) := dk_42 (dk_at dksX0_figure_1 18 rfl rfl)
theorem dX0_figure_43 : decode cX0_figure 43 = .ok (.getfield 433, 3) := dk_180 1 177 (dk_at dksX0_figure_1 19 rfl rfl)
theorem dX0_figure_46 : decode cX0_figure 46 = .ok (.istore_n 3, 1) := dk_62 (dk_at dksX0_figure_1 22 rfl rfl)
theorem dX0_figure_47 : decode cX0_figure 47 = .ok (.iload_n 3, 1) := dk_29 (dk_at dksX0_figure_1 23 rfl rfl)
theorem dX0_figure_48 : decode cX0_figure 48 = .ok (.aload_n 0, 1) := dk_42 (dk_at dksX0_figure_2 0 rfl rfl)
theorem dX0_figure_49 : decode cX0_figure 49 = .ok (.getfield 430, 3) := dk_180 1 174 (dk_at dksX0_figure_2 1 rfl rfl)
theorem dX0_figure_52 : decode cX0_figure 52 = .ok (.if_icmp .ge 24, 3) := dk_162 0 24 (dk_at dksX0_figure_2 4 rfl rfl)
theorem dX0_figure_55 : decode cX0_figure 55 = .ok (.bipush 10, 2) := dk_16 10 (dk_at dksX0_figure_2 7 rfl rfl)
theorem dX0_figure_57 : decode cX0_figure 57 = .ok (.iload_n 2, 1) := dk_28 (dk_at dksX0_figure_2 9 rfl rfl)
theorem dX0_figure_58 : decode cX0_figure 58 = .ok (.imul, 1) := dk_104 (dk_at dksX0_figure_2 10 rfl rfl)
theorem dX0_figure_59 : decode cX0_figure 59 = .ok (.aload_n 0, 1) := dk_42 (dk_at dksX0_figure_2 11 rfl rfl)
theorem dX0_figure_60 : decode cX0_figure 60 = .ok (.getfield 174, 3) := dk_180 0 174 (dk_at dksX0_figure_2 12 rfl rfl)
theorem dX0_figure_63 : decode cX0_figure 63 = .ok (.iload_n 3, 1) := dk_29 (dk_at dksX0_figure_2 15 rfl rfl)
theorem dX0_figure_64 : decode cX0_figure 64 = .ok (.baload, 1) := dk_51 (dk_at dksX0_figure_2 16 rfl rfl)
theorem dX0_figure_65 : decode cX0_figure 65 = .ok (.iadd, 1) := dk_96 (dk_at dksX0_figure_2 17 rfl rfl)
theorem dX0_figure_66 : decode cX0_figure 66 = .ok (.bipush 48, 2) := dk_16 48 (dk_at dksX0_figure_2 18 rfl rfl)
theorem dX0_figure_68 : decode cX0_figure 68 = .ok (.isub, 1) := dk_100 (dk_at dksX0_figure_2 20 rfl rfl)
theorem dX0_figure_69 : decode cX0_figure 69 = .ok (.istore_n 2, 1) := dk_61 (dk_at dksX0_figure_2 21 rfl rfl)
theorem dX0_figure_70 : decode cX0_figure 70 = .ok (.iinc 3 1, 3) := dk_132 3 1 (dk_at dksX0_figure_3 0 rfl rfl)
theorem dX0_figure_73 : decode cX0_figure 73 = .ok (.goto (-26), 3) := dk_167 255 230 (dk_at dksX0_figure_3 3 rfl rfl)
theorem dX0_figure_76 : decode cX0_figure 76 = .ok (.aload_n 0, 1) := dk_42 (dk_at dksX0_figure_3 6 rfl rfl)
theorem dX0_figure_77 : decode cX0_figure 77 = .ok (.invokevirtual 454, 3) := dk_182 1 198 (dk_at dksX0_figure_3 7 rfl rfl)
theorem dX0_figure_80 : decode cX0_figure 80 = .ok (.iload_n 2, 1) := dk_28 (dk_at dksX0_figure_3 10 rfl rfl)
theorem dX0_figure_81 : decode cX0_figure 81 = .ok (.ireturn, 1) := dk_172 (dk_at dksX0_figure_3 11 rfl rfl)
abbrev cX0_holdsFor : ByteArray := prog_1_method_88_code
def yX0_holdsFor : MethodName := ⟨RX0, "holdsFor", "(LCoarserOrders$Cond;LCoarserOrders$Arc;)Z"⟩
def dkwX0_holdsFor_2 : List UInt8 := [180, 0, 34, 180, 0, 38, 79, 43, 42, 180, 0, 177, 182, 2, 14, 172]
abbrev dktX0_holdsFor_2 : List UInt8 := dkwX0_holdsFor_2 ++ []
def dkwX0_holdsFor_1 : List UInt8 := [5, 44, 182, 2, 8, 79, 42, 180, 0, 177, 6, 44, 182, 2, 11, 79, 42, 180, 0, 177, 7, 42]
abbrev dktX0_holdsFor_1 : List UInt8 := dkwX0_holdsFor_1 ++ dktX0_holdsFor_2
def dkwX0_holdsFor_0 : List UInt8 := [42, 180, 0, 177, 3, 44, 180, 0, 83, 79, 42, 180, 0, 177, 4, 44, 180, 0, 80, 79, 42, 180, 0, 177]
abbrev dktX0_holdsFor_0 : List UInt8 := dkwX0_holdsFor_0 ++ dktX0_holdsFor_1
theorem dksX0_holdsFor_0 : cX0_holdsFor.data.toList.drop 0 = dktX0_holdsFor_0 := by decide +kernel
theorem dksX0_holdsFor_1 : cX0_holdsFor.data.toList.drop 24 = dktX0_holdsFor_1 := dk_seg dksX0_holdsFor_0 24 rfl rfl
theorem dksX0_holdsFor_2 : cX0_holdsFor.data.toList.drop 46 = dktX0_holdsFor_2 := dk_seg dksX0_holdsFor_1 22 rfl rfl
theorem dX0_holdsFor_0 : decode cX0_holdsFor 0 = .ok (.aload_n 0, 1) := dk_42 (dk_at dksX0_holdsFor_0 0 rfl rfl)
theorem dX0_holdsFor_1 : decode cX0_holdsFor 1 = .ok (.getfield 177, 3) := dk_180 0 177 (dk_at dksX0_holdsFor_0 1 rfl rfl)
theorem dX0_holdsFor_4 : decode cX0_holdsFor 4 = .ok (.iconst 0, 1) := dk_3 (dk_at dksX0_holdsFor_0 4 rfl rfl)
theorem dX0_holdsFor_5 : decode cX0_holdsFor 5 = .ok (.aload_n 2, 1) := dk_44 (dk_at dksX0_holdsFor_0 5 rfl rfl)
theorem dX0_holdsFor_6 : decode cX0_holdsFor 6 = .ok (.getfield 83, 3) := dk_180 0 83 (dk_at dksX0_holdsFor_0 6 rfl rfl)
theorem dX0_holdsFor_9 : decode cX0_holdsFor 9 = .ok (.iastore, 1) := dk_79 (dk_at dksX0_holdsFor_0 9 rfl rfl)
theorem dX0_holdsFor_10 : decode cX0_holdsFor 10 = .ok (.aload_n 0, 1) := dk_42 (dk_at dksX0_holdsFor_0 10 rfl rfl)
theorem dX0_holdsFor_11 : decode cX0_holdsFor 11 = .ok (.getfield 177, 3) := dk_180 0 177 (dk_at dksX0_holdsFor_0 11 rfl rfl)
theorem dX0_holdsFor_14 : decode cX0_holdsFor 14 = .ok (.iconst 1, 1) := dk_4 (dk_at dksX0_holdsFor_0 14 rfl rfl)
theorem dX0_holdsFor_15 : decode cX0_holdsFor 15 = .ok (.aload_n 2, 1) := dk_44 (dk_at dksX0_holdsFor_0 15 rfl rfl)
theorem dX0_holdsFor_16 : decode cX0_holdsFor 16 = .ok (.getfield 80, 3) := dk_180 0 80 (dk_at dksX0_holdsFor_0 16 rfl rfl)
theorem dX0_holdsFor_19 : decode cX0_holdsFor 19 = .ok (.iastore, 1) := dk_79 (dk_at dksX0_holdsFor_0 19 rfl rfl)
theorem dX0_holdsFor_20 : decode cX0_holdsFor 20 = .ok (.aload_n 0, 1) := dk_42 (dk_at dksX0_holdsFor_0 20 rfl rfl)
theorem dX0_holdsFor_21 : decode cX0_holdsFor 21 = .ok (.getfield 177, 3) := dk_180 0 177 (dk_at dksX0_holdsFor_0 21 rfl rfl)
theorem dX0_holdsFor_24 : decode cX0_holdsFor 24 = .ok (.iconst 2, 1) := dk_5 (dk_at dksX0_holdsFor_1 0 rfl rfl)
theorem dX0_holdsFor_25 : decode cX0_holdsFor 25 = .ok (.aload_n 2, 1) := dk_44 (dk_at dksX0_holdsFor_1 1 rfl rfl)
theorem dX0_holdsFor_26 : decode cX0_holdsFor 26 = .ok (.invokevirtual 520, 3) := dk_182 2 8 (dk_at dksX0_holdsFor_1 2 rfl rfl)
theorem dX0_holdsFor_29 : decode cX0_holdsFor 29 = .ok (.iastore, 1) := dk_79 (dk_at dksX0_holdsFor_1 5 rfl rfl)
theorem dX0_holdsFor_30 : decode cX0_holdsFor 30 = .ok (.aload_n 0, 1) := dk_42 (dk_at dksX0_holdsFor_1 6 rfl rfl)
theorem dX0_holdsFor_31 : decode cX0_holdsFor 31 = .ok (.getfield 177, 3) := dk_180 0 177 (dk_at dksX0_holdsFor_1 7 rfl rfl)
theorem dX0_holdsFor_34 : decode cX0_holdsFor 34 = .ok (.iconst 3, 1) := dk_6 (dk_at dksX0_holdsFor_1 10 rfl rfl)
theorem dX0_holdsFor_35 : decode cX0_holdsFor 35 = .ok (.aload_n 2, 1) := dk_44 (dk_at dksX0_holdsFor_1 11 rfl rfl)
theorem dX0_holdsFor_36 : decode cX0_holdsFor 36 = .ok (.invokevirtual 523, 3) := dk_182 2 11 (dk_at dksX0_holdsFor_1 12 rfl rfl)
theorem dX0_holdsFor_39 : decode cX0_holdsFor 39 = .ok (.iastore, 1) := dk_79 (dk_at dksX0_holdsFor_1 15 rfl rfl)
theorem dX0_holdsFor_40 : decode cX0_holdsFor 40 = .ok (.aload_n 0, 1) := dk_42 (dk_at dksX0_holdsFor_1 16 rfl rfl)
theorem dX0_holdsFor_41 : decode cX0_holdsFor 41 = .ok (.getfield 177, 3) := dk_180 0 177 (dk_at dksX0_holdsFor_1 17 rfl rfl)
theorem dX0_holdsFor_44 : decode cX0_holdsFor 44 = .ok (.iconst 4, 1) := dk_7 (dk_at dksX0_holdsFor_1 20 rfl rfl)
theorem dX0_holdsFor_45 : decode cX0_holdsFor 45 = .ok (.aload_n 0, 1) := dk_42 (dk_at dksX0_holdsFor_1 21 rfl rfl)
theorem dX0_holdsFor_46 : decode cX0_holdsFor 46 = .ok (.getfield 34, 3) := dk_180 0 34 (dk_at dksX0_holdsFor_2 0 rfl rfl)
theorem dX0_holdsFor_49 : decode cX0_holdsFor 49 = .ok (.getfield 38, 3) := dk_180 0 38 (dk_at dksX0_holdsFor_2 3 rfl rfl)
theorem dX0_holdsFor_52 : decode cX0_holdsFor 52 = .ok (.iastore, 1) := dk_79 (dk_at dksX0_holdsFor_2 6 rfl rfl)
theorem dX0_holdsFor_53 : decode cX0_holdsFor 53 = .ok (.aload_n 1, 1) := dk_43 (dk_at dksX0_holdsFor_2 7 rfl rfl)
theorem dX0_holdsFor_54 : decode cX0_holdsFor 54 = .ok (.aload_n 0, 1) := dk_42 (dk_at dksX0_holdsFor_2 8 rfl rfl)
theorem dX0_holdsFor_55 : decode cX0_holdsFor 55 = .ok (.getfield 177, 3) := dk_180 0 177 (dk_at dksX0_holdsFor_2 9 rfl rfl)
theorem dX0_holdsFor_58 : decode cX0_holdsFor 58 = .ok (.invokevirtual 526, 3) := dk_182 2 14 (dk_at dksX0_holdsFor_2 12 rfl rfl)
theorem dX0_holdsFor_61 : decode cX0_holdsFor 61 = .ok (.ireturn, 1) := dk_172 (dk_at dksX0_holdsFor_2 15 rfl rfl)
abbrev cX0_alike : ByteArray := prog_1_method_94_code
def yX0_alike : MethodName := ⟨RX0, "alike", "(II)I"⟩
def dkwX0_alike_2 : List UInt8 := [172]
abbrev dktX0_alike_2 : List UInt8 := dkwX0_alike_2 ++ []
def dkwX0_alike_1 : List UInt8 := [5, 162, 0, 19, 42, 28, 154, 0, 7, 4, 167, 0, 4, 3, 182, 2, 43, 167, 0, 7, 42, 182, 2, 47]
abbrev dktX0_alike_1 : List UInt8 := dkwX0_alike_1 ++ dktX0_alike_2
def dkwX0_alike_0 : List UInt8 := [42, 27, 42, 180, 0, 137, 182, 0, 236, 153, 0, 12, 28, 3, 5, 184, 0, 112, 154, 0, 5, 2, 172, 28]
abbrev dktX0_alike_0 : List UInt8 := dkwX0_alike_0 ++ dktX0_alike_1
theorem dksX0_alike_0 : cX0_alike.data.toList.drop 0 = dktX0_alike_0 := by decide +kernel
theorem dksX0_alike_1 : cX0_alike.data.toList.drop 24 = dktX0_alike_1 := dk_seg dksX0_alike_0 24 rfl rfl
theorem dksX0_alike_2 : cX0_alike.data.toList.drop 48 = dktX0_alike_2 := dk_seg dksX0_alike_1 24 rfl rfl
theorem dX0_alike_0 : decode cX0_alike 0 = .ok (.aload_n 0, 1) := dk_42 (dk_at dksX0_alike_0 0 rfl rfl)
theorem dX0_alike_1 : decode cX0_alike 1 = .ok (.iload_n 1, 1) := dk_27 (dk_at dksX0_alike_0 1 rfl rfl)
theorem dX0_alike_2 : decode cX0_alike 2 = .ok (.aload_n 0, 1) := dk_42 (dk_at dksX0_alike_0 2 rfl rfl)
theorem dX0_alike_3 : decode cX0_alike 3 = .ok (.getfield 137, 3) := dk_180 0 137 (dk_at dksX0_alike_0 3 rfl rfl)
theorem dX0_alike_6 : decode cX0_alike 6 = .ok (.invokevirtual 236, 3) := dk_182 0 236 (dk_at dksX0_alike_0 6 rfl rfl)
theorem dX0_alike_9 : decode cX0_alike 9 = .ok (.ifCond .eq 12, 3) := dk_153 0 12 (dk_at dksX0_alike_0 9 rfl rfl)
theorem dX0_alike_12 : decode cX0_alike 12 = .ok (.iload_n 2, 1) := dk_28 (dk_at dksX0_alike_0 12 rfl rfl)
theorem dX0_alike_13 : decode cX0_alike 13 = .ok (.iconst 0, 1) := dk_3 (dk_at dksX0_alike_0 13 rfl rfl)
theorem dX0_alike_14 : decode cX0_alike 14 = .ok (.iconst 2, 1) := dk_5 (dk_at dksX0_alike_0 14 rfl rfl)
theorem dX0_alike_15 : decode cX0_alike 15 = .ok (.invokestatic 112, 3) := dk_184 0 112 (dk_at dksX0_alike_0 15 rfl rfl)
theorem dX0_alike_18 : decode cX0_alike 18 = .ok (.ifCond .ne 5, 3) := dk_154 0 5 (dk_at dksX0_alike_0 18 rfl rfl)
theorem dX0_alike_21 : decode cX0_alike 21 = .ok (.iconst (-1), 1) := dk_2 (dk_at dksX0_alike_0 21 rfl rfl)
theorem dX0_alike_22 : decode cX0_alike 22 = .ok (.ireturn, 1) := dk_172 (dk_at dksX0_alike_0 22 rfl rfl)
theorem dX0_alike_23 : decode cX0_alike 23 = .ok (.iload_n 2, 1) := dk_28 (dk_at dksX0_alike_0 23 rfl rfl)
theorem dX0_alike_24 : decode cX0_alike 24 = .ok (.iconst 2, 1) := dk_5 (dk_at dksX0_alike_1 0 rfl rfl)
theorem dX0_alike_25 : decode cX0_alike 25 = .ok (.if_icmp .ge 19, 3) := dk_162 0 19 (dk_at dksX0_alike_1 1 rfl rfl)
theorem dX0_alike_28 : decode cX0_alike 28 = .ok (.aload_n 0, 1) := dk_42 (dk_at dksX0_alike_1 4 rfl rfl)
theorem dX0_alike_29 : decode cX0_alike 29 = .ok (.iload_n 2, 1) := dk_28 (dk_at dksX0_alike_1 5 rfl rfl)
theorem dX0_alike_30 : decode cX0_alike 30 = .ok (.ifCond .ne 7, 3) := dk_154 0 7 (dk_at dksX0_alike_1 6 rfl rfl)
theorem dX0_alike_33 : decode cX0_alike 33 = .ok (.iconst 1, 1) := dk_4 (dk_at dksX0_alike_1 9 rfl rfl)
theorem dX0_alike_34 : decode cX0_alike 34 = .ok (.goto 4, 3) := dk_167 0 4 (dk_at dksX0_alike_1 10 rfl rfl)
theorem dX0_alike_37 : decode cX0_alike 37 = .ok (.iconst 0, 1) := dk_3 (dk_at dksX0_alike_1 13 rfl rfl)
theorem dX0_alike_38 : decode cX0_alike 38 = .ok (.invokevirtual 555, 3) := dk_182 2 43 (dk_at dksX0_alike_1 14 rfl rfl)
theorem dX0_alike_41 : decode cX0_alike 41 = .ok (.goto 7, 3) := dk_167 0 7 (dk_at dksX0_alike_1 17 rfl rfl)
theorem dX0_alike_44 : decode cX0_alike 44 = .ok (.aload_n 0, 1) := dk_42 (dk_at dksX0_alike_1 20 rfl rfl)
theorem dX0_alike_45 : decode cX0_alike 45 = .ok (.invokevirtual 559, 3) := dk_182 2 47 (dk_at dksX0_alike_1 21 rfl rfl)
theorem dX0_alike_48 : decode cX0_alike 48 = .ok (.ireturn, 1) := dk_172 (dk_at dksX0_alike_2 0 rfl rfl)
abbrev cX0_toldEnd : ByteArray := prog_1_method_92_code
def yX0_toldEnd : MethodName := ⟨RX0, "toldEnd", "(Z)I"⟩
def dkwX0_toldEnd_0 : List UInt8 := [42, 42, 180, 0, 137, 27, 182, 2, 31, 42, 42, 180, 0, 137, 182, 1, 40, 172]
abbrev dktX0_toldEnd_0 : List UInt8 := dkwX0_toldEnd_0 ++ []
theorem dksX0_toldEnd_0 : cX0_toldEnd.data.toList.drop 0 = dktX0_toldEnd_0 := by decide +kernel
theorem dX0_toldEnd_0 : decode cX0_toldEnd 0 = .ok (.aload_n 0, 1) := dk_42 (dk_at dksX0_toldEnd_0 0 rfl rfl)
theorem dX0_toldEnd_1 : decode cX0_toldEnd 1 = .ok (.aload_n 0, 1) := dk_42 (dk_at dksX0_toldEnd_0 1 rfl rfl)
theorem dX0_toldEnd_2 : decode cX0_toldEnd 2 = .ok (.getfield 137, 3) := dk_180 0 137 (dk_at dksX0_toldEnd_0 2 rfl rfl)
theorem dX0_toldEnd_5 : decode cX0_toldEnd 5 = .ok (.iload_n 1, 1) := dk_27 (dk_at dksX0_toldEnd_0 5 rfl rfl)
theorem dX0_toldEnd_6 : decode cX0_toldEnd 6 = .ok (.invokevirtual 543, 3) := dk_182 2 31 (dk_at dksX0_toldEnd_0 6 rfl rfl)
theorem dX0_toldEnd_9 : decode cX0_toldEnd 9 = .ok (.aload_n 0, 1) := dk_42 (dk_at dksX0_toldEnd_0 9 rfl rfl)
theorem dX0_toldEnd_10 : decode cX0_toldEnd 10 = .ok (.aload_n 0, 1) := dk_42 (dk_at dksX0_toldEnd_0 10 rfl rfl)
theorem dX0_toldEnd_11 : decode cX0_toldEnd 11 = .ok (.getfield 137, 3) := dk_180 0 137 (dk_at dksX0_toldEnd_0 11 rfl rfl)
theorem dX0_toldEnd_14 : decode cX0_toldEnd 14 = .ok (.invokevirtual 296, 3) := dk_182 1 40 (dk_at dksX0_toldEnd_0 14 rfl rfl)
theorem dX0_toldEnd_17 : decode cX0_toldEnd 17 = .ok (.ireturn, 1) := dk_172 (dk_at dksX0_toldEnd_0 17 rfl rfl)
abbrev cX0_goes : ByteArray := prog_1_method_90_code
def yX0_goes : MethodName := ⟨RX0, "goes", "([BZ)V"⟩
def dkwX0_goes_2 : List UInt8 := [132, 3, 1, 167, 255, 208, 177]
abbrev dktX0_goes_2 : List UInt8 := dkwX0_goes_2 ++ []
def dkwX0_goes_1 : List UInt8 := [42, 42, 43, 29, 182, 1, 87, 182, 1, 105, 153, 0, 13, 43, 29, 184, 1, 124, 3, 62, 167, 255, 214]
abbrev dktX0_goes_1 : List UInt8 := dkwX0_goes_1 ++ dktX0_goes_2
def dkwX0_goes_0 : List UInt8 := [3, 62, 29, 4, 96, 42, 180, 0, 34, 180, 0, 38, 162, 0, 41, 43, 29, 184, 0, 250, 28, 160, 0, 26]
abbrev dktX0_goes_0 : List UInt8 := dkwX0_goes_0 ++ dktX0_goes_1
theorem dksX0_goes_0 : cX0_goes.data.toList.drop 0 = dktX0_goes_0 := by decide +kernel
theorem dksX0_goes_1 : cX0_goes.data.toList.drop 24 = dktX0_goes_1 := dk_seg dksX0_goes_0 24 rfl rfl
theorem dksX0_goes_2 : cX0_goes.data.toList.drop 47 = dktX0_goes_2 := dk_seg dksX0_goes_1 23 rfl rfl
theorem dX0_goes_0 : decode cX0_goes 0 = .ok (.iconst 0, 1) := dk_3 (dk_at dksX0_goes_0 0 rfl rfl)
theorem dX0_goes_1 : decode cX0_goes 1 = .ok (.istore_n 3, 1) := dk_62 (dk_at dksX0_goes_0 1 rfl rfl)
theorem dX0_goes_2 : decode cX0_goes 2 = .ok (.iload_n 3, 1) := dk_29 (dk_at dksX0_goes_0 2 rfl rfl)
theorem dX0_goes_3 : decode cX0_goes 3 = .ok (.iconst 1, 1) := dk_4 (dk_at dksX0_goes_0 3 rfl rfl)
theorem dX0_goes_4 : decode cX0_goes 4 = .ok (.iadd, 1) := dk_96 (dk_at dksX0_goes_0 4 rfl rfl)
theorem dX0_goes_5 : decode cX0_goes 5 = .ok (.aload_n 0, 1) := dk_42 (dk_at dksX0_goes_0 5 rfl rfl)
theorem dX0_goes_6 : decode cX0_goes 6 = .ok (.getfield 34, 3) := dk_180 0 34 (dk_at dksX0_goes_0 6 rfl rfl)
theorem dX0_goes_9 : decode cX0_goes 9 = .ok (.getfield 38, 3) := dk_180 0 38 (dk_at dksX0_goes_0 9 rfl rfl)
theorem dX0_goes_12 : decode cX0_goes 12 = .ok (.if_icmp .ge 41, 3) := dk_162 0 41 (dk_at dksX0_goes_0 12 rfl rfl)
theorem dX0_goes_15 : decode cX0_goes 15 = .ok (.aload_n 1, 1) := dk_43 (dk_at dksX0_goes_0 15 rfl rfl)
theorem dX0_goes_16 : decode cX0_goes 16 = .ok (.iload_n 3, 1) := dk_29 (dk_at dksX0_goes_0 16 rfl rfl)
theorem dX0_goes_17 : decode cX0_goes 17 = .ok (.invokestatic 250, 3) := dk_184 0 250 (dk_at dksX0_goes_0 17 rfl rfl)
theorem dX0_goes_20 : decode cX0_goes 20 = .ok (.iload_n 2, 1) := dk_28 (dk_at dksX0_goes_0 20 rfl rfl)
theorem dX0_goes_21 : decode cX0_goes 21 = .ok (.if_icmp .ne 26, 3) := dk_160 0 26 (dk_at dksX0_goes_0 21 rfl rfl)
theorem dX0_goes_24 : decode cX0_goes 24 = .ok (.aload_n 0, 1) := dk_42 (dk_at dksX0_goes_1 0 rfl rfl)
theorem dX0_goes_25 : decode cX0_goes 25 = .ok (.aload_n 0, 1) := dk_42 (dk_at dksX0_goes_1 1 rfl rfl)
theorem dX0_goes_26 : decode cX0_goes 26 = .ok (.aload_n 1, 1) := dk_43 (dk_at dksX0_goes_1 2 rfl rfl)
theorem dX0_goes_27 : decode cX0_goes 27 = .ok (.iload_n 3, 1) := dk_29 (dk_at dksX0_goes_1 3 rfl rfl)
theorem dX0_goes_28 : decode cX0_goes 28 = .ok (.invokevirtual 343, 3) := dk_182 1 87 (dk_at dksX0_goes_1 4 rfl rfl)
theorem dX0_goes_31 : decode cX0_goes 31 = .ok (.invokevirtual 361, 3) := dk_182 1 105 (dk_at dksX0_goes_1 7 rfl rfl)
theorem dX0_goes_34 : decode cX0_goes 34 = .ok (.ifCond .eq 13, 3) := dk_153 0 13 (dk_at dksX0_goes_1 10 rfl rfl)
theorem dX0_goes_37 : decode cX0_goes 37 = .ok (.aload_n 1, 1) := dk_43 (dk_at dksX0_goes_1 13 rfl rfl)
theorem dX0_goes_38 : decode cX0_goes 38 = .ok (.iload_n 3, 1) := dk_29 (dk_at dksX0_goes_1 14 rfl rfl)
theorem dX0_goes_39 : decode cX0_goes 39 = .ok (.invokestatic 380, 3) := dk_184 1 124 (dk_at dksX0_goes_1 15 rfl rfl)
theorem dX0_goes_42 : decode cX0_goes 42 = .ok (.iconst 0, 1) := dk_3 (dk_at dksX0_goes_1 18 rfl rfl)
theorem dX0_goes_43 : decode cX0_goes 43 = .ok (.istore_n 3, 1) := dk_62 (dk_at dksX0_goes_1 19 rfl rfl)
theorem dX0_goes_44 : decode cX0_goes 44 = .ok (.goto (-42), 3) := dk_167 255 214 (dk_at dksX0_goes_1 20 rfl rfl)
theorem dX0_goes_47 : decode cX0_goes 47 = .ok (.iinc 3 1, 3) := dk_132 3 1 (dk_at dksX0_goes_2 0 rfl rfl)
theorem dX0_goes_50 : decode cX0_goes 50 = .ok (.goto (-48), 3) := dk_167 255 208 (dk_at dksX0_goes_2 3 rfl rfl)
theorem dX0_goes_53 : decode cX0_goes 53 = .ok (.return_, 1) := dk_177 (dk_at dksX0_goes_2 6 rfl rfl)
abbrev cX0_manyAlike : ByteArray := prog_1_method_93_code
def yX0_manyAlike : MethodName := ⟨RX0, "manyAlike", "()I"⟩
def dkwX0_manyAlike_2 : List UInt8 := [66, 187, 2, 35, 89, 42, 31, 33, 183, 2, 37, 182, 2, 40, 172]
abbrev dktX0_manyAlike_2 : List UInt8 := dkwX0_manyAlike_2 ++ []
def dkwX0_manyAlike_1 : List UInt8 := [180, 0, 141, 3, 182, 2, 31, 42, 42, 180, 0, 137, 182, 1, 10, 64, 42, 42, 180, 0, 141, 182, 1, 10]
abbrev dktX0_manyAlike_1 : List UInt8 := dkwX0_manyAlike_1 ++ dktX0_manyAlike_2
def dkwX0_manyAlike_0 : List UInt8 := [42, 42, 180, 0, 137, 42, 180, 0, 141, 182, 1, 60, 42, 42, 180, 0, 137, 4, 182, 2, 31, 42, 42]
abbrev dktX0_manyAlike_0 : List UInt8 := dkwX0_manyAlike_0 ++ dktX0_manyAlike_1
theorem dksX0_manyAlike_0 : cX0_manyAlike.data.toList.drop 0 = dktX0_manyAlike_0 := by decide +kernel
theorem dksX0_manyAlike_1 : cX0_manyAlike.data.toList.drop 23 = dktX0_manyAlike_1 := dk_seg dksX0_manyAlike_0 23 rfl rfl
theorem dksX0_manyAlike_2 : cX0_manyAlike.data.toList.drop 47 = dktX0_manyAlike_2 := dk_seg dksX0_manyAlike_1 24 rfl rfl
theorem dX0_manyAlike_0 : decode cX0_manyAlike 0 = .ok (.aload_n 0, 1) := dk_42 (dk_at dksX0_manyAlike_0 0 rfl rfl)
theorem dX0_manyAlike_1 : decode cX0_manyAlike 1 = .ok (.aload_n 0, 1) := dk_42 (dk_at dksX0_manyAlike_0 1 rfl rfl)
theorem dX0_manyAlike_2 : decode cX0_manyAlike 2 = .ok (.getfield 137, 3) := dk_180 0 137 (dk_at dksX0_manyAlike_0 2 rfl rfl)
theorem dX0_manyAlike_5 : decode cX0_manyAlike 5 = .ok (.aload_n 0, 1) := dk_42 (dk_at dksX0_manyAlike_0 5 rfl rfl)
theorem dX0_manyAlike_6 : decode cX0_manyAlike 6 = .ok (.getfield 141, 3) := dk_180 0 141 (dk_at dksX0_manyAlike_0 6 rfl rfl)
theorem dX0_manyAlike_9 : decode cX0_manyAlike 9 = .ok (.invokevirtual 316, 3) := dk_182 1 60 (dk_at dksX0_manyAlike_0 9 rfl rfl)
theorem dX0_manyAlike_12 : decode cX0_manyAlike 12 = .ok (.aload_n 0, 1) := dk_42 (dk_at dksX0_manyAlike_0 12 rfl rfl)
theorem dX0_manyAlike_13 : decode cX0_manyAlike 13 = .ok (.aload_n 0, 1) := dk_42 (dk_at dksX0_manyAlike_0 13 rfl rfl)
theorem dX0_manyAlike_14 : decode cX0_manyAlike 14 = .ok (.getfield 137, 3) := dk_180 0 137 (dk_at dksX0_manyAlike_0 14 rfl rfl)
theorem dX0_manyAlike_17 : decode cX0_manyAlike 17 = .ok (.iconst 1, 1) := dk_4 (dk_at dksX0_manyAlike_0 17 rfl rfl)
theorem dX0_manyAlike_18 : decode cX0_manyAlike 18 = .ok (.invokevirtual 543, 3) := dk_182 2 31 (dk_at dksX0_manyAlike_0 18 rfl rfl)
theorem dX0_manyAlike_21 : decode cX0_manyAlike 21 = .ok (.aload_n 0, 1) := dk_42 (dk_at dksX0_manyAlike_0 21 rfl rfl)
theorem dX0_manyAlike_22 : decode cX0_manyAlike 22 = .ok (.aload_n 0, 1) := dk_42 (dk_at dksX0_manyAlike_0 22 rfl rfl)
theorem dX0_manyAlike_23 : decode cX0_manyAlike 23 = .ok (.getfield 141, 3) := dk_180 0 141 (dk_at dksX0_manyAlike_1 0 rfl rfl)
theorem dX0_manyAlike_26 : decode cX0_manyAlike 26 = .ok (.iconst 0, 1) := dk_3 (dk_at dksX0_manyAlike_1 3 rfl rfl)
theorem dX0_manyAlike_27 : decode cX0_manyAlike 27 = .ok (.invokevirtual 543, 3) := dk_182 2 31 (dk_at dksX0_manyAlike_1 4 rfl rfl)
theorem dX0_manyAlike_30 : decode cX0_manyAlike 30 = .ok (.aload_n 0, 1) := dk_42 (dk_at dksX0_manyAlike_1 7 rfl rfl)
theorem dX0_manyAlike_31 : decode cX0_manyAlike 31 = .ok (.aload_n 0, 1) := dk_42 (dk_at dksX0_manyAlike_1 8 rfl rfl)
theorem dX0_manyAlike_32 : decode cX0_manyAlike 32 = .ok (.getfield 137, 3) := dk_180 0 137 (dk_at dksX0_manyAlike_1 9 rfl rfl)
theorem dX0_manyAlike_35 : decode cX0_manyAlike 35 = .ok (.invokevirtual 266, 3) := dk_182 1 10 (dk_at dksX0_manyAlike_1 12 rfl rfl)
theorem dX0_manyAlike_38 : decode cX0_manyAlike 38 = .ok (.lstore_n 1, 1) := dk_64 (dk_at dksX0_manyAlike_1 15 rfl rfl)
theorem dX0_manyAlike_39 : decode cX0_manyAlike 39 = .ok (.aload_n 0, 1) := dk_42 (dk_at dksX0_manyAlike_1 16 rfl rfl)
theorem dX0_manyAlike_40 : decode cX0_manyAlike 40 = .ok (.aload_n 0, 1) := dk_42 (dk_at dksX0_manyAlike_1 17 rfl rfl)
theorem dX0_manyAlike_41 : decode cX0_manyAlike 41 = .ok (.getfield 141, 3) := dk_180 0 141 (dk_at dksX0_manyAlike_1 18 rfl rfl)
theorem dX0_manyAlike_44 : decode cX0_manyAlike 44 = .ok (.invokevirtual 266, 3) := dk_182 1 10 (dk_at dksX0_manyAlike_1 21 rfl rfl)
theorem dX0_manyAlike_47 : decode cX0_manyAlike 47 = .ok (.lstore_n 3, 1) := dk_66 (dk_at dksX0_manyAlike_2 0 rfl rfl)
theorem dX0_manyAlike_48 : decode cX0_manyAlike 48 = .ok (.new 547, 3) := dk_187 2 35 (dk_at dksX0_manyAlike_2 1 rfl rfl)
theorem dX0_manyAlike_51 : decode cX0_manyAlike 51 = .ok (.dup, 1) := dk_89 (dk_at dksX0_manyAlike_2 4 rfl rfl)
theorem dX0_manyAlike_52 : decode cX0_manyAlike 52 = .ok (.aload_n 0, 1) := dk_42 (dk_at dksX0_manyAlike_2 5 rfl rfl)
theorem dX0_manyAlike_53 : decode cX0_manyAlike 53 = .ok (.lload_n 1, 1) := dk_31 (dk_at dksX0_manyAlike_2 6 rfl rfl)
theorem dX0_manyAlike_54 : decode cX0_manyAlike 54 = .ok (.lload_n 3, 1) := dk_33 (dk_at dksX0_manyAlike_2 7 rfl rfl)
theorem dX0_manyAlike_55 : decode cX0_manyAlike 55 = .ok (.invokespecial 549, 3) := dk_183 2 37 (dk_at dksX0_manyAlike_2 8 rfl rfl)
theorem dX0_manyAlike_58 : decode cX0_manyAlike 58 = .ok (.invokevirtual 552, 3) := dk_182 2 40 (dk_at dksX0_manyAlike_2 11 rfl rfl)
theorem dX0_manyAlike_61 : decode cX0_manyAlike 61 = .ok (.ireturn, 1) := dk_172 (dk_at dksX0_manyAlike_2 14 rfl rfl)
abbrev cX0_goesNext : ByteArray := prog_1_method_25_code
def yX0_goesNext : MethodName := ⟨RX0, "goesNext", "([B)V"⟩
def dkwX0_goesNext_3 : List UInt8 := [182, 0, 254, 177]
abbrev dktX0_goesNext_3 : List UInt8 := dkwX0_goesNext_3 ++ []
def dkwX0_goesNext_2 : List UInt8 := [43, 28, 51, 162, 0, 9, 132, 3, 255, 167, 255, 244, 43, 28, 29, 184, 0, 246, 42, 43, 28, 4, 96]
abbrev dktX0_goesNext_2 : List UInt8 := dkwX0_goesNext_2 ++ dktX0_goesNext_3
def dkwX0_goesNext_1 : List UInt8 := [132, 2, 255, 167, 255, 241, 28, 156, 0, 4, 177, 42, 180, 0, 34, 180, 0, 38, 4, 100, 62, 43, 29, 51]
abbrev dktX0_goesNext_1 : List UInt8 := dkwX0_goesNext_1 ++ dktX0_goesNext_2
def dkwX0_goesNext_0 : List UInt8 := [42, 180, 0, 34, 180, 0, 38, 5, 100, 61, 28, 155, 0, 17, 43, 28, 184, 0, 250, 153, 0, 9]
abbrev dktX0_goesNext_0 : List UInt8 := dkwX0_goesNext_0 ++ dktX0_goesNext_1
theorem dksX0_goesNext_0 : cX0_goesNext.data.toList.drop 0 = dktX0_goesNext_0 := by decide +kernel
theorem dksX0_goesNext_1 : cX0_goesNext.data.toList.drop 22 = dktX0_goesNext_1 := dk_seg dksX0_goesNext_0 22 rfl rfl
theorem dksX0_goesNext_2 : cX0_goesNext.data.toList.drop 46 = dktX0_goesNext_2 := dk_seg dksX0_goesNext_1 24 rfl rfl
theorem dksX0_goesNext_3 : cX0_goesNext.data.toList.drop 69 = dktX0_goesNext_3 := dk_seg dksX0_goesNext_2 23 rfl rfl
theorem dX0_goesNext_0 : decode cX0_goesNext 0 = .ok (.aload_n 0, 1) := dk_42 (dk_at dksX0_goesNext_0 0 rfl rfl)
theorem dX0_goesNext_1 : decode cX0_goesNext 1 = .ok (.getfield 34, 3) := dk_180 0 34 (dk_at dksX0_goesNext_0 1 rfl rfl)
theorem dX0_goesNext_4 : decode cX0_goesNext 4 = .ok (.getfield 38, 3) := dk_180 0 38 (dk_at dksX0_goesNext_0 4 rfl rfl)
theorem dX0_goesNext_7 : decode cX0_goesNext 7 = .ok (.iconst 2, 1) := dk_5 (dk_at dksX0_goesNext_0 7 rfl rfl)
theorem dX0_goesNext_8 : decode cX0_goesNext 8 = .ok (.isub, 1) := dk_100 (dk_at dksX0_goesNext_0 8 rfl rfl)
theorem dX0_goesNext_9 : decode cX0_goesNext 9 = .ok (.istore_n 2, 1) := dk_61 (dk_at dksX0_goesNext_0 9 rfl rfl)
theorem dX0_goesNext_10 : decode cX0_goesNext 10 = .ok (.iload_n 2, 1) := dk_28 (dk_at dksX0_goesNext_0 10 rfl rfl)
theorem dX0_goesNext_11 : decode cX0_goesNext 11 = .ok (.ifCond .lt 17, 3) := dk_155 0 17 (dk_at dksX0_goesNext_0 11 rfl rfl)
theorem dX0_goesNext_14 : decode cX0_goesNext 14 = .ok (.aload_n 1, 1) := dk_43 (dk_at dksX0_goesNext_0 14 rfl rfl)
theorem dX0_goesNext_15 : decode cX0_goesNext 15 = .ok (.iload_n 2, 1) := dk_28 (dk_at dksX0_goesNext_0 15 rfl rfl)
theorem dX0_goesNext_16 : decode cX0_goesNext 16 = .ok (.invokestatic 250, 3) := dk_184 0 250 (dk_at dksX0_goesNext_0 16 rfl rfl)
theorem dX0_goesNext_19 : decode cX0_goesNext 19 = .ok (.ifCond .eq 9, 3) := dk_153 0 9 (dk_at dksX0_goesNext_0 19 rfl rfl)
theorem dX0_goesNext_22 : decode cX0_goesNext 22 = .ok (.iinc 2 (-1), 3) := dk_132 2 255 (dk_at dksX0_goesNext_1 0 rfl rfl)
theorem dX0_goesNext_25 : decode cX0_goesNext 25 = .ok (.goto (-15), 3) := dk_167 255 241 (dk_at dksX0_goesNext_1 3 rfl rfl)
theorem dX0_goesNext_28 : decode cX0_goesNext 28 = .ok (.iload_n 2, 1) := dk_28 (dk_at dksX0_goesNext_1 6 rfl rfl)
theorem dX0_goesNext_29 : decode cX0_goesNext 29 = .ok (.ifCond .ge 4, 3) := dk_156 0 4 (dk_at dksX0_goesNext_1 7 rfl rfl)
theorem dX0_goesNext_32 : decode cX0_goesNext 32 = .ok (.return_, 1) := dk_177 (dk_at dksX0_goesNext_1 10 rfl rfl)
theorem dX0_goesNext_33 : decode cX0_goesNext 33 = .ok (.aload_n 0, 1) := dk_42 (dk_at dksX0_goesNext_1 11 rfl rfl)
theorem dX0_goesNext_34 : decode cX0_goesNext 34 = .ok (.getfield 34, 3) := dk_180 0 34 (dk_at dksX0_goesNext_1 12 rfl rfl)
theorem dX0_goesNext_37 : decode cX0_goesNext 37 = .ok (.getfield 38, 3) := dk_180 0 38 (dk_at dksX0_goesNext_1 15 rfl rfl)
theorem dX0_goesNext_40 : decode cX0_goesNext 40 = .ok (.iconst 1, 1) := dk_4 (dk_at dksX0_goesNext_1 18 rfl rfl)
theorem dX0_goesNext_41 : decode cX0_goesNext 41 = .ok (.isub, 1) := dk_100 (dk_at dksX0_goesNext_1 19 rfl rfl)
theorem dX0_goesNext_42 : decode cX0_goesNext 42 = .ok (.istore_n 3, 1) := dk_62 (dk_at dksX0_goesNext_1 20 rfl rfl)
theorem dX0_goesNext_43 : decode cX0_goesNext 43 = .ok (.aload_n 1, 1) := dk_43 (dk_at dksX0_goesNext_1 21 rfl rfl)
theorem dX0_goesNext_44 : decode cX0_goesNext 44 = .ok (.iload_n 3, 1) := dk_29 (dk_at dksX0_goesNext_1 22 rfl rfl)
theorem dX0_goesNext_45 : decode cX0_goesNext 45 = .ok (.baload, 1) := dk_51 (dk_at dksX0_goesNext_1 23 rfl rfl)
theorem dX0_goesNext_46 : decode cX0_goesNext 46 = .ok (.aload_n 1, 1) := dk_43 (dk_at dksX0_goesNext_2 0 rfl rfl)
theorem dX0_goesNext_47 : decode cX0_goesNext 47 = .ok (.iload_n 2, 1) := dk_28 (dk_at dksX0_goesNext_2 1 rfl rfl)
theorem dX0_goesNext_48 : decode cX0_goesNext 48 = .ok (.baload, 1) := dk_51 (dk_at dksX0_goesNext_2 2 rfl rfl)
theorem dX0_goesNext_49 : decode cX0_goesNext 49 = .ok (.if_icmp .ge 9, 3) := dk_162 0 9 (dk_at dksX0_goesNext_2 3 rfl rfl)
theorem dX0_goesNext_52 : decode cX0_goesNext 52 = .ok (.iinc 3 (-1), 3) := dk_132 3 255 (dk_at dksX0_goesNext_2 6 rfl rfl)
theorem dX0_goesNext_55 : decode cX0_goesNext 55 = .ok (.goto (-12), 3) := dk_167 255 244 (dk_at dksX0_goesNext_2 9 rfl rfl)
theorem dX0_goesNext_58 : decode cX0_goesNext 58 = .ok (.aload_n 1, 1) := dk_43 (dk_at dksX0_goesNext_2 12 rfl rfl)
theorem dX0_goesNext_59 : decode cX0_goesNext 59 = .ok (.iload_n 2, 1) := dk_28 (dk_at dksX0_goesNext_2 13 rfl rfl)
theorem dX0_goesNext_60 : decode cX0_goesNext 60 = .ok (.iload_n 3, 1) := dk_29 (dk_at dksX0_goesNext_2 14 rfl rfl)
theorem dX0_goesNext_61 : decode cX0_goesNext 61 = .ok (.invokestatic 246, 3) := dk_184 0 246 (dk_at dksX0_goesNext_2 15 rfl rfl)
theorem dX0_goesNext_64 : decode cX0_goesNext 64 = .ok (.aload_n 0, 1) := dk_42 (dk_at dksX0_goesNext_2 18 rfl rfl)
theorem dX0_goesNext_65 : decode cX0_goesNext 65 = .ok (.aload_n 1, 1) := dk_43 (dk_at dksX0_goesNext_2 19 rfl rfl)
theorem dX0_goesNext_66 : decode cX0_goesNext 66 = .ok (.iload_n 2, 1) := dk_28 (dk_at dksX0_goesNext_2 20 rfl rfl)
theorem dX0_goesNext_67 : decode cX0_goesNext 67 = .ok (.iconst 1, 1) := dk_4 (dk_at dksX0_goesNext_2 21 rfl rfl)
theorem dX0_goesNext_68 : decode cX0_goesNext 68 = .ok (.iadd, 1) := dk_96 (dk_at dksX0_goesNext_2 22 rfl rfl)
theorem dX0_goesNext_69 : decode cX0_goesNext 69 = .ok (.invokevirtual 254, 3) := dk_182 0 254 (dk_at dksX0_goesNext_3 0 rfl rfl)
theorem dX0_goesNext_72 : decode cX0_goesNext 72 = .ok (.return_, 1) := dk_177 (dk_at dksX0_goesNext_3 3 rfl rfl)
abbrev cX0_isLeast : ByteArray := prog_1_method_91_code
def yX0_isLeast : MethodName := ⟨RX0, "isLeast", "([B)Z"⟩
def dkwX0_isLeast_0 : List UInt8 := [42, 43, 182, 1, 112, 42, 180, 0, 34, 180, 0, 229, 127, 9, 148, 154, 0, 7, 4, 167, 0, 4, 3, 172]
abbrev dktX0_isLeast_0 : List UInt8 := dkwX0_isLeast_0 ++ []
theorem dksX0_isLeast_0 : cX0_isLeast.data.toList.drop 0 = dktX0_isLeast_0 := by decide +kernel
theorem dX0_isLeast_0 : decode cX0_isLeast 0 = .ok (.aload_n 0, 1) := dk_42 (dk_at dksX0_isLeast_0 0 rfl rfl)
theorem dX0_isLeast_1 : decode cX0_isLeast 1 = .ok (.aload_n 1, 1) := dk_43 (dk_at dksX0_isLeast_0 1 rfl rfl)
theorem dX0_isLeast_2 : decode cX0_isLeast 2 = .ok (.invokevirtual 368, 3) := dk_182 1 112 (dk_at dksX0_isLeast_0 2 rfl rfl)
theorem dX0_isLeast_5 : decode cX0_isLeast 5 = .ok (.aload_n 0, 1) := dk_42 (dk_at dksX0_isLeast_0 5 rfl rfl)
theorem dX0_isLeast_6 : decode cX0_isLeast 6 = .ok (.getfield 34, 3) := dk_180 0 34 (dk_at dksX0_isLeast_0 6 rfl rfl)
theorem dX0_isLeast_9 : decode cX0_isLeast 9 = .ok (.getfield 229, 3) := dk_180 0 229 (dk_at dksX0_isLeast_0 9 rfl rfl)
theorem dX0_isLeast_12 : decode cX0_isLeast 12 = .ok (.land, 1) := dk_127 (dk_at dksX0_isLeast_0 12 rfl rfl)
theorem dX0_isLeast_13 : decode cX0_isLeast 13 = .ok (.lconst 0, 1) := dk_9 (dk_at dksX0_isLeast_0 13 rfl rfl)
theorem dX0_isLeast_14 : decode cX0_isLeast 14 = .ok (.lcmp, 1) := dk_148 (dk_at dksX0_isLeast_0 14 rfl rfl)
theorem dX0_isLeast_15 : decode cX0_isLeast 15 = .ok (.ifCond .ne 7, 3) := dk_154 0 7 (dk_at dksX0_isLeast_0 15 rfl rfl)
theorem dX0_isLeast_18 : decode cX0_isLeast 18 = .ok (.iconst 1, 1) := dk_4 (dk_at dksX0_isLeast_0 18 rfl rfl)
theorem dX0_isLeast_19 : decode cX0_isLeast 19 = .ok (.goto 4, 3) := dk_167 0 4 (dk_at dksX0_isLeast_0 19 rfl rfl)
theorem dX0_isLeast_22 : decode cX0_isLeast 22 = .ok (.iconst 0, 1) := dk_3 (dk_at dksX0_isLeast_0 22 rfl rfl)
theorem dX0_isLeast_23 : decode cX0_isLeast 23 = .ok (.ireturn, 1) := dk_172 (dk_at dksX0_isLeast_0 23 rfl rfl)
abbrev cX0_classAt : ByteArray := prog_1_method_95_code
def yX0_classAt : MethodName := ⟨RX0, "classAt", "(I)I"⟩
def dkwX0_classAt_3 : List UInt8 := [167, 255, 209, 2, 172]
abbrev dktX0_classAt_3 : List UInt8 := dkwX0_classAt_3 ++ []
def dkwX0_classAt_2 : List UInt8 := [182, 2, 68, 154, 0, 6, 167, 255, 227, 28, 27, 160, 0, 10, 42, 25, 4, 182, 1, 40, 172, 132, 2, 1]
abbrev dktX0_classAt_2 : List UInt8 := dkwX0_classAt_2 ++ dktX0_classAt_3
def dkwX0_classAt_1 : List UInt8 := [185, 2, 59, 1, 0, 153, 0, 44, 45, 185, 2, 65, 1, 0, 192, 0, 156, 58, 4, 42, 25, 4]
abbrev dktX0_classAt_1 : List UInt8 := dkwX0_classAt_1 ++ dktX0_classAt_2
def dkwX0_classAt_0 : List UInt8 := [27, 156, 0, 5, 2, 172, 3, 61, 187, 2, 50, 89, 42, 183, 2, 52, 182, 2, 55, 78, 45]
abbrev dktX0_classAt_0 : List UInt8 := dkwX0_classAt_0 ++ dktX0_classAt_1
theorem dksX0_classAt_0 : cX0_classAt.data.toList.drop 0 = dktX0_classAt_0 := by decide +kernel
theorem dksX0_classAt_1 : cX0_classAt.data.toList.drop 21 = dktX0_classAt_1 := dk_seg dksX0_classAt_0 21 rfl rfl
theorem dksX0_classAt_2 : cX0_classAt.data.toList.drop 43 = dktX0_classAt_2 := dk_seg dksX0_classAt_1 22 rfl rfl
theorem dksX0_classAt_3 : cX0_classAt.data.toList.drop 67 = dktX0_classAt_3 := dk_seg dksX0_classAt_2 24 rfl rfl
theorem dX0_classAt_0 : decode cX0_classAt 0 = .ok (.iload_n 1, 1) := dk_27 (dk_at dksX0_classAt_0 0 rfl rfl)
theorem dX0_classAt_1 : decode cX0_classAt 1 = .ok (.ifCond .ge 5, 3) := dk_156 0 5 (dk_at dksX0_classAt_0 1 rfl rfl)
theorem dX0_classAt_4 : decode cX0_classAt 4 = .ok (.iconst (-1), 1) := dk_2 (dk_at dksX0_classAt_0 4 rfl rfl)
theorem dX0_classAt_5 : decode cX0_classAt 5 = .ok (.ireturn, 1) := dk_172 (dk_at dksX0_classAt_0 5 rfl rfl)
theorem dX0_classAt_6 : decode cX0_classAt 6 = .ok (.iconst 0, 1) := dk_3 (dk_at dksX0_classAt_0 6 rfl rfl)
theorem dX0_classAt_7 : decode cX0_classAt 7 = .ok (.istore_n 2, 1) := dk_61 (dk_at dksX0_classAt_0 7 rfl rfl)
theorem dX0_classAt_8 : decode cX0_classAt 8 = .ok (.new 562, 3) := dk_187 2 50 (dk_at dksX0_classAt_0 8 rfl rfl)
theorem dX0_classAt_11 : decode cX0_classAt 11 = .ok (.dup, 1) := dk_89 (dk_at dksX0_classAt_0 11 rfl rfl)
theorem dX0_classAt_12 : decode cX0_classAt 12 = .ok (.aload_n 0, 1) := dk_42 (dk_at dksX0_classAt_0 12 rfl rfl)
theorem dX0_classAt_13 : decode cX0_classAt 13 = .ok (.invokespecial 564, 3) := dk_183 2 52 (dk_at dksX0_classAt_0 13 rfl rfl)
theorem dX0_classAt_16 : decode cX0_classAt 16 = .ok (.invokevirtual 567, 3) := dk_182 2 55 (dk_at dksX0_classAt_0 16 rfl rfl)
theorem dX0_classAt_19 : decode cX0_classAt 19 = .ok (.astore_n 3, 1) := dk_78 (dk_at dksX0_classAt_0 19 rfl rfl)
theorem dX0_classAt_20 : decode cX0_classAt 20 = .ok (.aload_n 3, 1) := dk_45 (dk_at dksX0_classAt_0 20 rfl rfl)
theorem dX0_classAt_21 : decode cX0_classAt 21 = .ok (.invokeinterface 571 1, 5) := by decide +kernel
theorem dX0_classAt_26 : decode cX0_classAt 26 = .ok (.ifCond .eq 44, 3) := dk_153 0 44 (dk_at dksX0_classAt_1 5 rfl rfl)
theorem dX0_classAt_29 : decode cX0_classAt 29 = .ok (.aload_n 3, 1) := dk_45 (dk_at dksX0_classAt_1 8 rfl rfl)
theorem dX0_classAt_30 : decode cX0_classAt 30 = .ok (.invokeinterface 577 1, 5) := by decide +kernel
theorem dX0_classAt_35 : decode cX0_classAt 35 = .ok (.checkcast 156, 3) := dk_192 0 156 (dk_at dksX0_classAt_1 14 rfl rfl)
theorem dX0_classAt_38 : decode cX0_classAt 38 = .ok (.astore 4, 2) := dk_58 4 (dk_at dksX0_classAt_1 17 rfl rfl)
theorem dX0_classAt_40 : decode cX0_classAt 40 = .ok (.aload_n 0, 1) := dk_42 (dk_at dksX0_classAt_1 19 rfl rfl)
theorem dX0_classAt_41 : decode cX0_classAt 41 = .ok (.aload 4, 2) := dk_25 4 (dk_at dksX0_classAt_1 20 rfl rfl)
theorem dX0_classAt_43 : decode cX0_classAt 43 = .ok (.invokevirtual 580, 3) := dk_182 2 68 (dk_at dksX0_classAt_2 0 rfl rfl)
theorem dX0_classAt_46 : decode cX0_classAt 46 = .ok (.ifCond .ne 6, 3) := dk_154 0 6 (dk_at dksX0_classAt_2 3 rfl rfl)
theorem dX0_classAt_49 : decode cX0_classAt 49 = .ok (.goto (-29), 3) := dk_167 255 227 (dk_at dksX0_classAt_2 6 rfl rfl)
theorem dX0_classAt_52 : decode cX0_classAt 52 = .ok (.iload_n 2, 1) := dk_28 (dk_at dksX0_classAt_2 9 rfl rfl)
theorem dX0_classAt_53 : decode cX0_classAt 53 = .ok (.iload_n 1, 1) := dk_27 (dk_at dksX0_classAt_2 10 rfl rfl)
theorem dX0_classAt_54 : decode cX0_classAt 54 = .ok (.if_icmp .ne 10, 3) := dk_160 0 10 (dk_at dksX0_classAt_2 11 rfl rfl)
theorem dX0_classAt_57 : decode cX0_classAt 57 = .ok (.aload_n 0, 1) := dk_42 (dk_at dksX0_classAt_2 14 rfl rfl)
theorem dX0_classAt_58 : decode cX0_classAt 58 = .ok (.aload 4, 2) := dk_25 4 (dk_at dksX0_classAt_2 15 rfl rfl)
theorem dX0_classAt_60 : decode cX0_classAt 60 = .ok (.invokevirtual 296, 3) := dk_182 1 40 (dk_at dksX0_classAt_2 17 rfl rfl)
theorem dX0_classAt_63 : decode cX0_classAt 63 = .ok (.ireturn, 1) := dk_172 (dk_at dksX0_classAt_2 20 rfl rfl)
theorem dX0_classAt_64 : decode cX0_classAt 64 = .ok (.iinc 2 1, 3) := dk_132 2 1 (dk_at dksX0_classAt_2 21 rfl rfl)
theorem dX0_classAt_67 : decode cX0_classAt 67 = .ok (.goto (-47), 3) := dk_167 255 209 (dk_at dksX0_classAt_3 0 rfl rfl)
theorem dX0_classAt_70 : decode cX0_classAt 70 = .ok (.iconst (-1), 1) := dk_2 (dk_at dksX0_classAt_3 3 rfl rfl)
theorem dX0_classAt_71 : decode cX0_classAt 71 = .ok (.ireturn, 1) := dk_172 (dk_at dksX0_classAt_3 4 rfl rfl)
abbrev cX0_classes : ByteArray := prog_1_method_96_code
def yX0_classes : MethodName := ⟨RX0, "classes", "(III)I"⟩
def dkwX0_classes_5 : List UInt8 := [180, 0, 144, 182, 1, 40, 172]
abbrev dktX0_classes_5 : List UInt8 := dkwX0_classes_5 ++ []
def dkwX0_classes_4 : List UInt8 := [42, 180, 0, 141, 42, 180, 0, 144, 182, 1, 44, 42, 42, 180, 0, 144, 4, 182, 2, 31, 42, 42]
abbrev dktX0_classes_4 : List UInt8 := dkwX0_classes_4 ++ dktX0_classes_5
def dkwX0_classes_3 : List UInt8 := [42, 42, 180, 0, 137, 42, 180, 0, 141, 42, 180, 0, 144, 182, 1, 36, 167, 0, 19, 42, 42, 180, 0, 137]
abbrev dktX0_classes_3 : List UInt8 := dkwX0_classes_3 ++ dktX0_classes_4
def dkwX0_classes_2 : List UInt8 := [180, 0, 137, 42, 180, 0, 141, 182, 1, 32, 153, 0, 7, 4, 167, 0, 4, 3, 172, 29, 4, 160, 0, 22]
abbrev dktX0_classes_2 : List UInt8 := dkwX0_classes_2 ++ dktX0_classes_3
def dkwX0_classes_1 : List UInt8 := [180, 0, 137, 4, 182, 2, 31, 42, 42, 180, 0, 141, 4, 182, 2, 31, 29, 154, 0, 24, 42, 42]
abbrev dktX0_classes_1 : List UInt8 := dkwX0_classes_1 ++ dktX0_classes_2
def dkwX0_classes_0 : List UInt8 := [42, 27, 28, 182, 1, 28, 153, 0, 12, 29, 3, 5, 184, 0, 112, 154, 0, 5, 2, 172, 42, 42]
abbrev dktX0_classes_0 : List UInt8 := dkwX0_classes_0 ++ dktX0_classes_1
theorem dksX0_classes_0 : cX0_classes.data.toList.drop 0 = dktX0_classes_0 := by decide +kernel
theorem dksX0_classes_1 : cX0_classes.data.toList.drop 22 = dktX0_classes_1 := dk_seg dksX0_classes_0 22 rfl rfl
theorem dksX0_classes_2 : cX0_classes.data.toList.drop 44 = dktX0_classes_2 := dk_seg dksX0_classes_1 22 rfl rfl
theorem dksX0_classes_3 : cX0_classes.data.toList.drop 68 = dktX0_classes_3 := dk_seg dksX0_classes_2 24 rfl rfl
theorem dksX0_classes_4 : cX0_classes.data.toList.drop 92 = dktX0_classes_4 := dk_seg dksX0_classes_3 24 rfl rfl
theorem dksX0_classes_5 : cX0_classes.data.toList.drop 114 = dktX0_classes_5 := dk_seg dksX0_classes_4 22 rfl rfl
theorem dX0_classes_0 : decode cX0_classes 0 = .ok (.aload_n 0, 1) := dk_42 (dk_at dksX0_classes_0 0 rfl rfl)
theorem dX0_classes_1 : decode cX0_classes 1 = .ok (.iload_n 1, 1) := dk_27 (dk_at dksX0_classes_0 1 rfl rfl)
theorem dX0_classes_2 : decode cX0_classes 2 = .ok (.iload_n 2, 1) := dk_28 (dk_at dksX0_classes_0 2 rfl rfl)
theorem dX0_classes_3 : decode cX0_classes 3 = .ok (.invokevirtual 284, 3) := dk_182 1 28 (dk_at dksX0_classes_0 3 rfl rfl)
theorem dX0_classes_6 : decode cX0_classes 6 = .ok (.ifCond .eq 12, 3) := dk_153 0 12 (dk_at dksX0_classes_0 6 rfl rfl)
theorem dX0_classes_9 : decode cX0_classes 9 = .ok (.iload_n 3, 1) := dk_29 (dk_at dksX0_classes_0 9 rfl rfl)
theorem dX0_classes_10 : decode cX0_classes 10 = .ok (.iconst 0, 1) := dk_3 (dk_at dksX0_classes_0 10 rfl rfl)
theorem dX0_classes_11 : decode cX0_classes 11 = .ok (.iconst 2, 1) := dk_5 (dk_at dksX0_classes_0 11 rfl rfl)
theorem dX0_classes_12 : decode cX0_classes 12 = .ok (.invokestatic 112, 3) := dk_184 0 112 (dk_at dksX0_classes_0 12 rfl rfl)
theorem dX0_classes_15 : decode cX0_classes 15 = .ok (.ifCond .ne 5, 3) := dk_154 0 5 (dk_at dksX0_classes_0 15 rfl rfl)
theorem dX0_classes_18 : decode cX0_classes 18 = .ok (.iconst (-1), 1) := dk_2 (dk_at dksX0_classes_0 18 rfl rfl)
theorem dX0_classes_19 : decode cX0_classes 19 = .ok (.ireturn, 1) := dk_172 (dk_at dksX0_classes_0 19 rfl rfl)
theorem dX0_classes_20 : decode cX0_classes 20 = .ok (.aload_n 0, 1) := dk_42 (dk_at dksX0_classes_0 20 rfl rfl)
theorem dX0_classes_21 : decode cX0_classes 21 = .ok (.aload_n 0, 1) := dk_42 (dk_at dksX0_classes_0 21 rfl rfl)
theorem dX0_classes_22 : decode cX0_classes 22 = .ok (.getfield 137, 3) := dk_180 0 137 (dk_at dksX0_classes_1 0 rfl rfl)
theorem dX0_classes_25 : decode cX0_classes 25 = .ok (.iconst 1, 1) := dk_4 (dk_at dksX0_classes_1 3 rfl rfl)
theorem dX0_classes_26 : decode cX0_classes 26 = .ok (.invokevirtual 543, 3) := dk_182 2 31 (dk_at dksX0_classes_1 4 rfl rfl)
theorem dX0_classes_29 : decode cX0_classes 29 = .ok (.aload_n 0, 1) := dk_42 (dk_at dksX0_classes_1 7 rfl rfl)
theorem dX0_classes_30 : decode cX0_classes 30 = .ok (.aload_n 0, 1) := dk_42 (dk_at dksX0_classes_1 8 rfl rfl)
theorem dX0_classes_31 : decode cX0_classes 31 = .ok (.getfield 141, 3) := dk_180 0 141 (dk_at dksX0_classes_1 9 rfl rfl)
theorem dX0_classes_34 : decode cX0_classes 34 = .ok (.iconst 1, 1) := dk_4 (dk_at dksX0_classes_1 12 rfl rfl)
theorem dX0_classes_35 : decode cX0_classes 35 = .ok (.invokevirtual 543, 3) := dk_182 2 31 (dk_at dksX0_classes_1 13 rfl rfl)
theorem dX0_classes_38 : decode cX0_classes 38 = .ok (.iload_n 3, 1) := dk_29 (dk_at dksX0_classes_1 16 rfl rfl)
theorem dX0_classes_39 : decode cX0_classes 39 = .ok (.ifCond .ne 24, 3) := dk_154 0 24 (dk_at dksX0_classes_1 17 rfl rfl)
theorem dX0_classes_42 : decode cX0_classes 42 = .ok (.aload_n 0, 1) := dk_42 (dk_at dksX0_classes_1 20 rfl rfl)
theorem dX0_classes_43 : decode cX0_classes 43 = .ok (.aload_n 0, 1) := dk_42 (dk_at dksX0_classes_1 21 rfl rfl)
theorem dX0_classes_44 : decode cX0_classes 44 = .ok (.getfield 137, 3) := dk_180 0 137 (dk_at dksX0_classes_2 0 rfl rfl)
theorem dX0_classes_47 : decode cX0_classes 47 = .ok (.aload_n 0, 1) := dk_42 (dk_at dksX0_classes_2 3 rfl rfl)
theorem dX0_classes_48 : decode cX0_classes 48 = .ok (.getfield 141, 3) := dk_180 0 141 (dk_at dksX0_classes_2 4 rfl rfl)
theorem dX0_classes_51 : decode cX0_classes 51 = .ok (.invokevirtual 288, 3) := dk_182 1 32 (dk_at dksX0_classes_2 7 rfl rfl)
theorem dX0_classes_54 : decode cX0_classes 54 = .ok (.ifCond .eq 7, 3) := dk_153 0 7 (dk_at dksX0_classes_2 10 rfl rfl)
theorem dX0_classes_57 : decode cX0_classes 57 = .ok (.iconst 1, 1) := dk_4 (dk_at dksX0_classes_2 13 rfl rfl)
theorem dX0_classes_58 : decode cX0_classes 58 = .ok (.goto 4, 3) := dk_167 0 4 (dk_at dksX0_classes_2 14 rfl rfl)
theorem dX0_classes_61 : decode cX0_classes 61 = .ok (.iconst 0, 1) := dk_3 (dk_at dksX0_classes_2 17 rfl rfl)
theorem dX0_classes_62 : decode cX0_classes 62 = .ok (.ireturn, 1) := dk_172 (dk_at dksX0_classes_2 18 rfl rfl)
theorem dX0_classes_63 : decode cX0_classes 63 = .ok (.iload_n 3, 1) := dk_29 (dk_at dksX0_classes_2 19 rfl rfl)
theorem dX0_classes_64 : decode cX0_classes 64 = .ok (.iconst 1, 1) := dk_4 (dk_at dksX0_classes_2 20 rfl rfl)
theorem dX0_classes_65 : decode cX0_classes 65 = .ok (.if_icmp .ne 22, 3) := dk_160 0 22 (dk_at dksX0_classes_2 21 rfl rfl)
theorem dX0_classes_68 : decode cX0_classes 68 = .ok (.aload_n 0, 1) := dk_42 (dk_at dksX0_classes_3 0 rfl rfl)
theorem dX0_classes_69 : decode cX0_classes 69 = .ok (.aload_n 0, 1) := dk_42 (dk_at dksX0_classes_3 1 rfl rfl)
theorem dX0_classes_70 : decode cX0_classes 70 = .ok (.getfield 137, 3) := dk_180 0 137 (dk_at dksX0_classes_3 2 rfl rfl)
theorem dX0_classes_73 : decode cX0_classes 73 = .ok (.aload_n 0, 1) := dk_42 (dk_at dksX0_classes_3 5 rfl rfl)
theorem dX0_classes_74 : decode cX0_classes 74 = .ok (.getfield 141, 3) := dk_180 0 141 (dk_at dksX0_classes_3 6 rfl rfl)
theorem dX0_classes_77 : decode cX0_classes 77 = .ok (.aload_n 0, 1) := dk_42 (dk_at dksX0_classes_3 9 rfl rfl)
theorem dX0_classes_78 : decode cX0_classes 78 = .ok (.getfield 144, 3) := dk_180 0 144 (dk_at dksX0_classes_3 10 rfl rfl)
theorem dX0_classes_81 : decode cX0_classes 81 = .ok (.invokevirtual 292, 3) := dk_182 1 36 (dk_at dksX0_classes_3 13 rfl rfl)
theorem dX0_classes_84 : decode cX0_classes 84 = .ok (.goto 19, 3) := dk_167 0 19 (dk_at dksX0_classes_3 16 rfl rfl)
theorem dX0_classes_87 : decode cX0_classes 87 = .ok (.aload_n 0, 1) := dk_42 (dk_at dksX0_classes_3 19 rfl rfl)
theorem dX0_classes_88 : decode cX0_classes 88 = .ok (.aload_n 0, 1) := dk_42 (dk_at dksX0_classes_3 20 rfl rfl)
theorem dX0_classes_89 : decode cX0_classes 89 = .ok (.getfield 137, 3) := dk_180 0 137 (dk_at dksX0_classes_3 21 rfl rfl)
theorem dX0_classes_92 : decode cX0_classes 92 = .ok (.aload_n 0, 1) := dk_42 (dk_at dksX0_classes_4 0 rfl rfl)
theorem dX0_classes_93 : decode cX0_classes 93 = .ok (.getfield 141, 3) := dk_180 0 141 (dk_at dksX0_classes_4 1 rfl rfl)
theorem dX0_classes_96 : decode cX0_classes 96 = .ok (.aload_n 0, 1) := dk_42 (dk_at dksX0_classes_4 4 rfl rfl)
theorem dX0_classes_97 : decode cX0_classes 97 = .ok (.getfield 144, 3) := dk_180 0 144 (dk_at dksX0_classes_4 5 rfl rfl)
theorem dX0_classes_100 : decode cX0_classes 100 = .ok (.invokevirtual 300, 3) := dk_182 1 44 (dk_at dksX0_classes_4 8 rfl rfl)
theorem dX0_classes_103 : decode cX0_classes 103 = .ok (.aload_n 0, 1) := dk_42 (dk_at dksX0_classes_4 11 rfl rfl)
theorem dX0_classes_104 : decode cX0_classes 104 = .ok (.aload_n 0, 1) := dk_42 (dk_at dksX0_classes_4 12 rfl rfl)
theorem dX0_classes_105 : decode cX0_classes 105 = .ok (.getfield 144, 3) := dk_180 0 144 (dk_at dksX0_classes_4 13 rfl rfl)
theorem dX0_classes_108 : decode cX0_classes 108 = .ok (.iconst 1, 1) := dk_4 (dk_at dksX0_classes_4 16 rfl rfl)
theorem dX0_classes_109 : decode cX0_classes 109 = .ok (.invokevirtual 543, 3) := dk_182 2 31 (dk_at dksX0_classes_4 17 rfl rfl)
theorem dX0_classes_112 : decode cX0_classes 112 = .ok (.aload_n 0, 1) := dk_42 (dk_at dksX0_classes_4 20 rfl rfl)
theorem dX0_classes_113 : decode cX0_classes 113 = .ok (.aload_n 0, 1) := dk_42 (dk_at dksX0_classes_4 21 rfl rfl)
theorem dX0_classes_114 : decode cX0_classes 114 = .ok (.getfield 144, 3) := dk_180 0 144 (dk_at dksX0_classes_5 0 rfl rfl)
theorem dX0_classes_117 : decode cX0_classes 117 = .ok (.invokevirtual 296, 3) := dk_182 1 40 (dk_at dksX0_classes_5 3 rfl rfl)
theorem dX0_classes_120 : decode cX0_classes 120 = .ok (.ireturn, 1) := dk_172 (dk_at dksX0_classes_5 6 rfl rfl)
abbrev cX0_rotations : ByteArray := prog_1_method_99_code
def yX0_rotations : MethodName := ⟨RX0, "rotations", "(II)I"⟩
def dkwX0_rotations_1 : List UInt8 := [42, 180, 0, 137, 28, 182, 2, 79, 42, 180, 2, 72, 172]
abbrev dktX0_rotations_1 : List UInt8 := dkwX0_rotations_1 ++ []
def dkwX0_rotations_0 : List UInt8 := [42, 27, 42, 180, 0, 137, 182, 0, 236, 153, 0, 12, 28, 3, 4, 184, 0, 112, 154, 0, 5, 2, 172, 42]
abbrev dktX0_rotations_0 : List UInt8 := dkwX0_rotations_0 ++ dktX0_rotations_1
theorem dksX0_rotations_0 : cX0_rotations.data.toList.drop 0 = dktX0_rotations_0 := by decide +kernel
theorem dksX0_rotations_1 : cX0_rotations.data.toList.drop 24 = dktX0_rotations_1 := dk_seg dksX0_rotations_0 24 rfl rfl
theorem dX0_rotations_0 : decode cX0_rotations 0 = .ok (.aload_n 0, 1) := dk_42 (dk_at dksX0_rotations_0 0 rfl rfl)
theorem dX0_rotations_1 : decode cX0_rotations 1 = .ok (.iload_n 1, 1) := dk_27 (dk_at dksX0_rotations_0 1 rfl rfl)
theorem dX0_rotations_2 : decode cX0_rotations 2 = .ok (.aload_n 0, 1) := dk_42 (dk_at dksX0_rotations_0 2 rfl rfl)
theorem dX0_rotations_3 : decode cX0_rotations 3 = .ok (.getfield 137, 3) := dk_180 0 137 (dk_at dksX0_rotations_0 3 rfl rfl)
theorem dX0_rotations_6 : decode cX0_rotations 6 = .ok (.invokevirtual 236, 3) := dk_182 0 236 (dk_at dksX0_rotations_0 6 rfl rfl)
theorem dX0_rotations_9 : decode cX0_rotations 9 = .ok (.ifCond .eq 12, 3) := dk_153 0 12 (dk_at dksX0_rotations_0 9 rfl rfl)
theorem dX0_rotations_12 : decode cX0_rotations 12 = .ok (.iload_n 2, 1) := dk_28 (dk_at dksX0_rotations_0 12 rfl rfl)
theorem dX0_rotations_13 : decode cX0_rotations 13 = .ok (.iconst 0, 1) := dk_3 (dk_at dksX0_rotations_0 13 rfl rfl)
theorem dX0_rotations_14 : decode cX0_rotations 14 = .ok (.iconst 1, 1) := dk_4 (dk_at dksX0_rotations_0 14 rfl rfl)
theorem dX0_rotations_15 : decode cX0_rotations 15 = .ok (.invokestatic 112, 3) := dk_184 0 112 (dk_at dksX0_rotations_0 15 rfl rfl)
theorem dX0_rotations_18 : decode cX0_rotations 18 = .ok (.ifCond .ne 5, 3) := dk_154 0 5 (dk_at dksX0_rotations_0 18 rfl rfl)
theorem dX0_rotations_21 : decode cX0_rotations 21 = .ok (.iconst (-1), 1) := dk_2 (dk_at dksX0_rotations_0 21 rfl rfl)
theorem dX0_rotations_22 : decode cX0_rotations 22 = .ok (.ireturn, 1) := dk_172 (dk_at dksX0_rotations_0 22 rfl rfl)
theorem dX0_rotations_23 : decode cX0_rotations 23 = .ok (.aload_n 0, 1) := dk_42 (dk_at dksX0_rotations_0 23 rfl rfl)
theorem dX0_rotations_24 : decode cX0_rotations 24 = .ok (.aload_n 0, 1) := dk_42 (dk_at dksX0_rotations_1 0 rfl rfl)
theorem dX0_rotations_25 : decode cX0_rotations 25 = .ok (.getfield 137, 3) := dk_180 0 137 (dk_at dksX0_rotations_1 1 rfl rfl)
theorem dX0_rotations_28 : decode cX0_rotations 28 = .ok (.iload_n 2, 1) := dk_28 (dk_at dksX0_rotations_1 4 rfl rfl)
theorem dX0_rotations_29 : decode cX0_rotations 29 = .ok (.invokevirtual 591, 3) := dk_182 2 79 (dk_at dksX0_rotations_1 5 rfl rfl)
theorem dX0_rotations_32 : decode cX0_rotations 32 = .ok (.aload_n 0, 1) := dk_42 (dk_at dksX0_rotations_1 8 rfl rfl)
theorem dX0_rotations_33 : decode cX0_rotations 33 = .ok (.getfield 584, 3) := dk_180 2 72 (dk_at dksX0_rotations_1 9 rfl rfl)
theorem dX0_rotations_36 : decode cX0_rotations 36 = .ok (.ireturn, 1) := dk_172 (dk_at dksX0_rotations_1 12 rfl rfl)
abbrev cX0_findRotations : ByteArray := prog_1_method_98_code
def yX0_findRotations : MethodName := ⟨RX0, "findRotations", "([BI)V"⟩
def dkwX0_findRotations_4 : List UInt8 := [182, 2, 31, 42, 42, 42, 180, 0, 147, 182, 1, 40, 182, 2, 75, 132, 3, 1, 167, 255, 176, 177]
abbrev dktX0_findRotations_4 : List UInt8 := dkwX0_findRotations_4 ++ []
def dkwX0_findRotations_3 : List UInt8 := [180, 0, 144, 42, 180, 0, 147, 182, 1, 60, 42, 180, 0, 147, 29, 184, 1, 124, 42, 42, 180, 0, 147, 4]
abbrev dktX0_findRotations_3 : List UInt8 := dkwX0_findRotations_3 ++ dktX0_findRotations_4
def dkwX0_findRotations_2 : List UInt8 := [180, 0, 144, 29, 184, 0, 250, 28, 154, 0, 7, 4, 167, 0, 4, 3, 159, 0, 6, 167, 0, 44, 42, 42]
abbrev dktX0_findRotations_2 : List UInt8 := dkwX0_findRotations_2 ++ dktX0_findRotations_3
def dkwX0_findRotations_1 : List UInt8 := [182, 2, 31, 42, 3, 181, 2, 72, 3, 62, 29, 4, 96, 42, 180, 0, 34, 180, 0, 38, 162, 0, 73, 42]
abbrev dktX0_findRotations_1 : List UInt8 := dkwX0_findRotations_1 ++ dktX0_findRotations_2
def dkwX0_findRotations_0 : List UInt8 := [42, 43, 42, 180, 0, 144, 182, 1, 60, 42, 42, 180, 0, 144, 28, 154, 0, 7, 4, 167, 0, 4, 3]
abbrev dktX0_findRotations_0 : List UInt8 := dkwX0_findRotations_0 ++ dktX0_findRotations_1
theorem dksX0_findRotations_0 : cX0_findRotations.data.toList.drop 0 = dktX0_findRotations_0 := by decide +kernel
theorem dksX0_findRotations_1 : cX0_findRotations.data.toList.drop 23 = dktX0_findRotations_1 := dk_seg dksX0_findRotations_0 23 rfl rfl
theorem dksX0_findRotations_2 : cX0_findRotations.data.toList.drop 47 = dktX0_findRotations_2 := dk_seg dksX0_findRotations_1 24 rfl rfl
theorem dksX0_findRotations_3 : cX0_findRotations.data.toList.drop 71 = dktX0_findRotations_3 := dk_seg dksX0_findRotations_2 24 rfl rfl
theorem dksX0_findRotations_4 : cX0_findRotations.data.toList.drop 95 = dktX0_findRotations_4 := dk_seg dksX0_findRotations_3 24 rfl rfl
theorem dX0_findRotations_0 : decode cX0_findRotations 0 = .ok (.aload_n 0, 1) := dk_42 (dk_at dksX0_findRotations_0 0 rfl rfl)
theorem dX0_findRotations_1 : decode cX0_findRotations 1 = .ok (.aload_n 1, 1) := dk_43 (dk_at dksX0_findRotations_0 1 rfl rfl)
theorem dX0_findRotations_2 : decode cX0_findRotations 2 = .ok (.aload_n 0, 1) := dk_42 (dk_at dksX0_findRotations_0 2 rfl rfl)
theorem dX0_findRotations_3 : decode cX0_findRotations 3 = .ok (.getfield 144, 3) := dk_180 0 144 (dk_at dksX0_findRotations_0 3 rfl rfl)
theorem dX0_findRotations_6 : decode cX0_findRotations 6 = .ok (.invokevirtual 316, 3) := dk_182 1 60 (dk_at dksX0_findRotations_0 6 rfl rfl)
theorem dX0_findRotations_9 : decode cX0_findRotations 9 = .ok (.aload_n 0, 1) := dk_42 (dk_at dksX0_findRotations_0 9 rfl rfl)
theorem dX0_findRotations_10 : decode cX0_findRotations 10 = .ok (.aload_n 0, 1) := dk_42 (dk_at dksX0_findRotations_0 10 rfl rfl)
theorem dX0_findRotations_11 : decode cX0_findRotations 11 = .ok (.getfield 144, 3) := dk_180 0 144 (dk_at dksX0_findRotations_0 11 rfl rfl)
theorem dX0_findRotations_14 : decode cX0_findRotations 14 = .ok (.iload_n 2, 1) := dk_28 (dk_at dksX0_findRotations_0 14 rfl rfl)
theorem dX0_findRotations_15 : decode cX0_findRotations 15 = .ok (.ifCond .ne 7, 3) := dk_154 0 7 (dk_at dksX0_findRotations_0 15 rfl rfl)
theorem dX0_findRotations_18 : decode cX0_findRotations 18 = .ok (.iconst 1, 1) := dk_4 (dk_at dksX0_findRotations_0 18 rfl rfl)
theorem dX0_findRotations_19 : decode cX0_findRotations 19 = .ok (.goto 4, 3) := dk_167 0 4 (dk_at dksX0_findRotations_0 19 rfl rfl)
theorem dX0_findRotations_22 : decode cX0_findRotations 22 = .ok (.iconst 0, 1) := dk_3 (dk_at dksX0_findRotations_0 22 rfl rfl)
theorem dX0_findRotations_23 : decode cX0_findRotations 23 = .ok (.invokevirtual 543, 3) := dk_182 2 31 (dk_at dksX0_findRotations_1 0 rfl rfl)
theorem dX0_findRotations_26 : decode cX0_findRotations 26 = .ok (.aload_n 0, 1) := dk_42 (dk_at dksX0_findRotations_1 3 rfl rfl)
theorem dX0_findRotations_27 : decode cX0_findRotations 27 = .ok (.iconst 0, 1) := dk_3 (dk_at dksX0_findRotations_1 4 rfl rfl)
theorem dX0_findRotations_28 : decode cX0_findRotations 28 = .ok (.putfield 584, 3) := dk_181 2 72 (dk_at dksX0_findRotations_1 5 rfl rfl)
theorem dX0_findRotations_31 : decode cX0_findRotations 31 = .ok (.iconst 0, 1) := dk_3 (dk_at dksX0_findRotations_1 8 rfl rfl)
theorem dX0_findRotations_32 : decode cX0_findRotations 32 = .ok (.istore_n 3, 1) := dk_62 (dk_at dksX0_findRotations_1 9 rfl rfl)
theorem dX0_findRotations_33 : decode cX0_findRotations 33 = .ok (.iload_n 3, 1) := dk_29 (dk_at dksX0_findRotations_1 10 rfl rfl)
theorem dX0_findRotations_34 : decode cX0_findRotations 34 = .ok (.iconst 1, 1) := dk_4 (dk_at dksX0_findRotations_1 11 rfl rfl)
theorem dX0_findRotations_35 : decode cX0_findRotations 35 = .ok (.iadd, 1) := dk_96 (dk_at dksX0_findRotations_1 12 rfl rfl)
theorem dX0_findRotations_36 : decode cX0_findRotations 36 = .ok (.aload_n 0, 1) := dk_42 (dk_at dksX0_findRotations_1 13 rfl rfl)
theorem dX0_findRotations_37 : decode cX0_findRotations 37 = .ok (.getfield 34, 3) := dk_180 0 34 (dk_at dksX0_findRotations_1 14 rfl rfl)
theorem dX0_findRotations_40 : decode cX0_findRotations 40 = .ok (.getfield 38, 3) := dk_180 0 38 (dk_at dksX0_findRotations_1 17 rfl rfl)
theorem dX0_findRotations_43 : decode cX0_findRotations 43 = .ok (.if_icmp .ge 73, 3) := dk_162 0 73 (dk_at dksX0_findRotations_1 20 rfl rfl)
theorem dX0_findRotations_46 : decode cX0_findRotations 46 = .ok (.aload_n 0, 1) := dk_42 (dk_at dksX0_findRotations_1 23 rfl rfl)
theorem dX0_findRotations_47 : decode cX0_findRotations 47 = .ok (.getfield 144, 3) := dk_180 0 144 (dk_at dksX0_findRotations_2 0 rfl rfl)
theorem dX0_findRotations_50 : decode cX0_findRotations 50 = .ok (.iload_n 3, 1) := dk_29 (dk_at dksX0_findRotations_2 3 rfl rfl)
theorem dX0_findRotations_51 : decode cX0_findRotations 51 = .ok (.invokestatic 250, 3) := dk_184 0 250 (dk_at dksX0_findRotations_2 4 rfl rfl)
theorem dX0_findRotations_54 : decode cX0_findRotations 54 = .ok (.iload_n 2, 1) := dk_28 (dk_at dksX0_findRotations_2 7 rfl rfl)
theorem dX0_findRotations_55 : decode cX0_findRotations 55 = .ok (.ifCond .ne 7, 3) := dk_154 0 7 (dk_at dksX0_findRotations_2 8 rfl rfl)
theorem dX0_findRotations_58 : decode cX0_findRotations 58 = .ok (.iconst 1, 1) := dk_4 (dk_at dksX0_findRotations_2 11 rfl rfl)
theorem dX0_findRotations_59 : decode cX0_findRotations 59 = .ok (.goto 4, 3) := dk_167 0 4 (dk_at dksX0_findRotations_2 12 rfl rfl)
theorem dX0_findRotations_62 : decode cX0_findRotations 62 = .ok (.iconst 0, 1) := dk_3 (dk_at dksX0_findRotations_2 15 rfl rfl)
theorem dX0_findRotations_63 : decode cX0_findRotations 63 = .ok (.if_icmp .eq 6, 3) := dk_159 0 6 (dk_at dksX0_findRotations_2 16 rfl rfl)
theorem dX0_findRotations_66 : decode cX0_findRotations 66 = .ok (.goto 44, 3) := dk_167 0 44 (dk_at dksX0_findRotations_2 19 rfl rfl)
theorem dX0_findRotations_69 : decode cX0_findRotations 69 = .ok (.aload_n 0, 1) := dk_42 (dk_at dksX0_findRotations_2 22 rfl rfl)
theorem dX0_findRotations_70 : decode cX0_findRotations 70 = .ok (.aload_n 0, 1) := dk_42 (dk_at dksX0_findRotations_2 23 rfl rfl)
theorem dX0_findRotations_71 : decode cX0_findRotations 71 = .ok (.getfield 144, 3) := dk_180 0 144 (dk_at dksX0_findRotations_3 0 rfl rfl)
theorem dX0_findRotations_74 : decode cX0_findRotations 74 = .ok (.aload_n 0, 1) := dk_42 (dk_at dksX0_findRotations_3 3 rfl rfl)
theorem dX0_findRotations_75 : decode cX0_findRotations 75 = .ok (.getfield 147, 3) := dk_180 0 147 (dk_at dksX0_findRotations_3 4 rfl rfl)
theorem dX0_findRotations_78 : decode cX0_findRotations 78 = .ok (.invokevirtual 316, 3) := dk_182 1 60 (dk_at dksX0_findRotations_3 7 rfl rfl)
theorem dX0_findRotations_81 : decode cX0_findRotations 81 = .ok (.aload_n 0, 1) := dk_42 (dk_at dksX0_findRotations_3 10 rfl rfl)
theorem dX0_findRotations_82 : decode cX0_findRotations 82 = .ok (.getfield 147, 3) := dk_180 0 147 (dk_at dksX0_findRotations_3 11 rfl rfl)
theorem dX0_findRotations_85 : decode cX0_findRotations 85 = .ok (.iload_n 3, 1) := dk_29 (dk_at dksX0_findRotations_3 14 rfl rfl)
theorem dX0_findRotations_86 : decode cX0_findRotations 86 = .ok (.invokestatic 380, 3) := dk_184 1 124 (dk_at dksX0_findRotations_3 15 rfl rfl)
theorem dX0_findRotations_89 : decode cX0_findRotations 89 = .ok (.aload_n 0, 1) := dk_42 (dk_at dksX0_findRotations_3 18 rfl rfl)
theorem dX0_findRotations_90 : decode cX0_findRotations 90 = .ok (.aload_n 0, 1) := dk_42 (dk_at dksX0_findRotations_3 19 rfl rfl)
theorem dX0_findRotations_91 : decode cX0_findRotations 91 = .ok (.getfield 147, 3) := dk_180 0 147 (dk_at dksX0_findRotations_3 20 rfl rfl)
theorem dX0_findRotations_94 : decode cX0_findRotations 94 = .ok (.iconst 1, 1) := dk_4 (dk_at dksX0_findRotations_3 23 rfl rfl)
theorem dX0_findRotations_95 : decode cX0_findRotations 95 = .ok (.invokevirtual 543, 3) := dk_182 2 31 (dk_at dksX0_findRotations_4 0 rfl rfl)
theorem dX0_findRotations_98 : decode cX0_findRotations 98 = .ok (.aload_n 0, 1) := dk_42 (dk_at dksX0_findRotations_4 3 rfl rfl)
theorem dX0_findRotations_99 : decode cX0_findRotations 99 = .ok (.aload_n 0, 1) := dk_42 (dk_at dksX0_findRotations_4 4 rfl rfl)
theorem dX0_findRotations_100 : decode cX0_findRotations 100 = .ok (.aload_n 0, 1) := dk_42 (dk_at dksX0_findRotations_4 5 rfl rfl)
theorem dX0_findRotations_101 : decode cX0_findRotations 101 = .ok (.getfield 147, 3) := dk_180 0 147 (dk_at dksX0_findRotations_4 6 rfl rfl)
theorem dX0_findRotations_104 : decode cX0_findRotations 104 = .ok (.invokevirtual 296, 3) := dk_182 1 40 (dk_at dksX0_findRotations_4 9 rfl rfl)
theorem dX0_findRotations_107 : decode cX0_findRotations 107 = .ok (.invokevirtual 587, 3) := dk_182 2 75 (dk_at dksX0_findRotations_4 12 rfl rfl)
theorem dX0_findRotations_110 : decode cX0_findRotations 110 = .ok (.iinc 3 1, 3) := dk_132 3 1 (dk_at dksX0_findRotations_4 15 rfl rfl)
theorem dX0_findRotations_113 : decode cX0_findRotations 113 = .ok (.goto (-80), 3) := dk_167 255 176 (dk_at dksX0_findRotations_4 18 rfl rfl)
theorem dX0_findRotations_116 : decode cX0_findRotations 116 = .ok (.return_, 1) := dk_177 (dk_at dksX0_findRotations_4 21 rfl rfl)
abbrev cX0_keepInOrder : ByteArray := prog_1_method_97_code
def yX0_keepInOrder : MethodName := ⟨RX0, "keepInOrder", "(I)V"⟩
def dkwX0_keepInOrder_2 : List UInt8 := [27, 79, 42, 89, 180, 2, 72, 4, 96, 181, 2, 72, 177]
abbrev dktX0_keepInOrder_2 : List UInt8 := dkwX0_keepInOrder_2 ++ []
def dkwX0_keepInOrder_1 : List UInt8 := [180, 0, 181, 28, 42, 180, 0, 181, 28, 4, 100, 46, 79, 132, 2, 255, 167, 255, 223, 42, 180, 0, 181, 28]
abbrev dktX0_keepInOrder_1 : List UInt8 := dkwX0_keepInOrder_1 ++ dktX0_keepInOrder_2
def dkwX0_keepInOrder_0 : List UInt8 := [42, 180, 2, 72, 61, 28, 158, 0, 35, 42, 180, 0, 181, 28, 4, 100, 46, 27, 164, 0, 23, 42]
abbrev dktX0_keepInOrder_0 : List UInt8 := dkwX0_keepInOrder_0 ++ dktX0_keepInOrder_1
theorem dksX0_keepInOrder_0 : cX0_keepInOrder.data.toList.drop 0 = dktX0_keepInOrder_0 := by decide +kernel
theorem dksX0_keepInOrder_1 : cX0_keepInOrder.data.toList.drop 22 = dktX0_keepInOrder_1 := dk_seg dksX0_keepInOrder_0 22 rfl rfl
theorem dksX0_keepInOrder_2 : cX0_keepInOrder.data.toList.drop 46 = dktX0_keepInOrder_2 := dk_seg dksX0_keepInOrder_1 24 rfl rfl
theorem dX0_keepInOrder_0 : decode cX0_keepInOrder 0 = .ok (.aload_n 0, 1) := dk_42 (dk_at dksX0_keepInOrder_0 0 rfl rfl)
theorem dX0_keepInOrder_1 : decode cX0_keepInOrder 1 = .ok (.getfield 584, 3) := dk_180 2 72 (dk_at dksX0_keepInOrder_0 1 rfl rfl)
theorem dX0_keepInOrder_4 : decode cX0_keepInOrder 4 = .ok (.istore_n 2, 1) := dk_61 (dk_at dksX0_keepInOrder_0 4 rfl rfl)
theorem dX0_keepInOrder_5 : decode cX0_keepInOrder 5 = .ok (.iload_n 2, 1) := dk_28 (dk_at dksX0_keepInOrder_0 5 rfl rfl)
theorem dX0_keepInOrder_6 : decode cX0_keepInOrder 6 = .ok (.ifCond .le 35, 3) := dk_158 0 35 (dk_at dksX0_keepInOrder_0 6 rfl rfl)
theorem dX0_keepInOrder_9 : decode cX0_keepInOrder 9 = .ok (.aload_n 0, 1) := dk_42 (dk_at dksX0_keepInOrder_0 9 rfl rfl)
theorem dX0_keepInOrder_10 : decode cX0_keepInOrder 10 = .ok (.getfield 181, 3) := dk_180 0 181 (dk_at dksX0_keepInOrder_0 10 rfl rfl)
theorem dX0_keepInOrder_13 : decode cX0_keepInOrder 13 = .ok (.iload_n 2, 1) := dk_28 (dk_at dksX0_keepInOrder_0 13 rfl rfl)
theorem dX0_keepInOrder_14 : decode cX0_keepInOrder 14 = .ok (.iconst 1, 1) := dk_4 (dk_at dksX0_keepInOrder_0 14 rfl rfl)
theorem dX0_keepInOrder_15 : decode cX0_keepInOrder 15 = .ok (.isub, 1) := dk_100 (dk_at dksX0_keepInOrder_0 15 rfl rfl)
theorem dX0_keepInOrder_16 : decode cX0_keepInOrder 16 = .ok (.iaload, 1) := dk_46 (dk_at dksX0_keepInOrder_0 16 rfl rfl)
theorem dX0_keepInOrder_17 : decode cX0_keepInOrder 17 = .ok (.iload_n 1, 1) := dk_27 (dk_at dksX0_keepInOrder_0 17 rfl rfl)
theorem dX0_keepInOrder_18 : decode cX0_keepInOrder 18 = .ok (.if_icmp .le 23, 3) := dk_164 0 23 (dk_at dksX0_keepInOrder_0 18 rfl rfl)
theorem dX0_keepInOrder_21 : decode cX0_keepInOrder 21 = .ok (.aload_n 0, 1) := dk_42 (dk_at dksX0_keepInOrder_0 21 rfl rfl)
theorem dX0_keepInOrder_22 : decode cX0_keepInOrder 22 = .ok (.getfield 181, 3) := dk_180 0 181 (dk_at dksX0_keepInOrder_1 0 rfl rfl)
theorem dX0_keepInOrder_25 : decode cX0_keepInOrder 25 = .ok (.iload_n 2, 1) := dk_28 (dk_at dksX0_keepInOrder_1 3 rfl rfl)
theorem dX0_keepInOrder_26 : decode cX0_keepInOrder 26 = .ok (.aload_n 0, 1) := dk_42 (dk_at dksX0_keepInOrder_1 4 rfl rfl)
theorem dX0_keepInOrder_27 : decode cX0_keepInOrder 27 = .ok (.getfield 181, 3) := dk_180 0 181 (dk_at dksX0_keepInOrder_1 5 rfl rfl)
theorem dX0_keepInOrder_30 : decode cX0_keepInOrder 30 = .ok (.iload_n 2, 1) := dk_28 (dk_at dksX0_keepInOrder_1 8 rfl rfl)
theorem dX0_keepInOrder_31 : decode cX0_keepInOrder 31 = .ok (.iconst 1, 1) := dk_4 (dk_at dksX0_keepInOrder_1 9 rfl rfl)
theorem dX0_keepInOrder_32 : decode cX0_keepInOrder 32 = .ok (.isub, 1) := dk_100 (dk_at dksX0_keepInOrder_1 10 rfl rfl)
theorem dX0_keepInOrder_33 : decode cX0_keepInOrder 33 = .ok (.iaload, 1) := dk_46 (dk_at dksX0_keepInOrder_1 11 rfl rfl)
theorem dX0_keepInOrder_34 : decode cX0_keepInOrder 34 = .ok (.iastore, 1) := dk_79 (dk_at dksX0_keepInOrder_1 12 rfl rfl)
theorem dX0_keepInOrder_35 : decode cX0_keepInOrder 35 = .ok (.iinc 2 (-1), 3) := dk_132 2 255 (dk_at dksX0_keepInOrder_1 13 rfl rfl)
theorem dX0_keepInOrder_38 : decode cX0_keepInOrder 38 = .ok (.goto (-33), 3) := dk_167 255 223 (dk_at dksX0_keepInOrder_1 16 rfl rfl)
theorem dX0_keepInOrder_41 : decode cX0_keepInOrder 41 = .ok (.aload_n 0, 1) := dk_42 (dk_at dksX0_keepInOrder_1 19 rfl rfl)
theorem dX0_keepInOrder_42 : decode cX0_keepInOrder 42 = .ok (.getfield 181, 3) := dk_180 0 181 (dk_at dksX0_keepInOrder_1 20 rfl rfl)
theorem dX0_keepInOrder_45 : decode cX0_keepInOrder 45 = .ok (.iload_n 2, 1) := dk_28 (dk_at dksX0_keepInOrder_1 23 rfl rfl)
theorem dX0_keepInOrder_46 : decode cX0_keepInOrder 46 = .ok (.iload_n 1, 1) := dk_27 (dk_at dksX0_keepInOrder_2 0 rfl rfl)
theorem dX0_keepInOrder_47 : decode cX0_keepInOrder 47 = .ok (.iastore, 1) := dk_79 (dk_at dksX0_keepInOrder_2 1 rfl rfl)
theorem dX0_keepInOrder_48 : decode cX0_keepInOrder 48 = .ok (.aload_n 0, 1) := dk_42 (dk_at dksX0_keepInOrder_2 2 rfl rfl)
theorem dX0_keepInOrder_49 : decode cX0_keepInOrder 49 = .ok (.dup, 1) := dk_89 (dk_at dksX0_keepInOrder_2 3 rfl rfl)
theorem dX0_keepInOrder_50 : decode cX0_keepInOrder 50 = .ok (.getfield 584, 3) := dk_180 2 72 (dk_at dksX0_keepInOrder_2 4 rfl rfl)
theorem dX0_keepInOrder_53 : decode cX0_keepInOrder 53 = .ok (.iconst 1, 1) := dk_4 (dk_at dksX0_keepInOrder_2 7 rfl rfl)
theorem dX0_keepInOrder_54 : decode cX0_keepInOrder 54 = .ok (.iadd, 1) := dk_96 (dk_at dksX0_keepInOrder_2 8 rfl rfl)
theorem dX0_keepInOrder_55 : decode cX0_keepInOrder 55 = .ok (.putfield 584, 3) := dk_181 2 72 (dk_at dksX0_keepInOrder_2 9 rfl rfl)
theorem dX0_keepInOrder_58 : decode cX0_keepInOrder 58 = .ok (.return_, 1) := dk_177 (dk_at dksX0_keepInOrder_2 12 rfl rfl)
abbrev cX0_rotate : ByteArray := prog_1_method_100_code
def yX0_rotate : MethodName := ⟨RX0, "rotate", "(III)I"⟩
def dkwX0_rotate_2 : List UInt8 := [180, 0, 181, 28, 46, 167, 0, 5, 16, 253, 172]
abbrev dktX0_rotate_2 : List UInt8 := dkwX0_rotate_2 ++ []
def dkwX0_rotate_1 : List UInt8 := [154, 0, 5, 2, 172, 42, 42, 180, 0, 137, 29, 182, 2, 79, 28, 42, 180, 2, 72, 162, 0, 12, 42]
abbrev dktX0_rotate_1 : List UInt8 := dkwX0_rotate_1 ++ dktX0_rotate_2
def dkwX0_rotate_0 : List UInt8 := [42, 27, 42, 180, 0, 137, 182, 0, 236, 153, 0, 16, 28, 155, 0, 12, 29, 3, 4, 184, 0, 112]
abbrev dktX0_rotate_0 : List UInt8 := dkwX0_rotate_0 ++ dktX0_rotate_1
theorem dksX0_rotate_0 : cX0_rotate.data.toList.drop 0 = dktX0_rotate_0 := by decide +kernel
theorem dksX0_rotate_1 : cX0_rotate.data.toList.drop 22 = dktX0_rotate_1 := dk_seg dksX0_rotate_0 22 rfl rfl
theorem dksX0_rotate_2 : cX0_rotate.data.toList.drop 45 = dktX0_rotate_2 := dk_seg dksX0_rotate_1 23 rfl rfl
theorem dX0_rotate_0 : decode cX0_rotate 0 = .ok (.aload_n 0, 1) := dk_42 (dk_at dksX0_rotate_0 0 rfl rfl)
theorem dX0_rotate_1 : decode cX0_rotate 1 = .ok (.iload_n 1, 1) := dk_27 (dk_at dksX0_rotate_0 1 rfl rfl)
theorem dX0_rotate_2 : decode cX0_rotate 2 = .ok (.aload_n 0, 1) := dk_42 (dk_at dksX0_rotate_0 2 rfl rfl)
theorem dX0_rotate_3 : decode cX0_rotate 3 = .ok (.getfield 137, 3) := dk_180 0 137 (dk_at dksX0_rotate_0 3 rfl rfl)
theorem dX0_rotate_6 : decode cX0_rotate 6 = .ok (.invokevirtual 236, 3) := dk_182 0 236 (dk_at dksX0_rotate_0 6 rfl rfl)
theorem dX0_rotate_9 : decode cX0_rotate 9 = .ok (.ifCond .eq 16, 3) := dk_153 0 16 (dk_at dksX0_rotate_0 9 rfl rfl)
theorem dX0_rotate_12 : decode cX0_rotate 12 = .ok (.iload_n 2, 1) := dk_28 (dk_at dksX0_rotate_0 12 rfl rfl)
theorem dX0_rotate_13 : decode cX0_rotate 13 = .ok (.ifCond .lt 12, 3) := dk_155 0 12 (dk_at dksX0_rotate_0 13 rfl rfl)
theorem dX0_rotate_16 : decode cX0_rotate 16 = .ok (.iload_n 3, 1) := dk_29 (dk_at dksX0_rotate_0 16 rfl rfl)
theorem dX0_rotate_17 : decode cX0_rotate 17 = .ok (.iconst 0, 1) := dk_3 (dk_at dksX0_rotate_0 17 rfl rfl)
theorem dX0_rotate_18 : decode cX0_rotate 18 = .ok (.iconst 1, 1) := dk_4 (dk_at dksX0_rotate_0 18 rfl rfl)
theorem dX0_rotate_19 : decode cX0_rotate 19 = .ok (.invokestatic 112, 3) := dk_184 0 112 (dk_at dksX0_rotate_0 19 rfl rfl)
theorem dX0_rotate_22 : decode cX0_rotate 22 = .ok (.ifCond .ne 5, 3) := dk_154 0 5 (dk_at dksX0_rotate_1 0 rfl rfl)
theorem dX0_rotate_25 : decode cX0_rotate 25 = .ok (.iconst (-1), 1) := dk_2 (dk_at dksX0_rotate_1 3 rfl rfl)
theorem dX0_rotate_26 : decode cX0_rotate 26 = .ok (.ireturn, 1) := dk_172 (dk_at dksX0_rotate_1 4 rfl rfl)
theorem dX0_rotate_27 : decode cX0_rotate 27 = .ok (.aload_n 0, 1) := dk_42 (dk_at dksX0_rotate_1 5 rfl rfl)
theorem dX0_rotate_28 : decode cX0_rotate 28 = .ok (.aload_n 0, 1) := dk_42 (dk_at dksX0_rotate_1 6 rfl rfl)
theorem dX0_rotate_29 : decode cX0_rotate 29 = .ok (.getfield 137, 3) := dk_180 0 137 (dk_at dksX0_rotate_1 7 rfl rfl)
theorem dX0_rotate_32 : decode cX0_rotate 32 = .ok (.iload_n 3, 1) := dk_29 (dk_at dksX0_rotate_1 10 rfl rfl)
theorem dX0_rotate_33 : decode cX0_rotate 33 = .ok (.invokevirtual 591, 3) := dk_182 2 79 (dk_at dksX0_rotate_1 11 rfl rfl)
theorem dX0_rotate_36 : decode cX0_rotate 36 = .ok (.iload_n 2, 1) := dk_28 (dk_at dksX0_rotate_1 14 rfl rfl)
theorem dX0_rotate_37 : decode cX0_rotate 37 = .ok (.aload_n 0, 1) := dk_42 (dk_at dksX0_rotate_1 15 rfl rfl)
theorem dX0_rotate_38 : decode cX0_rotate 38 = .ok (.getfield 584, 3) := dk_180 2 72 (dk_at dksX0_rotate_1 16 rfl rfl)
theorem dX0_rotate_41 : decode cX0_rotate 41 = .ok (.if_icmp .ge 12, 3) := dk_162 0 12 (dk_at dksX0_rotate_1 19 rfl rfl)
theorem dX0_rotate_44 : decode cX0_rotate 44 = .ok (.aload_n 0, 1) := dk_42 (dk_at dksX0_rotate_1 22 rfl rfl)
theorem dX0_rotate_45 : decode cX0_rotate 45 = .ok (.getfield 181, 3) := dk_180 0 181 (dk_at dksX0_rotate_2 0 rfl rfl)
theorem dX0_rotate_48 : decode cX0_rotate 48 = .ok (.iload_n 2, 1) := dk_28 (dk_at dksX0_rotate_2 3 rfl rfl)
theorem dX0_rotate_49 : decode cX0_rotate 49 = .ok (.iaload, 1) := dk_46 (dk_at dksX0_rotate_2 4 rfl rfl)
theorem dX0_rotate_50 : decode cX0_rotate 50 = .ok (.goto 5, 3) := dk_167 0 5 (dk_at dksX0_rotate_2 5 rfl rfl)
theorem dX0_rotate_53 : decode cX0_rotate 53 = .ok (.bipush (-3), 2) := dk_16 253 (dk_at dksX0_rotate_2 8 rfl rfl)
theorem dX0_rotate_55 : decode cX0_rotate 55 = .ok (.ireturn, 1) := dk_172 (dk_at dksX0_rotate_2 10 rfl rfl)
abbrev cX0_apart : ByteArray := prog_1_method_103_code
def yX0_apart : MethodName := ⟨RX0, "apart", "(II)I"⟩
def dkwX0_apart_9 : List UInt8 := [167, 255, 145, 132, 5, 1, 167, 255, 127, 42, 180, 0, 184, 29, 46, 172]
abbrev dktX0_apart_9 : List UInt8 := dkwX0_apart_9 ++ []
def dkwX0_apart_8 : List UInt8 := [4, 96, 79, 42, 180, 0, 190, 21, 4, 21, 8, 79, 132, 4, 1, 132, 7, 1, 167, 255, 185, 132, 6, 1]
abbrev dktX0_apart_8 : List UInt8 := dkwX0_apart_8 ++ dktX0_apart_9
def dkwX0_apart_7 : List UInt8 := [155, 0, 6, 167, 0, 36, 42, 180, 0, 184, 21, 8, 42, 180, 0, 184, 42, 180, 0, 190, 21, 5, 46, 46]
abbrev dktX0_apart_7 : List UInt8 := dkwX0_apart_7 ++ dktX0_apart_8
def dkwX0_apart_6 : List UInt8 := [162, 0, 68, 42, 42, 180, 0, 181, 21, 7, 46, 182, 2, 85, 54, 8, 42, 180, 0, 184, 21, 8, 46]
abbrev dktX0_apart_6 : List UInt8 := dkwX0_apart_6 ++ dktX0_apart_7
def dkwX0_apart_5 : List UInt8 := [182, 1, 56, 42, 42, 180, 0, 150, 21, 6, 182, 2, 79, 3, 54, 7, 21, 7, 42, 180, 2, 72]
abbrev dktX0_apart_5 : List UInt8 := dkwX0_apart_5 ++ dktX0_apart_6
def dkwX0_apart_4 : List UInt8 := [156, 0, 126, 3, 54, 6, 21, 6, 5, 162, 0, 111, 42, 42, 180, 0, 190, 21, 5, 46, 42, 180, 0, 150]
abbrev dktX0_apart_4 : List UInt8 := dkwX0_apart_4 ++ dktX0_apart_5
def dkwX0_apart_3 : List UInt8 := [180, 0, 184, 42, 180, 0, 190, 3, 46, 3, 79, 4, 54, 4, 3, 54, 5, 42, 180, 0, 184, 29, 46]
abbrev dktX0_apart_3 : List UInt8 := dkwX0_apart_3 ++ dktX0_apart_4
def dkwX0_apart_2 : List UInt8 := [182, 1, 50, 62, 42, 182, 2, 82, 42, 180, 0, 190, 3, 42, 42, 180, 0, 137, 182, 1, 50, 79, 42]
abbrev dktX0_apart_2 : List UInt8 := dkwX0_apart_2 ++ dktX0_apart_3
def dkwX0_apart_1 : List UInt8 := [172, 42, 42, 180, 0, 137, 4, 182, 2, 31, 42, 42, 180, 0, 141, 4, 182, 2, 31, 42, 42, 180, 0, 141]
abbrev dktX0_apart_1 : List UInt8 := dkwX0_apart_1 ++ dktX0_apart_2
def dkwX0_apart_0 : List UInt8 := [42, 27, 28, 182, 1, 28, 154, 0, 5, 2, 172, 42, 180, 0, 34, 180, 0, 38, 8, 164, 0, 6, 16, 252]
abbrev dktX0_apart_0 : List UInt8 := dkwX0_apart_0 ++ dktX0_apart_1
theorem dksX0_apart_0 : cX0_apart.data.toList.drop 0 = dktX0_apart_0 := by decide +kernel
theorem dksX0_apart_1 : cX0_apart.data.toList.drop 24 = dktX0_apart_1 := dk_seg dksX0_apart_0 24 rfl rfl
theorem dksX0_apart_2 : cX0_apart.data.toList.drop 48 = dktX0_apart_2 := dk_seg dksX0_apart_1 24 rfl rfl
theorem dksX0_apart_3 : cX0_apart.data.toList.drop 71 = dktX0_apart_3 := dk_seg dksX0_apart_2 23 rfl rfl
theorem dksX0_apart_4 : cX0_apart.data.toList.drop 94 = dktX0_apart_4 := dk_seg dksX0_apart_3 23 rfl rfl
theorem dksX0_apart_5 : cX0_apart.data.toList.drop 118 = dktX0_apart_5 := dk_seg dksX0_apart_4 24 rfl rfl
theorem dksX0_apart_6 : cX0_apart.data.toList.drop 140 = dktX0_apart_6 := dk_seg dksX0_apart_5 22 rfl rfl
theorem dksX0_apart_7 : cX0_apart.data.toList.drop 163 = dktX0_apart_7 := dk_seg dksX0_apart_6 23 rfl rfl
theorem dksX0_apart_8 : cX0_apart.data.toList.drop 187 = dktX0_apart_8 := dk_seg dksX0_apart_7 24 rfl rfl
theorem dksX0_apart_9 : cX0_apart.data.toList.drop 211 = dktX0_apart_9 := dk_seg dksX0_apart_8 24 rfl rfl
theorem dX0_apart_0 : decode cX0_apart 0 = .ok (.aload_n 0, 1) := dk_42 (dk_at dksX0_apart_0 0 rfl rfl)
theorem dX0_apart_1 : decode cX0_apart 1 = .ok (.iload_n 1, 1) := dk_27 (dk_at dksX0_apart_0 1 rfl rfl)
theorem dX0_apart_2 : decode cX0_apart 2 = .ok (.iload_n 2, 1) := dk_28 (dk_at dksX0_apart_0 2 rfl rfl)
theorem dX0_apart_3 : decode cX0_apart 3 = .ok (.invokevirtual 284, 3) := dk_182 1 28 (dk_at dksX0_apart_0 3 rfl rfl)
theorem dX0_apart_6 : decode cX0_apart 6 = .ok (.ifCond .ne 5, 3) := dk_154 0 5 (dk_at dksX0_apart_0 6 rfl rfl)
theorem dX0_apart_9 : decode cX0_apart 9 = .ok (.iconst (-1), 1) := dk_2 (dk_at dksX0_apart_0 9 rfl rfl)
theorem dX0_apart_10 : decode cX0_apart 10 = .ok (.ireturn, 1) := dk_172 (dk_at dksX0_apart_0 10 rfl rfl)
theorem dX0_apart_11 : decode cX0_apart 11 = .ok (.aload_n 0, 1) := dk_42 (dk_at dksX0_apart_0 11 rfl rfl)
theorem dX0_apart_12 : decode cX0_apart 12 = .ok (.getfield 34, 3) := dk_180 0 34 (dk_at dksX0_apart_0 12 rfl rfl)
theorem dX0_apart_15 : decode cX0_apart 15 = .ok (.getfield 38, 3) := dk_180 0 38 (dk_at dksX0_apart_0 15 rfl rfl)
theorem dX0_apart_18 : decode cX0_apart 18 = .ok (.iconst 5, 1) := dk_8 (dk_at dksX0_apart_0 18 rfl rfl)
theorem dX0_apart_19 : decode cX0_apart 19 = .ok (.if_icmp .le 6, 3) := dk_164 0 6 (dk_at dksX0_apart_0 19 rfl rfl)
theorem dX0_apart_22 : decode cX0_apart 22 = .ok (.bipush (-4), 2) := dk_16 252 (dk_at dksX0_apart_0 22 rfl rfl)
theorem dX0_apart_24 : decode cX0_apart 24 = .ok (.ireturn, 1) := dk_172 (dk_at dksX0_apart_1 0 rfl rfl)
theorem dX0_apart_25 : decode cX0_apart 25 = .ok (.aload_n 0, 1) := dk_42 (dk_at dksX0_apart_1 1 rfl rfl)
theorem dX0_apart_26 : decode cX0_apart 26 = .ok (.aload_n 0, 1) := dk_42 (dk_at dksX0_apart_1 2 rfl rfl)
theorem dX0_apart_27 : decode cX0_apart 27 = .ok (.getfield 137, 3) := dk_180 0 137 (dk_at dksX0_apart_1 3 rfl rfl)
theorem dX0_apart_30 : decode cX0_apart 30 = .ok (.iconst 1, 1) := dk_4 (dk_at dksX0_apart_1 6 rfl rfl)
theorem dX0_apart_31 : decode cX0_apart 31 = .ok (.invokevirtual 543, 3) := dk_182 2 31 (dk_at dksX0_apart_1 7 rfl rfl)
theorem dX0_apart_34 : decode cX0_apart 34 = .ok (.aload_n 0, 1) := dk_42 (dk_at dksX0_apart_1 10 rfl rfl)
theorem dX0_apart_35 : decode cX0_apart 35 = .ok (.aload_n 0, 1) := dk_42 (dk_at dksX0_apart_1 11 rfl rfl)
theorem dX0_apart_36 : decode cX0_apart 36 = .ok (.getfield 141, 3) := dk_180 0 141 (dk_at dksX0_apart_1 12 rfl rfl)
theorem dX0_apart_39 : decode cX0_apart 39 = .ok (.iconst 1, 1) := dk_4 (dk_at dksX0_apart_1 15 rfl rfl)
theorem dX0_apart_40 : decode cX0_apart 40 = .ok (.invokevirtual 543, 3) := dk_182 2 31 (dk_at dksX0_apart_1 16 rfl rfl)
theorem dX0_apart_43 : decode cX0_apart 43 = .ok (.aload_n 0, 1) := dk_42 (dk_at dksX0_apart_1 19 rfl rfl)
theorem dX0_apart_44 : decode cX0_apart 44 = .ok (.aload_n 0, 1) := dk_42 (dk_at dksX0_apart_1 20 rfl rfl)
theorem dX0_apart_45 : decode cX0_apart 45 = .ok (.getfield 141, 3) := dk_180 0 141 (dk_at dksX0_apart_1 21 rfl rfl)
theorem dX0_apart_48 : decode cX0_apart 48 = .ok (.invokevirtual 306, 3) := dk_182 1 50 (dk_at dksX0_apart_2 0 rfl rfl)
theorem dX0_apart_51 : decode cX0_apart 51 = .ok (.istore_n 3, 1) := dk_62 (dk_at dksX0_apart_2 3 rfl rfl)
theorem dX0_apart_52 : decode cX0_apart 52 = .ok (.aload_n 0, 1) := dk_42 (dk_at dksX0_apart_2 4 rfl rfl)
theorem dX0_apart_53 : decode cX0_apart 53 = .ok (.invokevirtual 594, 3) := dk_182 2 82 (dk_at dksX0_apart_2 5 rfl rfl)
theorem dX0_apart_56 : decode cX0_apart 56 = .ok (.aload_n 0, 1) := dk_42 (dk_at dksX0_apart_2 8 rfl rfl)
theorem dX0_apart_57 : decode cX0_apart 57 = .ok (.getfield 190, 3) := dk_180 0 190 (dk_at dksX0_apart_2 9 rfl rfl)
theorem dX0_apart_60 : decode cX0_apart 60 = .ok (.iconst 0, 1) := dk_3 (dk_at dksX0_apart_2 12 rfl rfl)
theorem dX0_apart_61 : decode cX0_apart 61 = .ok (.aload_n 0, 1) := dk_42 (dk_at dksX0_apart_2 13 rfl rfl)
theorem dX0_apart_62 : decode cX0_apart 62 = .ok (.aload_n 0, 1) := dk_42 (dk_at dksX0_apart_2 14 rfl rfl)
theorem dX0_apart_63 : decode cX0_apart 63 = .ok (.getfield 137, 3) := dk_180 0 137 (dk_at dksX0_apart_2 15 rfl rfl)
theorem dX0_apart_66 : decode cX0_apart 66 = .ok (.invokevirtual 306, 3) := dk_182 1 50 (dk_at dksX0_apart_2 18 rfl rfl)
theorem dX0_apart_69 : decode cX0_apart 69 = .ok (.iastore, 1) := dk_79 (dk_at dksX0_apart_2 21 rfl rfl)
theorem dX0_apart_70 : decode cX0_apart 70 = .ok (.aload_n 0, 1) := dk_42 (dk_at dksX0_apart_2 22 rfl rfl)
theorem dX0_apart_71 : decode cX0_apart 71 = .ok (.getfield 184, 3) := dk_180 0 184 (dk_at dksX0_apart_3 0 rfl rfl)
theorem dX0_apart_74 : decode cX0_apart 74 = .ok (.aload_n 0, 1) := dk_42 (dk_at dksX0_apart_3 3 rfl rfl)
theorem dX0_apart_75 : decode cX0_apart 75 = .ok (.getfield 190, 3) := dk_180 0 190 (dk_at dksX0_apart_3 4 rfl rfl)
theorem dX0_apart_78 : decode cX0_apart 78 = .ok (.iconst 0, 1) := dk_3 (dk_at dksX0_apart_3 7 rfl rfl)
theorem dX0_apart_79 : decode cX0_apart 79 = .ok (.iaload, 1) := dk_46 (dk_at dksX0_apart_3 8 rfl rfl)
theorem dX0_apart_80 : decode cX0_apart 80 = .ok (.iconst 0, 1) := dk_3 (dk_at dksX0_apart_3 9 rfl rfl)
theorem dX0_apart_81 : decode cX0_apart 81 = .ok (.iastore, 1) := dk_79 (dk_at dksX0_apart_3 10 rfl rfl)
theorem dX0_apart_82 : decode cX0_apart 82 = .ok (.iconst 1, 1) := dk_4 (dk_at dksX0_apart_3 11 rfl rfl)
theorem dX0_apart_83 : decode cX0_apart 83 = .ok (.istore 4, 2) := dk_54 4 (dk_at dksX0_apart_3 12 rfl rfl)
theorem dX0_apart_85 : decode cX0_apart 85 = .ok (.iconst 0, 1) := dk_3 (dk_at dksX0_apart_3 14 rfl rfl)
theorem dX0_apart_86 : decode cX0_apart 86 = .ok (.istore 5, 2) := dk_54 5 (dk_at dksX0_apart_3 15 rfl rfl)
theorem dX0_apart_88 : decode cX0_apart 88 = .ok (.aload_n 0, 1) := dk_42 (dk_at dksX0_apart_3 17 rfl rfl)
theorem dX0_apart_89 : decode cX0_apart 89 = .ok (.getfield 184, 3) := dk_180 0 184 (dk_at dksX0_apart_3 18 rfl rfl)
theorem dX0_apart_92 : decode cX0_apart 92 = .ok (.iload_n 3, 1) := dk_29 (dk_at dksX0_apart_3 21 rfl rfl)
theorem dX0_apart_93 : decode cX0_apart 93 = .ok (.iaload, 1) := dk_46 (dk_at dksX0_apart_3 22 rfl rfl)
theorem dX0_apart_94 : decode cX0_apart 94 = .ok (.ifCond .ge 126, 3) := dk_156 0 126 (dk_at dksX0_apart_4 0 rfl rfl)
theorem dX0_apart_97 : decode cX0_apart 97 = .ok (.iconst 0, 1) := dk_3 (dk_at dksX0_apart_4 3 rfl rfl)
theorem dX0_apart_98 : decode cX0_apart 98 = .ok (.istore 6, 2) := dk_54 6 (dk_at dksX0_apart_4 4 rfl rfl)
theorem dX0_apart_100 : decode cX0_apart 100 = .ok (.iload 6, 2) := dk_21 6 (dk_at dksX0_apart_4 6 rfl rfl)
theorem dX0_apart_102 : decode cX0_apart 102 = .ok (.iconst 2, 1) := dk_5 (dk_at dksX0_apart_4 8 rfl rfl)
theorem dX0_apart_103 : decode cX0_apart 103 = .ok (.if_icmp .ge 111, 3) := dk_162 0 111 (dk_at dksX0_apart_4 9 rfl rfl)
theorem dX0_apart_106 : decode cX0_apart 106 = .ok (.aload_n 0, 1) := dk_42 (dk_at dksX0_apart_4 12 rfl rfl)
theorem dX0_apart_107 : decode cX0_apart 107 = .ok (.aload_n 0, 1) := dk_42 (dk_at dksX0_apart_4 13 rfl rfl)
theorem dX0_apart_108 : decode cX0_apart 108 = .ok (.getfield 190, 3) := dk_180 0 190 (dk_at dksX0_apart_4 14 rfl rfl)
theorem dX0_apart_111 : decode cX0_apart 111 = .ok (.iload 5, 2) := dk_21 5 (dk_at dksX0_apart_4 17 rfl rfl)
theorem dX0_apart_113 : decode cX0_apart 113 = .ok (.iaload, 1) := dk_46 (dk_at dksX0_apart_4 19 rfl rfl)
theorem dX0_apart_114 : decode cX0_apart 114 = .ok (.aload_n 0, 1) := dk_42 (dk_at dksX0_apart_4 20 rfl rfl)
theorem dX0_apart_115 : decode cX0_apart 115 = .ok (.getfield 150, 3) := dk_180 0 150 (dk_at dksX0_apart_4 21 rfl rfl)
theorem dX0_apart_118 : decode cX0_apart 118 = .ok (.invokevirtual 312, 3) := dk_182 1 56 (dk_at dksX0_apart_5 0 rfl rfl)
theorem dX0_apart_121 : decode cX0_apart 121 = .ok (.aload_n 0, 1) := dk_42 (dk_at dksX0_apart_5 3 rfl rfl)
theorem dX0_apart_122 : decode cX0_apart 122 = .ok (.aload_n 0, 1) := dk_42 (dk_at dksX0_apart_5 4 rfl rfl)
theorem dX0_apart_123 : decode cX0_apart 123 = .ok (.getfield 150, 3) := dk_180 0 150 (dk_at dksX0_apart_5 5 rfl rfl)
theorem dX0_apart_126 : decode cX0_apart 126 = .ok (.iload 6, 2) := dk_21 6 (dk_at dksX0_apart_5 8 rfl rfl)
theorem dX0_apart_128 : decode cX0_apart 128 = .ok (.invokevirtual 591, 3) := dk_182 2 79 (dk_at dksX0_apart_5 10 rfl rfl)
theorem dX0_apart_131 : decode cX0_apart 131 = .ok (.iconst 0, 1) := dk_3 (dk_at dksX0_apart_5 13 rfl rfl)
theorem dX0_apart_132 : decode cX0_apart 132 = .ok (.istore 7, 2) := dk_54 7 (dk_at dksX0_apart_5 14 rfl rfl)
theorem dX0_apart_134 : decode cX0_apart 134 = .ok (.iload 7, 2) := dk_21 7 (dk_at dksX0_apart_5 16 rfl rfl)
theorem dX0_apart_136 : decode cX0_apart 136 = .ok (.aload_n 0, 1) := dk_42 (dk_at dksX0_apart_5 18 rfl rfl)
theorem dX0_apart_137 : decode cX0_apart 137 = .ok (.getfield 584, 3) := dk_180 2 72 (dk_at dksX0_apart_5 19 rfl rfl)
theorem dX0_apart_140 : decode cX0_apart 140 = .ok (.if_icmp .ge 68, 3) := dk_162 0 68 (dk_at dksX0_apart_6 0 rfl rfl)
theorem dX0_apart_143 : decode cX0_apart 143 = .ok (.aload_n 0, 1) := dk_42 (dk_at dksX0_apart_6 3 rfl rfl)
theorem dX0_apart_144 : decode cX0_apart 144 = .ok (.aload_n 0, 1) := dk_42 (dk_at dksX0_apart_6 4 rfl rfl)
theorem dX0_apart_145 : decode cX0_apart 145 = .ok (.getfield 181, 3) := dk_180 0 181 (dk_at dksX0_apart_6 5 rfl rfl)
theorem dX0_apart_148 : decode cX0_apart 148 = .ok (.iload 7, 2) := dk_21 7 (dk_at dksX0_apart_6 8 rfl rfl)
theorem dX0_apart_150 : decode cX0_apart 150 = .ok (.iaload, 1) := dk_46 (dk_at dksX0_apart_6 10 rfl rfl)
theorem dX0_apart_151 : decode cX0_apart 151 = .ok (.invokevirtual 597, 3) := dk_182 2 85 (dk_at dksX0_apart_6 11 rfl rfl)
theorem dX0_apart_154 : decode cX0_apart 154 = .ok (.istore 8, 2) := dk_54 8 (dk_at dksX0_apart_6 14 rfl rfl)
theorem dX0_apart_156 : decode cX0_apart 156 = .ok (.aload_n 0, 1) := dk_42 (dk_at dksX0_apart_6 16 rfl rfl)
theorem dX0_apart_157 : decode cX0_apart 157 = .ok (.getfield 184, 3) := dk_180 0 184 (dk_at dksX0_apart_6 17 rfl rfl)
theorem dX0_apart_160 : decode cX0_apart 160 = .ok (.iload 8, 2) := dk_21 8 (dk_at dksX0_apart_6 20 rfl rfl)
theorem dX0_apart_162 : decode cX0_apart 162 = .ok (.iaload, 1) := dk_46 (dk_at dksX0_apart_6 22 rfl rfl)
theorem dX0_apart_163 : decode cX0_apart 163 = .ok (.ifCond .lt 6, 3) := dk_155 0 6 (dk_at dksX0_apart_7 0 rfl rfl)
theorem dX0_apart_166 : decode cX0_apart 166 = .ok (.goto 36, 3) := dk_167 0 36 (dk_at dksX0_apart_7 3 rfl rfl)
theorem dX0_apart_169 : decode cX0_apart 169 = .ok (.aload_n 0, 1) := dk_42 (dk_at dksX0_apart_7 6 rfl rfl)
theorem dX0_apart_170 : decode cX0_apart 170 = .ok (.getfield 184, 3) := dk_180 0 184 (dk_at dksX0_apart_7 7 rfl rfl)
theorem dX0_apart_173 : decode cX0_apart 173 = .ok (.iload 8, 2) := dk_21 8 (dk_at dksX0_apart_7 10 rfl rfl)
theorem dX0_apart_175 : decode cX0_apart 175 = .ok (.aload_n 0, 1) := dk_42 (dk_at dksX0_apart_7 12 rfl rfl)
theorem dX0_apart_176 : decode cX0_apart 176 = .ok (.getfield 184, 3) := dk_180 0 184 (dk_at dksX0_apart_7 13 rfl rfl)
theorem dX0_apart_179 : decode cX0_apart 179 = .ok (.aload_n 0, 1) := dk_42 (dk_at dksX0_apart_7 16 rfl rfl)
theorem dX0_apart_180 : decode cX0_apart 180 = .ok (.getfield 190, 3) := dk_180 0 190 (dk_at dksX0_apart_7 17 rfl rfl)
theorem dX0_apart_183 : decode cX0_apart 183 = .ok (.iload 5, 2) := dk_21 5 (dk_at dksX0_apart_7 20 rfl rfl)
theorem dX0_apart_185 : decode cX0_apart 185 = .ok (.iaload, 1) := dk_46 (dk_at dksX0_apart_7 22 rfl rfl)
theorem dX0_apart_186 : decode cX0_apart 186 = .ok (.iaload, 1) := dk_46 (dk_at dksX0_apart_7 23 rfl rfl)
theorem dX0_apart_187 : decode cX0_apart 187 = .ok (.iconst 1, 1) := dk_4 (dk_at dksX0_apart_8 0 rfl rfl)
theorem dX0_apart_188 : decode cX0_apart 188 = .ok (.iadd, 1) := dk_96 (dk_at dksX0_apart_8 1 rfl rfl)
theorem dX0_apart_189 : decode cX0_apart 189 = .ok (.iastore, 1) := dk_79 (dk_at dksX0_apart_8 2 rfl rfl)
theorem dX0_apart_190 : decode cX0_apart 190 = .ok (.aload_n 0, 1) := dk_42 (dk_at dksX0_apart_8 3 rfl rfl)
theorem dX0_apart_191 : decode cX0_apart 191 = .ok (.getfield 190, 3) := dk_180 0 190 (dk_at dksX0_apart_8 4 rfl rfl)
theorem dX0_apart_194 : decode cX0_apart 194 = .ok (.iload 4, 2) := dk_21 4 (dk_at dksX0_apart_8 7 rfl rfl)
theorem dX0_apart_196 : decode cX0_apart 196 = .ok (.iload 8, 2) := dk_21 8 (dk_at dksX0_apart_8 9 rfl rfl)
theorem dX0_apart_198 : decode cX0_apart 198 = .ok (.iastore, 1) := dk_79 (dk_at dksX0_apart_8 11 rfl rfl)
theorem dX0_apart_199 : decode cX0_apart 199 = .ok (.iinc 4 1, 3) := dk_132 4 1 (dk_at dksX0_apart_8 12 rfl rfl)
theorem dX0_apart_202 : decode cX0_apart 202 = .ok (.iinc 7 1, 3) := dk_132 7 1 (dk_at dksX0_apart_8 15 rfl rfl)
theorem dX0_apart_205 : decode cX0_apart 205 = .ok (.goto (-71), 3) := dk_167 255 185 (dk_at dksX0_apart_8 18 rfl rfl)
theorem dX0_apart_208 : decode cX0_apart 208 = .ok (.iinc 6 1, 3) := dk_132 6 1 (dk_at dksX0_apart_8 21 rfl rfl)
theorem dX0_apart_211 : decode cX0_apart 211 = .ok (.goto (-111), 3) := dk_167 255 145 (dk_at dksX0_apart_9 0 rfl rfl)
theorem dX0_apart_214 : decode cX0_apart 214 = .ok (.iinc 5 1, 3) := dk_132 5 1 (dk_at dksX0_apart_9 3 rfl rfl)
theorem dX0_apart_217 : decode cX0_apart 217 = .ok (.goto (-129), 3) := dk_167 255 127 (dk_at dksX0_apart_9 6 rfl rfl)
theorem dX0_apart_220 : decode cX0_apart 220 = .ok (.aload_n 0, 1) := dk_42 (dk_at dksX0_apart_9 9 rfl rfl)
theorem dX0_apart_221 : decode cX0_apart 221 = .ok (.getfield 184, 3) := dk_180 0 184 (dk_at dksX0_apart_9 10 rfl rfl)
theorem dX0_apart_224 : decode cX0_apart 224 = .ok (.iload_n 3, 1) := dk_29 (dk_at dksX0_apart_9 13 rfl rfl)
theorem dX0_apart_225 : decode cX0_apart 225 = .ok (.iaload, 1) := dk_46 (dk_at dksX0_apart_9 14 rfl rfl)
theorem dX0_apart_226 : decode cX0_apart 226 = .ok (.ireturn, 1) := dk_172 (dk_at dksX0_apart_9 15 rfl rfl)
abbrev cX0_clearFar : ByteArray := prog_1_method_101_code
def yX0_clearFar : MethodName := ⟨RX0, "clearFar", "()V"⟩
def dkwX0_clearFar_1 : List UInt8 := [132, 1, 1, 167, 255, 233, 177]
abbrev dktX0_clearFar_1 : List UInt8 := dkwX0_clearFar_1 ++ []
def dkwX0_clearFar_0 : List UInt8 := [3, 60, 27, 16, 120, 162, 0, 23, 42, 180, 0, 184, 27, 2, 79, 42, 180, 0, 187, 27, 2, 79]
abbrev dktX0_clearFar_0 : List UInt8 := dkwX0_clearFar_0 ++ dktX0_clearFar_1
theorem dksX0_clearFar_0 : cX0_clearFar.data.toList.drop 0 = dktX0_clearFar_0 := by decide +kernel
theorem dksX0_clearFar_1 : cX0_clearFar.data.toList.drop 22 = dktX0_clearFar_1 := dk_seg dksX0_clearFar_0 22 rfl rfl
theorem dX0_clearFar_0 : decode cX0_clearFar 0 = .ok (.iconst 0, 1) := dk_3 (dk_at dksX0_clearFar_0 0 rfl rfl)
theorem dX0_clearFar_1 : decode cX0_clearFar 1 = .ok (.istore_n 1, 1) := dk_60 (dk_at dksX0_clearFar_0 1 rfl rfl)
theorem dX0_clearFar_2 : decode cX0_clearFar 2 = .ok (.iload_n 1, 1) := dk_27 (dk_at dksX0_clearFar_0 2 rfl rfl)
theorem dX0_clearFar_3 : decode cX0_clearFar 3 = .ok (.bipush 120, 2) := dk_16 120 (dk_at dksX0_clearFar_0 3 rfl rfl)
theorem dX0_clearFar_5 : decode cX0_clearFar 5 = .ok (.if_icmp .ge 23, 3) := dk_162 0 23 (dk_at dksX0_clearFar_0 5 rfl rfl)
theorem dX0_clearFar_8 : decode cX0_clearFar 8 = .ok (.aload_n 0, 1) := dk_42 (dk_at dksX0_clearFar_0 8 rfl rfl)
theorem dX0_clearFar_9 : decode cX0_clearFar 9 = .ok (.getfield 184, 3) := dk_180 0 184 (dk_at dksX0_clearFar_0 9 rfl rfl)
theorem dX0_clearFar_12 : decode cX0_clearFar 12 = .ok (.iload_n 1, 1) := dk_27 (dk_at dksX0_clearFar_0 12 rfl rfl)
theorem dX0_clearFar_13 : decode cX0_clearFar 13 = .ok (.iconst (-1), 1) := dk_2 (dk_at dksX0_clearFar_0 13 rfl rfl)
theorem dX0_clearFar_14 : decode cX0_clearFar 14 = .ok (.iastore, 1) := dk_79 (dk_at dksX0_clearFar_0 14 rfl rfl)
theorem dX0_clearFar_15 : decode cX0_clearFar 15 = .ok (.aload_n 0, 1) := dk_42 (dk_at dksX0_clearFar_0 15 rfl rfl)
theorem dX0_clearFar_16 : decode cX0_clearFar 16 = .ok (.getfield 187, 3) := dk_180 0 187 (dk_at dksX0_clearFar_0 16 rfl rfl)
theorem dX0_clearFar_19 : decode cX0_clearFar 19 = .ok (.iload_n 1, 1) := dk_27 (dk_at dksX0_clearFar_0 19 rfl rfl)
theorem dX0_clearFar_20 : decode cX0_clearFar 20 = .ok (.iconst (-1), 1) := dk_2 (dk_at dksX0_clearFar_0 20 rfl rfl)
theorem dX0_clearFar_21 : decode cX0_clearFar 21 = .ok (.iastore, 1) := dk_79 (dk_at dksX0_clearFar_0 21 rfl rfl)
theorem dX0_clearFar_22 : decode cX0_clearFar 22 = .ok (.iinc 1 1, 3) := dk_132 1 1 (dk_at dksX0_clearFar_1 0 rfl rfl)
theorem dX0_clearFar_25 : decode cX0_clearFar 25 = .ok (.goto (-23), 3) := dk_167 255 233 (dk_at dksX0_clearFar_1 3 rfl rfl)
theorem dX0_clearFar_28 : decode cX0_clearFar 28 = .ok (.return_, 1) := dk_177 (dk_at dksX0_clearFar_1 6 rfl rfl)
abbrev cX0_rankOfTold : ByteArray := prog_1_method_102_code
def yX0_rankOfTold : MethodName := ⟨RX0, "rankOfTold", "(I)I"⟩
def dkwX0_rankOfTold_1 : List UInt8 := [172]
abbrev dktX0_rankOfTold_1 : List UInt8 := dkwX0_rankOfTold_1 ++ []
def dkwX0_rankOfTold_0 : List UInt8 := [42, 27, 42, 180, 0, 153, 182, 0, 236, 153, 0, 14, 42, 42, 180, 0, 153, 182, 1, 50, 167, 0, 4, 2]
abbrev dktX0_rankOfTold_0 : List UInt8 := dkwX0_rankOfTold_0 ++ dktX0_rankOfTold_1
theorem dksX0_rankOfTold_0 : cX0_rankOfTold.data.toList.drop 0 = dktX0_rankOfTold_0 := by decide +kernel
theorem dksX0_rankOfTold_1 : cX0_rankOfTold.data.toList.drop 24 = dktX0_rankOfTold_1 := dk_seg dksX0_rankOfTold_0 24 rfl rfl
theorem dX0_rankOfTold_0 : decode cX0_rankOfTold 0 = .ok (.aload_n 0, 1) := dk_42 (dk_at dksX0_rankOfTold_0 0 rfl rfl)
theorem dX0_rankOfTold_1 : decode cX0_rankOfTold 1 = .ok (.iload_n 1, 1) := dk_27 (dk_at dksX0_rankOfTold_0 1 rfl rfl)
theorem dX0_rankOfTold_2 : decode cX0_rankOfTold 2 = .ok (.aload_n 0, 1) := dk_42 (dk_at dksX0_rankOfTold_0 2 rfl rfl)
theorem dX0_rankOfTold_3 : decode cX0_rankOfTold 3 = .ok (.getfield 153, 3) := dk_180 0 153 (dk_at dksX0_rankOfTold_0 3 rfl rfl)
theorem dX0_rankOfTold_6 : decode cX0_rankOfTold 6 = .ok (.invokevirtual 236, 3) := dk_182 0 236 (dk_at dksX0_rankOfTold_0 6 rfl rfl)
theorem dX0_rankOfTold_9 : decode cX0_rankOfTold 9 = .ok (.ifCond .eq 14, 3) := dk_153 0 14 (dk_at dksX0_rankOfTold_0 9 rfl rfl)
theorem dX0_rankOfTold_12 : decode cX0_rankOfTold 12 = .ok (.aload_n 0, 1) := dk_42 (dk_at dksX0_rankOfTold_0 12 rfl rfl)
theorem dX0_rankOfTold_13 : decode cX0_rankOfTold 13 = .ok (.aload_n 0, 1) := dk_42 (dk_at dksX0_rankOfTold_0 13 rfl rfl)
theorem dX0_rankOfTold_14 : decode cX0_rankOfTold 14 = .ok (.getfield 153, 3) := dk_180 0 153 (dk_at dksX0_rankOfTold_0 14 rfl rfl)
theorem dX0_rankOfTold_17 : decode cX0_rankOfTold 17 = .ok (.invokevirtual 306, 3) := dk_182 1 50 (dk_at dksX0_rankOfTold_0 17 rfl rfl)
theorem dX0_rankOfTold_20 : decode cX0_rankOfTold 20 = .ok (.goto 4, 3) := dk_167 0 4 (dk_at dksX0_rankOfTold_0 20 rfl rfl)
theorem dX0_rankOfTold_23 : decode cX0_rankOfTold 23 = .ok (.iconst (-1), 1) := dk_2 (dk_at dksX0_rankOfTold_0 23 rfl rfl)
theorem dX0_rankOfTold_24 : decode cX0_rankOfTold 24 = .ok (.ireturn, 1) := dk_172 (dk_at dksX0_rankOfTold_1 0 rfl rfl)
abbrev cX0_wayUp : ByteArray := prog_1_method_106_code
def yX0_wayUp : MethodName := ⟨RX0, "wayUp", "(I)I"⟩
def dkwX0_wayUp_3 : List UInt8 := [28, 46, 167, 0, 9, 42, 180, 0, 187, 28, 46, 172]
abbrev dktX0_wayUp_3 : List UInt8 := dkwX0_wayUp_3 ++ []
def dkwX0_wayUp_2 : List UInt8 := [180, 0, 137, 4, 182, 2, 31, 42, 42, 180, 0, 137, 182, 1, 50, 61, 27, 154, 0, 12, 42, 180, 0, 184]
abbrev dktX0_wayUp_2 : List UInt8 := dkwX0_wayUp_2 ++ dktX0_wayUp_3
def dkwX0_wayUp_1 : List UInt8 := [172, 42, 182, 2, 92, 42, 42, 180, 0, 137, 182, 1, 90, 42, 42, 180, 0, 137, 3, 182, 0, 254, 42, 42]
abbrev dktX0_wayUp_1 : List UInt8 := dkwX0_wayUp_1 ++ dktX0_wayUp_2
def dkwX0_wayUp_0 : List UInt8 := [27, 3, 4, 184, 0, 112, 154, 0, 5, 2, 172, 42, 180, 0, 34, 180, 0, 38, 8, 164, 0, 6, 16, 252]
abbrev dktX0_wayUp_0 : List UInt8 := dkwX0_wayUp_0 ++ dktX0_wayUp_1
theorem dksX0_wayUp_0 : cX0_wayUp.data.toList.drop 0 = dktX0_wayUp_0 := by decide +kernel
theorem dksX0_wayUp_1 : cX0_wayUp.data.toList.drop 24 = dktX0_wayUp_1 := dk_seg dksX0_wayUp_0 24 rfl rfl
theorem dksX0_wayUp_2 : cX0_wayUp.data.toList.drop 48 = dktX0_wayUp_2 := dk_seg dksX0_wayUp_1 24 rfl rfl
theorem dksX0_wayUp_3 : cX0_wayUp.data.toList.drop 72 = dktX0_wayUp_3 := dk_seg dksX0_wayUp_2 24 rfl rfl
theorem dX0_wayUp_0 : decode cX0_wayUp 0 = .ok (.iload_n 1, 1) := dk_27 (dk_at dksX0_wayUp_0 0 rfl rfl)
theorem dX0_wayUp_1 : decode cX0_wayUp 1 = .ok (.iconst 0, 1) := dk_3 (dk_at dksX0_wayUp_0 1 rfl rfl)
theorem dX0_wayUp_2 : decode cX0_wayUp 2 = .ok (.iconst 1, 1) := dk_4 (dk_at dksX0_wayUp_0 2 rfl rfl)
theorem dX0_wayUp_3 : decode cX0_wayUp 3 = .ok (.invokestatic 112, 3) := dk_184 0 112 (dk_at dksX0_wayUp_0 3 rfl rfl)
theorem dX0_wayUp_6 : decode cX0_wayUp 6 = .ok (.ifCond .ne 5, 3) := dk_154 0 5 (dk_at dksX0_wayUp_0 6 rfl rfl)
theorem dX0_wayUp_9 : decode cX0_wayUp 9 = .ok (.iconst (-1), 1) := dk_2 (dk_at dksX0_wayUp_0 9 rfl rfl)
theorem dX0_wayUp_10 : decode cX0_wayUp 10 = .ok (.ireturn, 1) := dk_172 (dk_at dksX0_wayUp_0 10 rfl rfl)
theorem dX0_wayUp_11 : decode cX0_wayUp 11 = .ok (.aload_n 0, 1) := dk_42 (dk_at dksX0_wayUp_0 11 rfl rfl)
theorem dX0_wayUp_12 : decode cX0_wayUp 12 = .ok (.getfield 34, 3) := dk_180 0 34 (dk_at dksX0_wayUp_0 12 rfl rfl)
theorem dX0_wayUp_15 : decode cX0_wayUp 15 = .ok (.getfield 38, 3) := dk_180 0 38 (dk_at dksX0_wayUp_0 15 rfl rfl)
theorem dX0_wayUp_18 : decode cX0_wayUp 18 = .ok (.iconst 5, 1) := dk_8 (dk_at dksX0_wayUp_0 18 rfl rfl)
theorem dX0_wayUp_19 : decode cX0_wayUp 19 = .ok (.if_icmp .le 6, 3) := dk_164 0 6 (dk_at dksX0_wayUp_0 19 rfl rfl)
theorem dX0_wayUp_22 : decode cX0_wayUp 22 = .ok (.bipush (-4), 2) := dk_16 252 (dk_at dksX0_wayUp_0 22 rfl rfl)
theorem dX0_wayUp_24 : decode cX0_wayUp 24 = .ok (.ireturn, 1) := dk_172 (dk_at dksX0_wayUp_1 0 rfl rfl)
theorem dX0_wayUp_25 : decode cX0_wayUp 25 = .ok (.aload_n 0, 1) := dk_42 (dk_at dksX0_wayUp_1 1 rfl rfl)
theorem dX0_wayUp_26 : decode cX0_wayUp 26 = .ok (.invokevirtual 604, 3) := dk_182 2 92 (dk_at dksX0_wayUp_1 2 rfl rfl)
theorem dX0_wayUp_29 : decode cX0_wayUp 29 = .ok (.aload_n 0, 1) := dk_42 (dk_at dksX0_wayUp_1 5 rfl rfl)
theorem dX0_wayUp_30 : decode cX0_wayUp 30 = .ok (.aload_n 0, 1) := dk_42 (dk_at dksX0_wayUp_1 6 rfl rfl)
theorem dX0_wayUp_31 : decode cX0_wayUp 31 = .ok (.getfield 137, 3) := dk_180 0 137 (dk_at dksX0_wayUp_1 7 rfl rfl)
theorem dX0_wayUp_34 : decode cX0_wayUp 34 = .ok (.invokevirtual 346, 3) := dk_182 1 90 (dk_at dksX0_wayUp_1 10 rfl rfl)
theorem dX0_wayUp_37 : decode cX0_wayUp 37 = .ok (.aload_n 0, 1) := dk_42 (dk_at dksX0_wayUp_1 13 rfl rfl)
theorem dX0_wayUp_38 : decode cX0_wayUp 38 = .ok (.aload_n 0, 1) := dk_42 (dk_at dksX0_wayUp_1 14 rfl rfl)
theorem dX0_wayUp_39 : decode cX0_wayUp 39 = .ok (.getfield 137, 3) := dk_180 0 137 (dk_at dksX0_wayUp_1 15 rfl rfl)
theorem dX0_wayUp_42 : decode cX0_wayUp 42 = .ok (.iconst 0, 1) := dk_3 (dk_at dksX0_wayUp_1 18 rfl rfl)
theorem dX0_wayUp_43 : decode cX0_wayUp 43 = .ok (.invokevirtual 254, 3) := dk_182 0 254 (dk_at dksX0_wayUp_1 19 rfl rfl)
theorem dX0_wayUp_46 : decode cX0_wayUp 46 = .ok (.aload_n 0, 1) := dk_42 (dk_at dksX0_wayUp_1 22 rfl rfl)
theorem dX0_wayUp_47 : decode cX0_wayUp 47 = .ok (.aload_n 0, 1) := dk_42 (dk_at dksX0_wayUp_1 23 rfl rfl)
theorem dX0_wayUp_48 : decode cX0_wayUp 48 = .ok (.getfield 137, 3) := dk_180 0 137 (dk_at dksX0_wayUp_2 0 rfl rfl)
theorem dX0_wayUp_51 : decode cX0_wayUp 51 = .ok (.iconst 1, 1) := dk_4 (dk_at dksX0_wayUp_2 3 rfl rfl)
theorem dX0_wayUp_52 : decode cX0_wayUp 52 = .ok (.invokevirtual 543, 3) := dk_182 2 31 (dk_at dksX0_wayUp_2 4 rfl rfl)
theorem dX0_wayUp_55 : decode cX0_wayUp 55 = .ok (.aload_n 0, 1) := dk_42 (dk_at dksX0_wayUp_2 7 rfl rfl)
theorem dX0_wayUp_56 : decode cX0_wayUp 56 = .ok (.aload_n 0, 1) := dk_42 (dk_at dksX0_wayUp_2 8 rfl rfl)
theorem dX0_wayUp_57 : decode cX0_wayUp 57 = .ok (.getfield 137, 3) := dk_180 0 137 (dk_at dksX0_wayUp_2 9 rfl rfl)
theorem dX0_wayUp_60 : decode cX0_wayUp 60 = .ok (.invokevirtual 306, 3) := dk_182 1 50 (dk_at dksX0_wayUp_2 12 rfl rfl)
theorem dX0_wayUp_63 : decode cX0_wayUp 63 = .ok (.istore_n 2, 1) := dk_61 (dk_at dksX0_wayUp_2 15 rfl rfl)
theorem dX0_wayUp_64 : decode cX0_wayUp 64 = .ok (.iload_n 1, 1) := dk_27 (dk_at dksX0_wayUp_2 16 rfl rfl)
theorem dX0_wayUp_65 : decode cX0_wayUp 65 = .ok (.ifCond .ne 12, 3) := dk_154 0 12 (dk_at dksX0_wayUp_2 17 rfl rfl)
theorem dX0_wayUp_68 : decode cX0_wayUp 68 = .ok (.aload_n 0, 1) := dk_42 (dk_at dksX0_wayUp_2 20 rfl rfl)
theorem dX0_wayUp_69 : decode cX0_wayUp 69 = .ok (.getfield 184, 3) := dk_180 0 184 (dk_at dksX0_wayUp_2 21 rfl rfl)
theorem dX0_wayUp_72 : decode cX0_wayUp 72 = .ok (.iload_n 2, 1) := dk_28 (dk_at dksX0_wayUp_3 0 rfl rfl)
theorem dX0_wayUp_73 : decode cX0_wayUp 73 = .ok (.iaload, 1) := dk_46 (dk_at dksX0_wayUp_3 1 rfl rfl)
theorem dX0_wayUp_74 : decode cX0_wayUp 74 = .ok (.goto 9, 3) := dk_167 0 9 (dk_at dksX0_wayUp_3 2 rfl rfl)
theorem dX0_wayUp_77 : decode cX0_wayUp 77 = .ok (.aload_n 0, 1) := dk_42 (dk_at dksX0_wayUp_3 5 rfl rfl)
theorem dX0_wayUp_78 : decode cX0_wayUp 78 = .ok (.getfield 187, 3) := dk_180 0 187 (dk_at dksX0_wayUp_3 6 rfl rfl)
theorem dX0_wayUp_81 : decode cX0_wayUp 81 = .ok (.iload_n 2, 1) := dk_28 (dk_at dksX0_wayUp_3 9 rfl rfl)
theorem dX0_wayUp_82 : decode cX0_wayUp 82 = .ok (.iaload, 1) := dk_46 (dk_at dksX0_wayUp_3 10 rfl rfl)
theorem dX0_wayUp_83 : decode cX0_wayUp 83 = .ok (.ireturn, 1) := dk_172 (dk_at dksX0_wayUp_3 11 rfl rfl)
abbrev cX0_findWays : ByteArray := prog_1_method_105_code
def yX0_findWays : MethodName := ⟨RX0, "findWays", "()V"⟩
def dkwX0_findWays_4 : List UInt8 := [42, 21, 4, 182, 2, 89, 132, 4, 1, 167, 255, 206, 132, 3, 1, 167, 255, 192, 177]
abbrev dktX0_findWays_4 : List UInt8 := dkwX0_findWays_4 ++ []
def dkwX0_findWays_3 : List UInt8 := [180, 0, 184, 21, 4, 46, 155, 0, 24, 42, 42, 180, 0, 137, 182, 1, 10, 184, 0, 232, 29, 160, 0, 9]
abbrev dktX0_findWays_3 : List UInt8 := dkwX0_findWays_3 ++ dktX0_findWays_4
def dkwX0_findWays_2 : List UInt8 := [162, 0, 65, 3, 54, 4, 21, 4, 27, 162, 0, 50, 42, 21, 4, 42, 180, 0, 137, 182, 1, 56, 42]
abbrev dktX0_findWays_2 : List UInt8 := dkwX0_findWays_2 ++ dktX0_findWays_3
def dkwX0_findWays_1 : List UInt8 := [180, 0, 34, 180, 0, 38, 42, 180, 0, 34, 180, 0, 38, 4, 100, 104, 5, 108, 61, 3, 62, 29, 28]
abbrev dktX0_findWays_1 : List UInt8 := dkwX0_findWays_1 ++ dktX0_findWays_2
def dkwX0_findWays_0 : List UInt8 := [42, 182, 2, 82, 42, 180, 0, 184, 3, 3, 79, 42, 180, 0, 187, 3, 3, 79, 42, 182, 1, 2, 60, 42]
abbrev dktX0_findWays_0 : List UInt8 := dkwX0_findWays_0 ++ dktX0_findWays_1
theorem dksX0_findWays_0 : cX0_findWays.data.toList.drop 0 = dktX0_findWays_0 := by decide +kernel
theorem dksX0_findWays_1 : cX0_findWays.data.toList.drop 24 = dktX0_findWays_1 := dk_seg dksX0_findWays_0 24 rfl rfl
theorem dksX0_findWays_2 : cX0_findWays.data.toList.drop 47 = dktX0_findWays_2 := dk_seg dksX0_findWays_1 23 rfl rfl
theorem dksX0_findWays_3 : cX0_findWays.data.toList.drop 70 = dktX0_findWays_3 := dk_seg dksX0_findWays_2 23 rfl rfl
theorem dksX0_findWays_4 : cX0_findWays.data.toList.drop 94 = dktX0_findWays_4 := dk_seg dksX0_findWays_3 24 rfl rfl
theorem dX0_findWays_0 : decode cX0_findWays 0 = .ok (.aload_n 0, 1) := dk_42 (dk_at dksX0_findWays_0 0 rfl rfl)
theorem dX0_findWays_1 : decode cX0_findWays 1 = .ok (.invokevirtual 594, 3) := dk_182 2 82 (dk_at dksX0_findWays_0 1 rfl rfl)
theorem dX0_findWays_4 : decode cX0_findWays 4 = .ok (.aload_n 0, 1) := dk_42 (dk_at dksX0_findWays_0 4 rfl rfl)
theorem dX0_findWays_5 : decode cX0_findWays 5 = .ok (.getfield 184, 3) := dk_180 0 184 (dk_at dksX0_findWays_0 5 rfl rfl)
theorem dX0_findWays_8 : decode cX0_findWays 8 = .ok (.iconst 0, 1) := dk_3 (dk_at dksX0_findWays_0 8 rfl rfl)
theorem dX0_findWays_9 : decode cX0_findWays 9 = .ok (.iconst 0, 1) := dk_3 (dk_at dksX0_findWays_0 9 rfl rfl)
theorem dX0_findWays_10 : decode cX0_findWays 10 = .ok (.iastore, 1) := dk_79 (dk_at dksX0_findWays_0 10 rfl rfl)
theorem dX0_findWays_11 : decode cX0_findWays 11 = .ok (.aload_n 0, 1) := dk_42 (dk_at dksX0_findWays_0 11 rfl rfl)
theorem dX0_findWays_12 : decode cX0_findWays 12 = .ok (.getfield 187, 3) := dk_180 0 187 (dk_at dksX0_findWays_0 12 rfl rfl)
theorem dX0_findWays_15 : decode cX0_findWays 15 = .ok (.iconst 0, 1) := dk_3 (dk_at dksX0_findWays_0 15 rfl rfl)
theorem dX0_findWays_16 : decode cX0_findWays 16 = .ok (.iconst 0, 1) := dk_3 (dk_at dksX0_findWays_0 16 rfl rfl)
theorem dX0_findWays_17 : decode cX0_findWays 17 = .ok (.iastore, 1) := dk_79 (dk_at dksX0_findWays_0 17 rfl rfl)
theorem dX0_findWays_18 : decode cX0_findWays 18 = .ok (.aload_n 0, 1) := dk_42 (dk_at dksX0_findWays_0 18 rfl rfl)
theorem dX0_findWays_19 : decode cX0_findWays 19 = .ok (.invokevirtual 258, 3) := dk_182 1 2 (dk_at dksX0_findWays_0 19 rfl rfl)
theorem dX0_findWays_22 : decode cX0_findWays 22 = .ok (.istore_n 1, 1) := dk_60 (dk_at dksX0_findWays_0 22 rfl rfl)
theorem dX0_findWays_23 : decode cX0_findWays 23 = .ok (.aload_n 0, 1) := dk_42 (dk_at dksX0_findWays_0 23 rfl rfl)
theorem dX0_findWays_24 : decode cX0_findWays 24 = .ok (.getfield 34, 3) := dk_180 0 34 (dk_at dksX0_findWays_1 0 rfl rfl)
theorem dX0_findWays_27 : decode cX0_findWays 27 = .ok (.getfield 38, 3) := dk_180 0 38 (dk_at dksX0_findWays_1 3 rfl rfl)
theorem dX0_findWays_30 : decode cX0_findWays 30 = .ok (.aload_n 0, 1) := dk_42 (dk_at dksX0_findWays_1 6 rfl rfl)
theorem dX0_findWays_31 : decode cX0_findWays 31 = .ok (.getfield 34, 3) := dk_180 0 34 (dk_at dksX0_findWays_1 7 rfl rfl)
theorem dX0_findWays_34 : decode cX0_findWays 34 = .ok (.getfield 38, 3) := dk_180 0 38 (dk_at dksX0_findWays_1 10 rfl rfl)
theorem dX0_findWays_37 : decode cX0_findWays 37 = .ok (.iconst 1, 1) := dk_4 (dk_at dksX0_findWays_1 13 rfl rfl)
theorem dX0_findWays_38 : decode cX0_findWays 38 = .ok (.isub, 1) := dk_100 (dk_at dksX0_findWays_1 14 rfl rfl)
theorem dX0_findWays_39 : decode cX0_findWays 39 = .ok (.imul, 1) := dk_104 (dk_at dksX0_findWays_1 15 rfl rfl)
theorem dX0_findWays_40 : decode cX0_findWays 40 = .ok (.iconst 2, 1) := dk_5 (dk_at dksX0_findWays_1 16 rfl rfl)
theorem dX0_findWays_41 : decode cX0_findWays 41 = .ok (.idiv, 1) := dk_108 (dk_at dksX0_findWays_1 17 rfl rfl)
theorem dX0_findWays_42 : decode cX0_findWays 42 = .ok (.istore_n 2, 1) := dk_61 (dk_at dksX0_findWays_1 18 rfl rfl)
theorem dX0_findWays_43 : decode cX0_findWays 43 = .ok (.iconst 0, 1) := dk_3 (dk_at dksX0_findWays_1 19 rfl rfl)
theorem dX0_findWays_44 : decode cX0_findWays 44 = .ok (.istore_n 3, 1) := dk_62 (dk_at dksX0_findWays_1 20 rfl rfl)
theorem dX0_findWays_45 : decode cX0_findWays 45 = .ok (.iload_n 3, 1) := dk_29 (dk_at dksX0_findWays_1 21 rfl rfl)
theorem dX0_findWays_46 : decode cX0_findWays 46 = .ok (.iload_n 2, 1) := dk_28 (dk_at dksX0_findWays_1 22 rfl rfl)
theorem dX0_findWays_47 : decode cX0_findWays 47 = .ok (.if_icmp .ge 65, 3) := dk_162 0 65 (dk_at dksX0_findWays_2 0 rfl rfl)
theorem dX0_findWays_50 : decode cX0_findWays 50 = .ok (.iconst 0, 1) := dk_3 (dk_at dksX0_findWays_2 3 rfl rfl)
theorem dX0_findWays_51 : decode cX0_findWays 51 = .ok (.istore 4, 2) := dk_54 4 (dk_at dksX0_findWays_2 4 rfl rfl)
theorem dX0_findWays_53 : decode cX0_findWays 53 = .ok (.iload 4, 2) := dk_21 4 (dk_at dksX0_findWays_2 6 rfl rfl)
theorem dX0_findWays_55 : decode cX0_findWays 55 = .ok (.iload_n 1, 1) := dk_27 (dk_at dksX0_findWays_2 8 rfl rfl)
theorem dX0_findWays_56 : decode cX0_findWays 56 = .ok (.if_icmp .ge 50, 3) := dk_162 0 50 (dk_at dksX0_findWays_2 9 rfl rfl)
theorem dX0_findWays_59 : decode cX0_findWays 59 = .ok (.aload_n 0, 1) := dk_42 (dk_at dksX0_findWays_2 12 rfl rfl)
theorem dX0_findWays_60 : decode cX0_findWays 60 = .ok (.iload 4, 2) := dk_21 4 (dk_at dksX0_findWays_2 13 rfl rfl)
theorem dX0_findWays_62 : decode cX0_findWays 62 = .ok (.aload_n 0, 1) := dk_42 (dk_at dksX0_findWays_2 15 rfl rfl)
theorem dX0_findWays_63 : decode cX0_findWays 63 = .ok (.getfield 137, 3) := dk_180 0 137 (dk_at dksX0_findWays_2 16 rfl rfl)
theorem dX0_findWays_66 : decode cX0_findWays 66 = .ok (.invokevirtual 312, 3) := dk_182 1 56 (dk_at dksX0_findWays_2 19 rfl rfl)
theorem dX0_findWays_69 : decode cX0_findWays 69 = .ok (.aload_n 0, 1) := dk_42 (dk_at dksX0_findWays_2 22 rfl rfl)
theorem dX0_findWays_70 : decode cX0_findWays 70 = .ok (.getfield 184, 3) := dk_180 0 184 (dk_at dksX0_findWays_3 0 rfl rfl)
theorem dX0_findWays_73 : decode cX0_findWays 73 = .ok (.iload 4, 2) := dk_21 4 (dk_at dksX0_findWays_3 3 rfl rfl)
theorem dX0_findWays_75 : decode cX0_findWays 75 = .ok (.iaload, 1) := dk_46 (dk_at dksX0_findWays_3 5 rfl rfl)
theorem dX0_findWays_76 : decode cX0_findWays 76 = .ok (.ifCond .lt 24, 3) := dk_155 0 24 (dk_at dksX0_findWays_3 6 rfl rfl)
theorem dX0_findWays_79 : decode cX0_findWays 79 = .ok (.aload_n 0, 1) := dk_42 (dk_at dksX0_findWays_3 9 rfl rfl)
theorem dX0_findWays_80 : decode cX0_findWays 80 = .ok (.aload_n 0, 1) := dk_42 (dk_at dksX0_findWays_3 10 rfl rfl)
theorem dX0_findWays_81 : decode cX0_findWays 81 = .ok (.getfield 137, 3) := dk_180 0 137 (dk_at dksX0_findWays_3 11 rfl rfl)
theorem dX0_findWays_84 : decode cX0_findWays 84 = .ok (.invokevirtual 266, 3) := dk_182 1 10 (dk_at dksX0_findWays_3 14 rfl rfl)
theorem dX0_findWays_87 : decode cX0_findWays 87 = .ok (.invokestatic 232, 3) := dk_184 0 232 (dk_at dksX0_findWays_3 17 rfl rfl)
theorem dX0_findWays_90 : decode cX0_findWays 90 = .ok (.iload_n 3, 1) := dk_29 (dk_at dksX0_findWays_3 20 rfl rfl)
theorem dX0_findWays_91 : decode cX0_findWays 91 = .ok (.if_icmp .ne 9, 3) := dk_160 0 9 (dk_at dksX0_findWays_3 21 rfl rfl)
theorem dX0_findWays_94 : decode cX0_findWays 94 = .ok (.aload_n 0, 1) := dk_42 (dk_at dksX0_findWays_4 0 rfl rfl)
theorem dX0_findWays_95 : decode cX0_findWays 95 = .ok (.iload 4, 2) := dk_21 4 (dk_at dksX0_findWays_4 1 rfl rfl)
theorem dX0_findWays_97 : decode cX0_findWays 97 = .ok (.invokevirtual 601, 3) := dk_182 2 89 (dk_at dksX0_findWays_4 3 rfl rfl)
theorem dX0_findWays_100 : decode cX0_findWays 100 = .ok (.iinc 4 1, 3) := dk_132 4 1 (dk_at dksX0_findWays_4 6 rfl rfl)
theorem dX0_findWays_103 : decode cX0_findWays 103 = .ok (.goto (-50), 3) := dk_167 255 206 (dk_at dksX0_findWays_4 9 rfl rfl)
theorem dX0_findWays_106 : decode cX0_findWays 106 = .ok (.iinc 3 1, 3) := dk_132 3 1 (dk_at dksX0_findWays_4 12 rfl rfl)
theorem dX0_findWays_109 : decode cX0_findWays 109 = .ok (.goto (-64), 3) := dk_167 255 192 (dk_at dksX0_findWays_4 15 rfl rfl)
theorem dX0_findWays_112 : decode cX0_findWays 112 = .ok (.return_, 1) := dk_177 (dk_at dksX0_findWays_4 18 rfl rfl)
abbrev cX0_goUp : ByteArray := prog_1_method_104_code
def yX0_goUp : MethodName := ⟨RX0, "goUp", "(I)V"⟩
def dkwX0_goUp_4 : List UInt8 := [46, 42, 180, 0, 187, 27, 46, 4, 96, 184, 1, 64, 79, 132, 2, 1, 167, 255, 168, 177]
abbrev dktX0_goUp_4 : List UInt8 := dkwX0_goUp_4 ++ []
def dkwX0_goUp_3 : List UInt8 := [180, 0, 187, 29, 46, 156, 0, 14, 42, 180, 0, 187, 27, 46, 4, 96, 167, 0, 20, 42, 180, 0, 187, 29]
abbrev dktX0_goUp_3 : List UInt8 := dkwX0_goUp_3 ++ dktX0_goUp_4
def dkwX0_goUp_2 : List UInt8 := [180, 0, 184, 29, 46, 42, 180, 0, 184, 27, 46, 4, 96, 184, 1, 70, 79, 42, 180, 0, 187, 29, 42]
abbrev dktX0_goUp_2 : List UInt8 := dkwX0_goUp_2 ++ dktX0_goUp_3
def dkwX0_goUp_1 : List UInt8 := [180, 2, 72, 162, 0, 86, 42, 42, 180, 0, 181, 28, 46, 182, 2, 85, 62, 42, 180, 0, 184, 29, 42]
abbrev dktX0_goUp_1 : List UInt8 := dkwX0_goUp_1 ++ dktX0_goUp_2
def dkwX0_goUp_0 : List UInt8 := [42, 27, 42, 180, 0, 150, 182, 1, 56, 42, 42, 180, 0, 150, 4, 182, 2, 79, 3, 61, 28, 42]
abbrev dktX0_goUp_0 : List UInt8 := dkwX0_goUp_0 ++ dktX0_goUp_1
theorem dksX0_goUp_0 : cX0_goUp.data.toList.drop 0 = dktX0_goUp_0 := by decide +kernel
theorem dksX0_goUp_1 : cX0_goUp.data.toList.drop 22 = dktX0_goUp_1 := dk_seg dksX0_goUp_0 22 rfl rfl
theorem dksX0_goUp_2 : cX0_goUp.data.toList.drop 45 = dktX0_goUp_2 := dk_seg dksX0_goUp_1 23 rfl rfl
theorem dksX0_goUp_3 : cX0_goUp.data.toList.drop 68 = dktX0_goUp_3 := dk_seg dksX0_goUp_2 23 rfl rfl
theorem dksX0_goUp_4 : cX0_goUp.data.toList.drop 92 = dktX0_goUp_4 := dk_seg dksX0_goUp_3 24 rfl rfl
theorem dX0_goUp_0 : decode cX0_goUp 0 = .ok (.aload_n 0, 1) := dk_42 (dk_at dksX0_goUp_0 0 rfl rfl)
theorem dX0_goUp_1 : decode cX0_goUp 1 = .ok (.iload_n 1, 1) := dk_27 (dk_at dksX0_goUp_0 1 rfl rfl)
theorem dX0_goUp_2 : decode cX0_goUp 2 = .ok (.aload_n 0, 1) := dk_42 (dk_at dksX0_goUp_0 2 rfl rfl)
theorem dX0_goUp_3 : decode cX0_goUp 3 = .ok (.getfield 150, 3) := dk_180 0 150 (dk_at dksX0_goUp_0 3 rfl rfl)
theorem dX0_goUp_6 : decode cX0_goUp 6 = .ok (.invokevirtual 312, 3) := dk_182 1 56 (dk_at dksX0_goUp_0 6 rfl rfl)
theorem dX0_goUp_9 : decode cX0_goUp 9 = .ok (.aload_n 0, 1) := dk_42 (dk_at dksX0_goUp_0 9 rfl rfl)
theorem dX0_goUp_10 : decode cX0_goUp 10 = .ok (.aload_n 0, 1) := dk_42 (dk_at dksX0_goUp_0 10 rfl rfl)
theorem dX0_goUp_11 : decode cX0_goUp 11 = .ok (.getfield 150, 3) := dk_180 0 150 (dk_at dksX0_goUp_0 11 rfl rfl)
theorem dX0_goUp_14 : decode cX0_goUp 14 = .ok (.iconst 1, 1) := dk_4 (dk_at dksX0_goUp_0 14 rfl rfl)
theorem dX0_goUp_15 : decode cX0_goUp 15 = .ok (.invokevirtual 591, 3) := dk_182 2 79 (dk_at dksX0_goUp_0 15 rfl rfl)
theorem dX0_goUp_18 : decode cX0_goUp 18 = .ok (.iconst 0, 1) := dk_3 (dk_at dksX0_goUp_0 18 rfl rfl)
theorem dX0_goUp_19 : decode cX0_goUp 19 = .ok (.istore_n 2, 1) := dk_61 (dk_at dksX0_goUp_0 19 rfl rfl)
theorem dX0_goUp_20 : decode cX0_goUp 20 = .ok (.iload_n 2, 1) := dk_28 (dk_at dksX0_goUp_0 20 rfl rfl)
theorem dX0_goUp_21 : decode cX0_goUp 21 = .ok (.aload_n 0, 1) := dk_42 (dk_at dksX0_goUp_0 21 rfl rfl)
theorem dX0_goUp_22 : decode cX0_goUp 22 = .ok (.getfield 584, 3) := dk_180 2 72 (dk_at dksX0_goUp_1 0 rfl rfl)
theorem dX0_goUp_25 : decode cX0_goUp 25 = .ok (.if_icmp .ge 86, 3) := dk_162 0 86 (dk_at dksX0_goUp_1 3 rfl rfl)
theorem dX0_goUp_28 : decode cX0_goUp 28 = .ok (.aload_n 0, 1) := dk_42 (dk_at dksX0_goUp_1 6 rfl rfl)
theorem dX0_goUp_29 : decode cX0_goUp 29 = .ok (.aload_n 0, 1) := dk_42 (dk_at dksX0_goUp_1 7 rfl rfl)
theorem dX0_goUp_30 : decode cX0_goUp 30 = .ok (.getfield 181, 3) := dk_180 0 181 (dk_at dksX0_goUp_1 8 rfl rfl)
theorem dX0_goUp_33 : decode cX0_goUp 33 = .ok (.iload_n 2, 1) := dk_28 (dk_at dksX0_goUp_1 11 rfl rfl)
theorem dX0_goUp_34 : decode cX0_goUp 34 = .ok (.iaload, 1) := dk_46 (dk_at dksX0_goUp_1 12 rfl rfl)
theorem dX0_goUp_35 : decode cX0_goUp 35 = .ok (.invokevirtual 597, 3) := dk_182 2 85 (dk_at dksX0_goUp_1 13 rfl rfl)
theorem dX0_goUp_38 : decode cX0_goUp 38 = .ok (.istore_n 3, 1) := dk_62 (dk_at dksX0_goUp_1 16 rfl rfl)
theorem dX0_goUp_39 : decode cX0_goUp 39 = .ok (.aload_n 0, 1) := dk_42 (dk_at dksX0_goUp_1 17 rfl rfl)
theorem dX0_goUp_40 : decode cX0_goUp 40 = .ok (.getfield 184, 3) := dk_180 0 184 (dk_at dksX0_goUp_1 18 rfl rfl)
theorem dX0_goUp_43 : decode cX0_goUp 43 = .ok (.iload_n 3, 1) := dk_29 (dk_at dksX0_goUp_1 21 rfl rfl)
theorem dX0_goUp_44 : decode cX0_goUp 44 = .ok (.aload_n 0, 1) := dk_42 (dk_at dksX0_goUp_1 22 rfl rfl)
theorem dX0_goUp_45 : decode cX0_goUp 45 = .ok (.getfield 184, 3) := dk_180 0 184 (dk_at dksX0_goUp_2 0 rfl rfl)
theorem dX0_goUp_48 : decode cX0_goUp 48 = .ok (.iload_n 3, 1) := dk_29 (dk_at dksX0_goUp_2 3 rfl rfl)
theorem dX0_goUp_49 : decode cX0_goUp 49 = .ok (.iaload, 1) := dk_46 (dk_at dksX0_goUp_2 4 rfl rfl)
theorem dX0_goUp_50 : decode cX0_goUp 50 = .ok (.aload_n 0, 1) := dk_42 (dk_at dksX0_goUp_2 5 rfl rfl)
theorem dX0_goUp_51 : decode cX0_goUp 51 = .ok (.getfield 184, 3) := dk_180 0 184 (dk_at dksX0_goUp_2 6 rfl rfl)
theorem dX0_goUp_54 : decode cX0_goUp 54 = .ok (.iload_n 1, 1) := dk_27 (dk_at dksX0_goUp_2 9 rfl rfl)
theorem dX0_goUp_55 : decode cX0_goUp 55 = .ok (.iaload, 1) := dk_46 (dk_at dksX0_goUp_2 10 rfl rfl)
theorem dX0_goUp_56 : decode cX0_goUp 56 = .ok (.iconst 1, 1) := dk_4 (dk_at dksX0_goUp_2 11 rfl rfl)
theorem dX0_goUp_57 : decode cX0_goUp 57 = .ok (.iadd, 1) := dk_96 (dk_at dksX0_goUp_2 12 rfl rfl)
theorem dX0_goUp_58 : decode cX0_goUp 58 = .ok (.invokestatic 326, 3) := dk_184 1 70 (dk_at dksX0_goUp_2 13 rfl rfl)
theorem dX0_goUp_61 : decode cX0_goUp 61 = .ok (.iastore, 1) := dk_79 (dk_at dksX0_goUp_2 16 rfl rfl)
theorem dX0_goUp_62 : decode cX0_goUp 62 = .ok (.aload_n 0, 1) := dk_42 (dk_at dksX0_goUp_2 17 rfl rfl)
theorem dX0_goUp_63 : decode cX0_goUp 63 = .ok (.getfield 187, 3) := dk_180 0 187 (dk_at dksX0_goUp_2 18 rfl rfl)
theorem dX0_goUp_66 : decode cX0_goUp 66 = .ok (.iload_n 3, 1) := dk_29 (dk_at dksX0_goUp_2 21 rfl rfl)
theorem dX0_goUp_67 : decode cX0_goUp 67 = .ok (.aload_n 0, 1) := dk_42 (dk_at dksX0_goUp_2 22 rfl rfl)
theorem dX0_goUp_68 : decode cX0_goUp 68 = .ok (.getfield 187, 3) := dk_180 0 187 (dk_at dksX0_goUp_3 0 rfl rfl)
theorem dX0_goUp_71 : decode cX0_goUp 71 = .ok (.iload_n 3, 1) := dk_29 (dk_at dksX0_goUp_3 3 rfl rfl)
theorem dX0_goUp_72 : decode cX0_goUp 72 = .ok (.iaload, 1) := dk_46 (dk_at dksX0_goUp_3 4 rfl rfl)
theorem dX0_goUp_73 : decode cX0_goUp 73 = .ok (.ifCond .ge 14, 3) := dk_156 0 14 (dk_at dksX0_goUp_3 5 rfl rfl)
theorem dX0_goUp_76 : decode cX0_goUp 76 = .ok (.aload_n 0, 1) := dk_42 (dk_at dksX0_goUp_3 8 rfl rfl)
theorem dX0_goUp_77 : decode cX0_goUp 77 = .ok (.getfield 187, 3) := dk_180 0 187 (dk_at dksX0_goUp_3 9 rfl rfl)
theorem dX0_goUp_80 : decode cX0_goUp 80 = .ok (.iload_n 1, 1) := dk_27 (dk_at dksX0_goUp_3 12 rfl rfl)
theorem dX0_goUp_81 : decode cX0_goUp 81 = .ok (.iaload, 1) := dk_46 (dk_at dksX0_goUp_3 13 rfl rfl)
theorem dX0_goUp_82 : decode cX0_goUp 82 = .ok (.iconst 1, 1) := dk_4 (dk_at dksX0_goUp_3 14 rfl rfl)
theorem dX0_goUp_83 : decode cX0_goUp 83 = .ok (.iadd, 1) := dk_96 (dk_at dksX0_goUp_3 15 rfl rfl)
theorem dX0_goUp_84 : decode cX0_goUp 84 = .ok (.goto 20, 3) := dk_167 0 20 (dk_at dksX0_goUp_3 16 rfl rfl)
theorem dX0_goUp_87 : decode cX0_goUp 87 = .ok (.aload_n 0, 1) := dk_42 (dk_at dksX0_goUp_3 19 rfl rfl)
theorem dX0_goUp_88 : decode cX0_goUp 88 = .ok (.getfield 187, 3) := dk_180 0 187 (dk_at dksX0_goUp_3 20 rfl rfl)
theorem dX0_goUp_91 : decode cX0_goUp 91 = .ok (.iload_n 3, 1) := dk_29 (dk_at dksX0_goUp_3 23 rfl rfl)
theorem dX0_goUp_92 : decode cX0_goUp 92 = .ok (.iaload, 1) := dk_46 (dk_at dksX0_goUp_4 0 rfl rfl)
theorem dX0_goUp_93 : decode cX0_goUp 93 = .ok (.aload_n 0, 1) := dk_42 (dk_at dksX0_goUp_4 1 rfl rfl)
theorem dX0_goUp_94 : decode cX0_goUp 94 = .ok (.getfield 187, 3) := dk_180 0 187 (dk_at dksX0_goUp_4 2 rfl rfl)
theorem dX0_goUp_97 : decode cX0_goUp 97 = .ok (.iload_n 1, 1) := dk_27 (dk_at dksX0_goUp_4 5 rfl rfl)
theorem dX0_goUp_98 : decode cX0_goUp 98 = .ok (.iaload, 1) := dk_46 (dk_at dksX0_goUp_4 6 rfl rfl)
theorem dX0_goUp_99 : decode cX0_goUp 99 = .ok (.iconst 1, 1) := dk_4 (dk_at dksX0_goUp_4 7 rfl rfl)
theorem dX0_goUp_100 : decode cX0_goUp 100 = .ok (.iadd, 1) := dk_96 (dk_at dksX0_goUp_4 8 rfl rfl)
theorem dX0_goUp_101 : decode cX0_goUp 101 = .ok (.invokestatic 320, 3) := dk_184 1 64 (dk_at dksX0_goUp_4 9 rfl rfl)
theorem dX0_goUp_104 : decode cX0_goUp 104 = .ok (.iastore, 1) := dk_79 (dk_at dksX0_goUp_4 12 rfl rfl)
theorem dX0_goUp_105 : decode cX0_goUp 105 = .ok (.iinc 2 1, 3) := dk_132 2 1 (dk_at dksX0_goUp_4 13 rfl rfl)
theorem dX0_goUp_108 : decode cX0_goUp 108 = .ok (.goto (-88), 3) := dk_167 255 168 (dk_at dksX0_goUp_4 16 rfl rfl)
theorem dX0_goUp_111 : decode cX0_goUp 111 = .ok (.return_, 1) := dk_177 (dk_at dksX0_goUp_4 19 rfl rfl)
abbrev cX0_listed : ByteArray := prog_1_method_108_code
def yX0_listed : MethodName := ⟨RX0, "listed", "(I)I"⟩
def dkwX0_listed_1 : List UInt8 := [27, 42, 180, 2, 103, 162, 0, 12, 42, 180, 0, 193, 27, 46, 167, 0, 5, 16, 253, 172]
abbrev dktX0_listed_1 : List UInt8 := dkwX0_listed_1 ++ []
def dkwX0_listed_0 : List UInt8 := [27, 156, 0, 5, 2, 172, 42, 180, 0, 34, 180, 0, 38, 8, 164, 0, 6, 16, 252, 172, 42, 182, 2, 100]
abbrev dktX0_listed_0 : List UInt8 := dkwX0_listed_0 ++ dktX0_listed_1
theorem dksX0_listed_0 : cX0_listed.data.toList.drop 0 = dktX0_listed_0 := by decide +kernel
theorem dksX0_listed_1 : cX0_listed.data.toList.drop 24 = dktX0_listed_1 := dk_seg dksX0_listed_0 24 rfl rfl
theorem dX0_listed_0 : decode cX0_listed 0 = .ok (.iload_n 1, 1) := dk_27 (dk_at dksX0_listed_0 0 rfl rfl)
theorem dX0_listed_1 : decode cX0_listed 1 = .ok (.ifCond .ge 5, 3) := dk_156 0 5 (dk_at dksX0_listed_0 1 rfl rfl)
theorem dX0_listed_4 : decode cX0_listed 4 = .ok (.iconst (-1), 1) := dk_2 (dk_at dksX0_listed_0 4 rfl rfl)
theorem dX0_listed_5 : decode cX0_listed 5 = .ok (.ireturn, 1) := dk_172 (dk_at dksX0_listed_0 5 rfl rfl)
theorem dX0_listed_6 : decode cX0_listed 6 = .ok (.aload_n 0, 1) := dk_42 (dk_at dksX0_listed_0 6 rfl rfl)
theorem dX0_listed_7 : decode cX0_listed 7 = .ok (.getfield 34, 3) := dk_180 0 34 (dk_at dksX0_listed_0 7 rfl rfl)
theorem dX0_listed_10 : decode cX0_listed 10 = .ok (.getfield 38, 3) := dk_180 0 38 (dk_at dksX0_listed_0 10 rfl rfl)
theorem dX0_listed_13 : decode cX0_listed 13 = .ok (.iconst 5, 1) := dk_8 (dk_at dksX0_listed_0 13 rfl rfl)
theorem dX0_listed_14 : decode cX0_listed 14 = .ok (.if_icmp .le 6, 3) := dk_164 0 6 (dk_at dksX0_listed_0 14 rfl rfl)
theorem dX0_listed_17 : decode cX0_listed 17 = .ok (.bipush (-4), 2) := dk_16 252 (dk_at dksX0_listed_0 17 rfl rfl)
theorem dX0_listed_19 : decode cX0_listed 19 = .ok (.ireturn, 1) := dk_172 (dk_at dksX0_listed_0 19 rfl rfl)
theorem dX0_listed_20 : decode cX0_listed 20 = .ok (.aload_n 0, 1) := dk_42 (dk_at dksX0_listed_0 20 rfl rfl)
theorem dX0_listed_21 : decode cX0_listed 21 = .ok (.invokevirtual 612, 3) := dk_182 2 100 (dk_at dksX0_listed_0 21 rfl rfl)
theorem dX0_listed_24 : decode cX0_listed 24 = .ok (.iload_n 1, 1) := dk_27 (dk_at dksX0_listed_1 0 rfl rfl)
theorem dX0_listed_25 : decode cX0_listed 25 = .ok (.aload_n 0, 1) := dk_42 (dk_at dksX0_listed_1 1 rfl rfl)
theorem dX0_listed_26 : decode cX0_listed 26 = .ok (.getfield 615, 3) := dk_180 2 103 (dk_at dksX0_listed_1 2 rfl rfl)
theorem dX0_listed_29 : decode cX0_listed 29 = .ok (.if_icmp .ge 12, 3) := dk_162 0 12 (dk_at dksX0_listed_1 5 rfl rfl)
theorem dX0_listed_32 : decode cX0_listed 32 = .ok (.aload_n 0, 1) := dk_42 (dk_at dksX0_listed_1 8 rfl rfl)
theorem dX0_listed_33 : decode cX0_listed 33 = .ok (.getfield 193, 3) := dk_180 0 193 (dk_at dksX0_listed_1 9 rfl rfl)
theorem dX0_listed_36 : decode cX0_listed 36 = .ok (.iload_n 1, 1) := dk_27 (dk_at dksX0_listed_1 12 rfl rfl)
theorem dX0_listed_37 : decode cX0_listed 37 = .ok (.iaload, 1) := dk_46 (dk_at dksX0_listed_1 13 rfl rfl)
theorem dX0_listed_38 : decode cX0_listed 38 = .ok (.goto 5, 3) := dk_167 0 5 (dk_at dksX0_listed_1 14 rfl rfl)
theorem dX0_listed_41 : decode cX0_listed 41 = .ok (.bipush (-3), 2) := dk_16 253 (dk_at dksX0_listed_1 17 rfl rfl)
theorem dX0_listed_43 : decode cX0_listed 43 = .ok (.ireturn, 1) := dk_172 (dk_at dksX0_listed_1 19 rfl rfl)
abbrev cX0_findList : ByteArray := prog_1_method_107_code
def yX0_findList : MethodName := ⟨RX0, "findList", "()V"⟩
def dkwX0_findList_2 : List UInt8 := [132, 3, 2, 167, 255, 229, 132, 2, 255, 167, 255, 216, 167, 0, 3, 177]
abbrev dktX0_findList_2 : List UInt8 := dkwX0_findList_2 ++ []
def dkwX0_findList_1 : List UInt8 := [29, 5, 162, 0, 28, 43, 28, 29, 182, 2, 98, 153, 0, 6, 167, 255, 227, 29, 158, 0, 6, 167, 0, 9]
abbrev dktX0_findList_1 : List UInt8 := dkwX0_findList_1 ++ dktX0_findList_2
def dkwX0_findList_0 : List UInt8 := [187, 2, 95, 89, 42, 183, 2, 97, 76, 42, 180, 0, 34, 180, 0, 38, 61, 28, 4, 164, 0, 41, 2, 62]
abbrev dktX0_findList_0 : List UInt8 := dkwX0_findList_0 ++ dktX0_findList_1
theorem dksX0_findList_0 : cX0_findList.data.toList.drop 0 = dktX0_findList_0 := by decide +kernel
theorem dksX0_findList_1 : cX0_findList.data.toList.drop 24 = dktX0_findList_1 := dk_seg dksX0_findList_0 24 rfl rfl
theorem dksX0_findList_2 : cX0_findList.data.toList.drop 48 = dktX0_findList_2 := dk_seg dksX0_findList_1 24 rfl rfl
theorem dX0_findList_0 : decode cX0_findList 0 = .ok (.new 607, 3) := dk_187 2 95 (dk_at dksX0_findList_0 0 rfl rfl)
theorem dX0_findList_3 : decode cX0_findList 3 = .ok (.dup, 1) := dk_89 (dk_at dksX0_findList_0 3 rfl rfl)
theorem dX0_findList_4 : decode cX0_findList 4 = .ok (.aload_n 0, 1) := dk_42 (dk_at dksX0_findList_0 4 rfl rfl)
theorem dX0_findList_5 : decode cX0_findList 5 = .ok (.invokespecial 609, 3) := dk_183 2 97 (dk_at dksX0_findList_0 5 rfl rfl)
theorem dX0_findList_8 : decode cX0_findList 8 = .ok (.astore_n 1, 1) := dk_76 (dk_at dksX0_findList_0 8 rfl rfl)
theorem dX0_findList_9 : decode cX0_findList 9 = .ok (.aload_n 0, 1) := dk_42 (dk_at dksX0_findList_0 9 rfl rfl)
theorem dX0_findList_10 : decode cX0_findList 10 = .ok (.getfield 34, 3) := dk_180 0 34 (dk_at dksX0_findList_0 10 rfl rfl)
theorem dX0_findList_13 : decode cX0_findList 13 = .ok (.getfield 38, 3) := dk_180 0 38 (dk_at dksX0_findList_0 13 rfl rfl)
theorem dX0_findList_16 : decode cX0_findList 16 = .ok (.istore_n 2, 1) := dk_61 (dk_at dksX0_findList_0 16 rfl rfl)
theorem dX0_findList_17 : decode cX0_findList 17 = .ok (.iload_n 2, 1) := dk_28 (dk_at dksX0_findList_0 17 rfl rfl)
theorem dX0_findList_18 : decode cX0_findList 18 = .ok (.iconst 1, 1) := dk_4 (dk_at dksX0_findList_0 18 rfl rfl)
theorem dX0_findList_19 : decode cX0_findList 19 = .ok (.if_icmp .le 41, 3) := dk_164 0 41 (dk_at dksX0_findList_0 19 rfl rfl)
theorem dX0_findList_22 : decode cX0_findList 22 = .ok (.iconst (-1), 1) := dk_2 (dk_at dksX0_findList_0 22 rfl rfl)
theorem dX0_findList_23 : decode cX0_findList 23 = .ok (.istore_n 3, 1) := dk_62 (dk_at dksX0_findList_0 23 rfl rfl)
theorem dX0_findList_24 : decode cX0_findList 24 = .ok (.iload_n 3, 1) := dk_29 (dk_at dksX0_findList_1 0 rfl rfl)
theorem dX0_findList_25 : decode cX0_findList 25 = .ok (.iconst 2, 1) := dk_5 (dk_at dksX0_findList_1 1 rfl rfl)
theorem dX0_findList_26 : decode cX0_findList 26 = .ok (.if_icmp .ge 28, 3) := dk_162 0 28 (dk_at dksX0_findList_1 2 rfl rfl)
theorem dX0_findList_29 : decode cX0_findList 29 = .ok (.aload_n 1, 1) := dk_43 (dk_at dksX0_findList_1 5 rfl rfl)
theorem dX0_findList_30 : decode cX0_findList 30 = .ok (.iload_n 2, 1) := dk_28 (dk_at dksX0_findList_1 6 rfl rfl)
theorem dX0_findList_31 : decode cX0_findList 31 = .ok (.iload_n 3, 1) := dk_29 (dk_at dksX0_findList_1 7 rfl rfl)
theorem dX0_findList_32 : decode cX0_findList 32 = .ok (.invokevirtual 610, 3) := dk_182 2 98 (dk_at dksX0_findList_1 8 rfl rfl)
theorem dX0_findList_35 : decode cX0_findList 35 = .ok (.ifCond .eq 6, 3) := dk_153 0 6 (dk_at dksX0_findList_1 11 rfl rfl)
theorem dX0_findList_38 : decode cX0_findList 38 = .ok (.goto (-29), 3) := dk_167 255 227 (dk_at dksX0_findList_1 14 rfl rfl)
theorem dX0_findList_41 : decode cX0_findList 41 = .ok (.iload_n 3, 1) := dk_29 (dk_at dksX0_findList_1 17 rfl rfl)
theorem dX0_findList_42 : decode cX0_findList 42 = .ok (.ifCond .le 6, 3) := dk_158 0 6 (dk_at dksX0_findList_1 18 rfl rfl)
theorem dX0_findList_45 : decode cX0_findList 45 = .ok (.goto 9, 3) := dk_167 0 9 (dk_at dksX0_findList_1 21 rfl rfl)
theorem dX0_findList_48 : decode cX0_findList 48 = .ok (.iinc 3 2, 3) := dk_132 3 2 (dk_at dksX0_findList_2 0 rfl rfl)
theorem dX0_findList_51 : decode cX0_findList 51 = .ok (.goto (-27), 3) := dk_167 255 229 (dk_at dksX0_findList_2 3 rfl rfl)
theorem dX0_findList_54 : decode cX0_findList 54 = .ok (.iinc 2 (-1), 3) := dk_132 2 255 (dk_at dksX0_findList_2 6 rfl rfl)
theorem dX0_findList_57 : decode cX0_findList 57 = .ok (.goto (-40), 3) := dk_167 255 216 (dk_at dksX0_findList_2 9 rfl rfl)
theorem dX0_findList_60 : decode cX0_findList 60 = .ok (.goto 3, 3) := dk_167 0 3 (dk_at dksX0_findList_2 12 rfl rfl)
theorem dX0_findList_63 : decode cX0_findList 63 = .ok (.return_, 1) := dk_177 (dk_at dksX0_findList_2 15 rfl rfl)
abbrev cX0_closed : ByteArray := prog_1_method_110_code
def yX0_closed : MethodName := ⟨RX0, "closed", "(I)I"⟩
def dkwX0_closed_2 : List UInt8 := [20, 1, 26, 131, 127, 182, 2, 106, 172]
abbrev dktX0_closed_2 : List UInt8 := dkwX0_closed_2 ++ []
def dkwX0_closed_1 : List UInt8 := [172, 42, 27, 154, 0, 10, 42, 182, 1, 115, 167, 0, 19, 42, 182, 1, 115, 42, 180, 0, 34, 180, 0, 229]
abbrev dktX0_closed_1 : List UInt8 := dkwX0_closed_1 ++ dktX0_closed_2
def dkwX0_closed_0 : List UInt8 := [27, 3, 4, 184, 0, 112, 154, 0, 5, 2, 172, 42, 180, 0, 34, 180, 0, 38, 8, 164, 0, 6, 16, 252]
abbrev dktX0_closed_0 : List UInt8 := dkwX0_closed_0 ++ dktX0_closed_1
theorem dksX0_closed_0 : cX0_closed.data.toList.drop 0 = dktX0_closed_0 := by decide +kernel
theorem dksX0_closed_1 : cX0_closed.data.toList.drop 24 = dktX0_closed_1 := dk_seg dksX0_closed_0 24 rfl rfl
theorem dksX0_closed_2 : cX0_closed.data.toList.drop 48 = dktX0_closed_2 := dk_seg dksX0_closed_1 24 rfl rfl
theorem dX0_closed_0 : decode cX0_closed 0 = .ok (.iload_n 1, 1) := dk_27 (dk_at dksX0_closed_0 0 rfl rfl)
theorem dX0_closed_1 : decode cX0_closed 1 = .ok (.iconst 0, 1) := dk_3 (dk_at dksX0_closed_0 1 rfl rfl)
theorem dX0_closed_2 : decode cX0_closed 2 = .ok (.iconst 1, 1) := dk_4 (dk_at dksX0_closed_0 2 rfl rfl)
theorem dX0_closed_3 : decode cX0_closed 3 = .ok (.invokestatic 112, 3) := dk_184 0 112 (dk_at dksX0_closed_0 3 rfl rfl)
theorem dX0_closed_6 : decode cX0_closed 6 = .ok (.ifCond .ne 5, 3) := dk_154 0 5 (dk_at dksX0_closed_0 6 rfl rfl)
theorem dX0_closed_9 : decode cX0_closed 9 = .ok (.iconst (-1), 1) := dk_2 (dk_at dksX0_closed_0 9 rfl rfl)
theorem dX0_closed_10 : decode cX0_closed 10 = .ok (.ireturn, 1) := dk_172 (dk_at dksX0_closed_0 10 rfl rfl)
theorem dX0_closed_11 : decode cX0_closed 11 = .ok (.aload_n 0, 1) := dk_42 (dk_at dksX0_closed_0 11 rfl rfl)
theorem dX0_closed_12 : decode cX0_closed 12 = .ok (.getfield 34, 3) := dk_180 0 34 (dk_at dksX0_closed_0 12 rfl rfl)
theorem dX0_closed_15 : decode cX0_closed 15 = .ok (.getfield 38, 3) := dk_180 0 38 (dk_at dksX0_closed_0 15 rfl rfl)
theorem dX0_closed_18 : decode cX0_closed 18 = .ok (.iconst 5, 1) := dk_8 (dk_at dksX0_closed_0 18 rfl rfl)
theorem dX0_closed_19 : decode cX0_closed 19 = .ok (.if_icmp .le 6, 3) := dk_164 0 6 (dk_at dksX0_closed_0 19 rfl rfl)
theorem dX0_closed_22 : decode cX0_closed 22 = .ok (.bipush (-4), 2) := dk_16 252 (dk_at dksX0_closed_0 22 rfl rfl)
theorem dX0_closed_24 : decode cX0_closed 24 = .ok (.ireturn, 1) := dk_172 (dk_at dksX0_closed_1 0 rfl rfl)
theorem dX0_closed_25 : decode cX0_closed 25 = .ok (.aload_n 0, 1) := dk_42 (dk_at dksX0_closed_1 1 rfl rfl)
theorem dX0_closed_26 : decode cX0_closed 26 = .ok (.iload_n 1, 1) := dk_27 (dk_at dksX0_closed_1 2 rfl rfl)
theorem dX0_closed_27 : decode cX0_closed 27 = .ok (.ifCond .ne 10, 3) := dk_154 0 10 (dk_at dksX0_closed_1 3 rfl rfl)
theorem dX0_closed_30 : decode cX0_closed 30 = .ok (.aload_n 0, 1) := dk_42 (dk_at dksX0_closed_1 6 rfl rfl)
theorem dX0_closed_31 : decode cX0_closed 31 = .ok (.invokevirtual 371, 3) := dk_182 1 115 (dk_at dksX0_closed_1 7 rfl rfl)
theorem dX0_closed_34 : decode cX0_closed 34 = .ok (.goto 19, 3) := dk_167 0 19 (dk_at dksX0_closed_1 10 rfl rfl)
theorem dX0_closed_37 : decode cX0_closed 37 = .ok (.aload_n 0, 1) := dk_42 (dk_at dksX0_closed_1 13 rfl rfl)
theorem dX0_closed_38 : decode cX0_closed 38 = .ok (.invokevirtual 371, 3) := dk_182 1 115 (dk_at dksX0_closed_1 14 rfl rfl)
theorem dX0_closed_41 : decode cX0_closed 41 = .ok (.aload_n 0, 1) := dk_42 (dk_at dksX0_closed_1 17 rfl rfl)
theorem dX0_closed_42 : decode cX0_closed 42 = .ok (.getfield 34, 3) := dk_180 0 34 (dk_at dksX0_closed_1 18 rfl rfl)
theorem dX0_closed_45 : decode cX0_closed 45 = .ok (.getfield 229, 3) := dk_180 0 229 (dk_at dksX0_closed_1 21 rfl rfl)
theorem dX0_closed_48 : decode cX0_closed 48 = .ok (.ldc2_w 282, 3) := dk_20 1 26 (dk_at dksX0_closed_2 0 rfl rfl)
theorem dX0_closed_51 : decode cX0_closed 51 = .ok (.lxor, 1) := dk_131 (dk_at dksX0_closed_2 3 rfl rfl)
theorem dX0_closed_52 : decode cX0_closed 52 = .ok (.land, 1) := dk_127 (dk_at dksX0_closed_2 4 rfl rfl)
theorem dX0_closed_53 : decode cX0_closed 53 = .ok (.invokevirtual 618, 3) := dk_182 2 106 (dk_at dksX0_closed_2 5 rfl rfl)
theorem dX0_closed_56 : decode cX0_closed 56 = .ok (.ireturn, 1) := dk_172 (dk_at dksX0_closed_2 8 rfl rfl)
abbrev cX0_closedFrom : ByteArray := prog_1_method_109_code
def yX0_closedFrom : MethodName := ⟨RX0, "closedFrom", "(J)I"⟩
def dkwX0_closedFrom_1 : List UInt8 := [20, 1, 26, 131, 127, 182, 2, 106, 42, 31, 45, 180, 0, 77, 20, 1, 26, 131, 127, 182, 2, 106, 96, 172]
abbrev dktX0_closedFrom_1 : List UInt8 := dkwX0_closedFrom_1 ++ []
def dkwX0_closedFrom_0 : List UInt8 := [31, 9, 148, 154, 0, 5, 4, 172, 42, 180, 0, 44, 31, 184, 1, 118, 50, 78, 42, 31, 45, 180, 0, 73]
abbrev dktX0_closedFrom_0 : List UInt8 := dkwX0_closedFrom_0 ++ dktX0_closedFrom_1
theorem dksX0_closedFrom_0 : cX0_closedFrom.data.toList.drop 0 = dktX0_closedFrom_0 := by decide +kernel
theorem dksX0_closedFrom_1 : cX0_closedFrom.data.toList.drop 24 = dktX0_closedFrom_1 := dk_seg dksX0_closedFrom_0 24 rfl rfl
theorem dX0_closedFrom_0 : decode cX0_closedFrom 0 = .ok (.lload_n 1, 1) := dk_31 (dk_at dksX0_closedFrom_0 0 rfl rfl)
theorem dX0_closedFrom_1 : decode cX0_closedFrom 1 = .ok (.lconst 0, 1) := dk_9 (dk_at dksX0_closedFrom_0 1 rfl rfl)
theorem dX0_closedFrom_2 : decode cX0_closedFrom 2 = .ok (.lcmp, 1) := dk_148 (dk_at dksX0_closedFrom_0 2 rfl rfl)
theorem dX0_closedFrom_3 : decode cX0_closedFrom 3 = .ok (.ifCond .ne 5, 3) := dk_154 0 5 (dk_at dksX0_closedFrom_0 3 rfl rfl)
theorem dX0_closedFrom_6 : decode cX0_closedFrom 6 = .ok (.iconst 1, 1) := dk_4 (dk_at dksX0_closedFrom_0 6 rfl rfl)
theorem dX0_closedFrom_7 : decode cX0_closedFrom 7 = .ok (.ireturn, 1) := dk_172 (dk_at dksX0_closedFrom_0 7 rfl rfl)
theorem dX0_closedFrom_8 : decode cX0_closedFrom 8 = .ok (.aload_n 0, 1) := dk_42 (dk_at dksX0_closedFrom_0 8 rfl rfl)
theorem dX0_closedFrom_9 : decode cX0_closedFrom 9 = .ok (.getfield 44, 3) := dk_180 0 44 (dk_at dksX0_closedFrom_0 9 rfl rfl)
theorem dX0_closedFrom_12 : decode cX0_closedFrom 12 = .ok (.lload_n 1, 1) := dk_31 (dk_at dksX0_closedFrom_0 12 rfl rfl)
theorem dX0_closedFrom_13 : decode cX0_closedFrom 13 = .ok (.invokestatic 374, 3) := dk_184 1 118 (dk_at dksX0_closedFrom_0 13 rfl rfl)
theorem dX0_closedFrom_16 : decode cX0_closedFrom 16 = .ok (.aaload, 1) := dk_50 (dk_at dksX0_closedFrom_0 16 rfl rfl)
theorem dX0_closedFrom_17 : decode cX0_closedFrom 17 = .ok (.astore_n 3, 1) := dk_78 (dk_at dksX0_closedFrom_0 17 rfl rfl)
theorem dX0_closedFrom_18 : decode cX0_closedFrom 18 = .ok (.aload_n 0, 1) := dk_42 (dk_at dksX0_closedFrom_0 18 rfl rfl)
theorem dX0_closedFrom_19 : decode cX0_closedFrom 19 = .ok (.lload_n 1, 1) := dk_31 (dk_at dksX0_closedFrom_0 19 rfl rfl)
theorem dX0_closedFrom_20 : decode cX0_closedFrom 20 = .ok (.aload_n 3, 1) := dk_45 (dk_at dksX0_closedFrom_0 20 rfl rfl)
theorem dX0_closedFrom_21 : decode cX0_closedFrom 21 = .ok (.getfield 73, 3) := dk_180 0 73 (dk_at dksX0_closedFrom_0 21 rfl rfl)
theorem dX0_closedFrom_24 : decode cX0_closedFrom 24 = .ok (.ldc2_w 282, 3) := dk_20 1 26 (dk_at dksX0_closedFrom_1 0 rfl rfl)
theorem dX0_closedFrom_27 : decode cX0_closedFrom 27 = .ok (.lxor, 1) := dk_131 (dk_at dksX0_closedFrom_1 3 rfl rfl)
theorem dX0_closedFrom_28 : decode cX0_closedFrom 28 = .ok (.land, 1) := dk_127 (dk_at dksX0_closedFrom_1 4 rfl rfl)
theorem dX0_closedFrom_29 : decode cX0_closedFrom 29 = .ok (.invokevirtual 618, 3) := dk_182 2 106 (dk_at dksX0_closedFrom_1 5 rfl rfl)
theorem dX0_closedFrom_32 : decode cX0_closedFrom 32 = .ok (.aload_n 0, 1) := dk_42 (dk_at dksX0_closedFrom_1 8 rfl rfl)
theorem dX0_closedFrom_33 : decode cX0_closedFrom 33 = .ok (.lload_n 1, 1) := dk_31 (dk_at dksX0_closedFrom_1 9 rfl rfl)
theorem dX0_closedFrom_34 : decode cX0_closedFrom 34 = .ok (.aload_n 3, 1) := dk_45 (dk_at dksX0_closedFrom_1 10 rfl rfl)
theorem dX0_closedFrom_35 : decode cX0_closedFrom 35 = .ok (.getfield 77, 3) := dk_180 0 77 (dk_at dksX0_closedFrom_1 11 rfl rfl)
theorem dX0_closedFrom_38 : decode cX0_closedFrom 38 = .ok (.ldc2_w 282, 3) := dk_20 1 26 (dk_at dksX0_closedFrom_1 14 rfl rfl)
theorem dX0_closedFrom_41 : decode cX0_closedFrom 41 = .ok (.lxor, 1) := dk_131 (dk_at dksX0_closedFrom_1 17 rfl rfl)
theorem dX0_closedFrom_42 : decode cX0_closedFrom 42 = .ok (.land, 1) := dk_127 (dk_at dksX0_closedFrom_1 18 rfl rfl)
theorem dX0_closedFrom_43 : decode cX0_closedFrom 43 = .ok (.invokevirtual 618, 3) := dk_182 2 106 (dk_at dksX0_closedFrom_1 19 rfl rfl)
theorem dX0_closedFrom_46 : decode cX0_closedFrom 46 = .ok (.iadd, 1) := dk_96 (dk_at dksX0_closedFrom_1 22 rfl rfl)
theorem dX0_closedFrom_47 : decode cX0_closedFrom 47 = .ok (.ireturn, 1) := dk_172 (dk_at dksX0_closedFrom_1 23 rfl rfl)
abbrev cX0_whatIs : ByteArray := prog_1_method_114_code
def yX0_whatIs : MethodName := ⟨RX0, "whatIs", "(II)I"⟩
def dkwX0_whatIs_2 : List UInt8 := [28, 182, 2, 129, 172, 78, 16, 243, 172, 78, 45, 180, 2, 135, 172]
abbrev dktX0_whatIs_2 : List UInt8 := dkwX0_whatIs_2 ++ []
def dkwX0_whatIs_1 : List UInt8 := [180, 2, 120, 192, 2, 124, 78, 42, 45, 198, 0, 7, 4, 167, 0, 4, 3, 16, 245, 182, 2, 125, 42, 45]
abbrev dktX0_whatIs_1 : List UInt8 := dkwX0_whatIs_1 ++ dktX0_whatIs_2
def dkwX0_whatIs_0 : List UInt8 := [27, 184, 2, 117, 153, 0, 12, 28, 3, 4, 184, 0, 112, 154, 0, 5, 2, 172, 42, 180, 0, 215, 27, 50]
abbrev dktX0_whatIs_0 : List UInt8 := dkwX0_whatIs_0 ++ dktX0_whatIs_1
theorem dksX0_whatIs_0 : cX0_whatIs.data.toList.drop 0 = dktX0_whatIs_0 := by decide +kernel
theorem dksX0_whatIs_1 : cX0_whatIs.data.toList.drop 24 = dktX0_whatIs_1 := dk_seg dksX0_whatIs_0 24 rfl rfl
theorem dksX0_whatIs_2 : cX0_whatIs.data.toList.drop 48 = dktX0_whatIs_2 := dk_seg dksX0_whatIs_1 24 rfl rfl
theorem dX0_whatIs_0 : decode cX0_whatIs 0 = .ok (.iload_n 1, 1) := dk_27 (dk_at dksX0_whatIs_0 0 rfl rfl)
theorem dX0_whatIs_1 : decode cX0_whatIs 1 = .ok (.invokestatic 629, 3) := dk_184 2 117 (dk_at dksX0_whatIs_0 1 rfl rfl)
theorem dX0_whatIs_4 : decode cX0_whatIs 4 = .ok (.ifCond .eq 12, 3) := dk_153 0 12 (dk_at dksX0_whatIs_0 4 rfl rfl)
theorem dX0_whatIs_7 : decode cX0_whatIs 7 = .ok (.iload_n 2, 1) := dk_28 (dk_at dksX0_whatIs_0 7 rfl rfl)
theorem dX0_whatIs_8 : decode cX0_whatIs 8 = .ok (.iconst 0, 1) := dk_3 (dk_at dksX0_whatIs_0 8 rfl rfl)
theorem dX0_whatIs_9 : decode cX0_whatIs 9 = .ok (.iconst 1, 1) := dk_4 (dk_at dksX0_whatIs_0 9 rfl rfl)
theorem dX0_whatIs_10 : decode cX0_whatIs 10 = .ok (.invokestatic 112, 3) := dk_184 0 112 (dk_at dksX0_whatIs_0 10 rfl rfl)
theorem dX0_whatIs_13 : decode cX0_whatIs 13 = .ok (.ifCond .ne 5, 3) := dk_154 0 5 (dk_at dksX0_whatIs_0 13 rfl rfl)
theorem dX0_whatIs_16 : decode cX0_whatIs 16 = .ok (.iconst (-1), 1) := dk_2 (dk_at dksX0_whatIs_0 16 rfl rfl)
theorem dX0_whatIs_17 : decode cX0_whatIs 17 = .ok (.ireturn, 1) := dk_172 (dk_at dksX0_whatIs_0 17 rfl rfl)
theorem dX0_whatIs_18 : decode cX0_whatIs 18 = .ok (.aload_n 0, 1) := dk_42 (dk_at dksX0_whatIs_0 18 rfl rfl)
theorem dX0_whatIs_19 : decode cX0_whatIs 19 = .ok (.getfield 215, 3) := dk_180 0 215 (dk_at dksX0_whatIs_0 19 rfl rfl)
theorem dX0_whatIs_22 : decode cX0_whatIs 22 = .ok (.iload_n 1, 1) := dk_27 (dk_at dksX0_whatIs_0 22 rfl rfl)
theorem dX0_whatIs_23 : decode cX0_whatIs 23 = .ok (.aaload, 1) := dk_50 (dk_at dksX0_whatIs_0 23 rfl rfl)
theorem dX0_whatIs_24 : decode cX0_whatIs 24 = .ok (.getfield 632, 3) := dk_180 2 120 (dk_at dksX0_whatIs_1 0 rfl rfl)
theorem dX0_whatIs_27 : decode cX0_whatIs 27 = .ok (.checkcast 636, 3) := dk_192 2 124 (dk_at dksX0_whatIs_1 3 rfl rfl)
theorem dX0_whatIs_30 : decode cX0_whatIs 30 = .ok (.astore_n 3, 1) := dk_78 (dk_at dksX0_whatIs_1 6 rfl rfl)
theorem dX0_whatIs_31 : decode cX0_whatIs 31 = .ok (.aload_n 0, 1) := dk_42 (dk_at dksX0_whatIs_1 7 rfl rfl)
theorem dX0_whatIs_32 : decode cX0_whatIs 32 = .ok (.aload_n 3, 1) := dk_45 (dk_at dksX0_whatIs_1 8 rfl rfl)
theorem dX0_whatIs_33 : decode cX0_whatIs 33 = .ok (.ifnull 7, 3) := dk_198 0 7 (dk_at dksX0_whatIs_1 9 rfl rfl)
theorem dX0_whatIs_36 : decode cX0_whatIs 36 = .ok (.iconst 1, 1) := dk_4 (dk_at dksX0_whatIs_1 12 rfl rfl)
theorem dX0_whatIs_37 : decode cX0_whatIs 37 = .ok (.goto 4, 3) := dk_167 0 4 (dk_at dksX0_whatIs_1 13 rfl rfl)
theorem dX0_whatIs_40 : decode cX0_whatIs 40 = .ok (.iconst 0, 1) := dk_3 (dk_at dksX0_whatIs_1 16 rfl rfl)
theorem dX0_whatIs_41 : decode cX0_whatIs 41 = .ok (.bipush (-11), 2) := dk_16 245 (dk_at dksX0_whatIs_1 17 rfl rfl)
theorem dX0_whatIs_43 : decode cX0_whatIs 43 = .ok (.invokevirtual 637, 3) := dk_182 2 125 (dk_at dksX0_whatIs_1 19 rfl rfl)
theorem dX0_whatIs_46 : decode cX0_whatIs 46 = .ok (.aload_n 0, 1) := dk_42 (dk_at dksX0_whatIs_1 22 rfl rfl)
theorem dX0_whatIs_47 : decode cX0_whatIs 47 = .ok (.aload_n 3, 1) := dk_45 (dk_at dksX0_whatIs_1 23 rfl rfl)
theorem dX0_whatIs_48 : decode cX0_whatIs 48 = .ok (.iload_n 2, 1) := dk_28 (dk_at dksX0_whatIs_2 0 rfl rfl)
theorem dX0_whatIs_49 : decode cX0_whatIs 49 = .ok (.invokevirtual 641, 3) := dk_182 2 129 (dk_at dksX0_whatIs_2 1 rfl rfl)
theorem dX0_whatIs_52 : decode cX0_whatIs 52 = .ok (.ireturn, 1) := dk_172 (dk_at dksX0_whatIs_2 4 rfl rfl)
theorem dX0_whatIs_53 : decode cX0_whatIs 53 = .ok (.astore_n 3, 1) := dk_78 (dk_at dksX0_whatIs_2 5 rfl rfl)
theorem dX0_whatIs_54 : decode cX0_whatIs 54 = .ok (.bipush (-13), 2) := dk_16 243 (dk_at dksX0_whatIs_2 6 rfl rfl)
theorem dX0_whatIs_56 : decode cX0_whatIs 56 = .ok (.ireturn, 1) := dk_172 (dk_at dksX0_whatIs_2 8 rfl rfl)
theorem dX0_whatIs_57 : decode cX0_whatIs 57 = .ok (.astore_n 3, 1) := dk_78 (dk_at dksX0_whatIs_2 9 rfl rfl)
theorem dX0_whatIs_58 : decode cX0_whatIs 58 = .ok (.aload_n 3, 1) := dk_45 (dk_at dksX0_whatIs_2 10 rfl rfl)
theorem dX0_whatIs_59 : decode cX0_whatIs 59 = .ok (.getfield 647, 3) := dk_180 2 135 (dk_at dksX0_whatIs_2 11 rfl rfl)
theorem dX0_whatIs_62 : decode cX0_whatIs 62 = .ok (.ireturn, 1) := dk_172 (dk_at dksX0_whatIs_2 14 rfl rfl)
abbrev cX0_isShelf : ByteArray := prog_1_method_124_code
def yX0_isShelf : MethodName := ⟨RX0, "isShelf", "(I)Z"⟩
def dkwX0_isShelf_0 : List UInt8 := [26, 3, 6, 184, 0, 112, 172]
abbrev dktX0_isShelf_0 : List UInt8 := dkwX0_isShelf_0 ++ []
theorem dksX0_isShelf_0 : cX0_isShelf.data.toList.drop 0 = dktX0_isShelf_0 := by decide +kernel
theorem dX0_isShelf_0 : decode cX0_isShelf 0 = .ok (.iload_n 0, 1) := dk_26 (dk_at dksX0_isShelf_0 0 rfl rfl)
theorem dX0_isShelf_1 : decode cX0_isShelf 1 = .ok (.iconst 0, 1) := dk_3 (dk_at dksX0_isShelf_0 1 rfl rfl)
theorem dX0_isShelf_2 : decode cX0_isShelf 2 = .ok (.iconst 3, 1) := dk_6 (dk_at dksX0_isShelf_0 2 rfl rfl)
theorem dX0_isShelf_3 : decode cX0_isShelf 3 = .ok (.invokestatic 112, 3) := dk_184 0 112 (dk_at dksX0_isShelf_0 3 rfl rfl)
theorem dX0_isShelf_6 : decode cX0_isShelf 6 = .ok (.ireturn, 1) := dk_172 (dk_at dksX0_isShelf_0 6 rfl rfl)
abbrev cX0_must : ByteArray := prog_1_method_2_code
def yX0_must : MethodName := ⟨RX0, "must", "(ZI)V"⟩
def dkwX0_must_0 : List UInt8 := [27, 154, 0, 12, 42, 180, 0, 1, 28, 182, 0, 7, 191, 177]
abbrev dktX0_must_0 : List UInt8 := dkwX0_must_0 ++ []
theorem dksX0_must_0 : cX0_must.data.toList.drop 0 = dktX0_must_0 := by decide +kernel
theorem dX0_must_0 : decode cX0_must 0 = .ok (.iload_n 1, 1) := dk_27 (dk_at dksX0_must_0 0 rfl rfl)
theorem dX0_must_1 : decode cX0_must 1 = .ok (.ifCond .ne 12, 3) := dk_154 0 12 (dk_at dksX0_must_0 1 rfl rfl)
theorem dX0_must_4 : decode cX0_must 4 = .ok (.aload_n 0, 1) := dk_42 (dk_at dksX0_must_0 4 rfl rfl)
theorem dX0_must_5 : decode cX0_must 5 = .ok (.getfield 1, 3) := dk_180 0 1 (dk_at dksX0_must_0 5 rfl rfl)
theorem dX0_must_8 : decode cX0_must 8 = .ok (.iload_n 2, 1) := dk_28 (dk_at dksX0_must_0 8 rfl rfl)
theorem dX0_must_9 : decode cX0_must 9 = .ok (.invokevirtual 7, 3) := dk_182 0 7 (dk_at dksX0_must_0 9 rfl rfl)
theorem dX0_must_12 : decode cX0_must 12 = .ok (.athrow, 1) := dk_191 (dk_at dksX0_must_0 12 rfl rfl)
theorem dX0_must_13 : decode cX0_must 13 = .ok (.return_, 1) := dk_177 (dk_at dksX0_must_0 13 rfl rfl)
abbrev cX0_fitting : ByteArray := prog_1_method_113_code
def yX0_fitting : MethodName := ⟨RX0, "fitting", "([II)I"⟩
def dkwX0_fitting_5 : List UInt8 := [33, 181, 0, 229, 25, 9, 191]
abbrev dktX0_fitting_5 : List UInt8 := dkwX0_fitting_5 ++ []
def dkwX0_fitting_4 : List UInt8 := [167, 0, 5, 21, 6, 54, 7, 42, 180, 0, 34, 33, 181, 0, 229, 21, 7, 172, 58, 9, 42, 180, 0, 34]
abbrev dktX0_fitting_4 : List UInt8 := dkwX0_fitting_4 ++ dktX0_fitting_5
def dkwX0_fitting_3 : List UInt8 := [167, 255, 233, 132, 5, 1, 21, 7, 54, 6, 132, 7, 255, 167, 255, 191, 28, 154, 0, 8, 21, 5]
abbrev dktX0_fitting_3 : List UInt8 := dkwX0_fitting_3 ++ dktX0_fitting_4
def dkwX0_fitting_2 : List UInt8 := [21, 8, 43, 190, 162, 0, 22, 42, 43, 21, 8, 182, 2, 113, 154, 0, 6, 167, 0, 16, 132, 8, 3]
abbrev dktX0_fitting_2 : List UInt8 := dkwX0_fitting_2 ++ dktX0_fitting_3
def dkwX0_fitting_1 : List UInt8 := [42, 180, 0, 34, 42, 42, 42, 21, 7, 182, 2, 109, 182, 1, 157, 182, 1, 161, 181, 0, 229, 3, 54, 8]
abbrev dktX0_fitting_1 : List UInt8 := dkwX0_fitting_1 ++ dktX0_fitting_2
def dkwX0_fitting_0 : List UInt8 := [42, 180, 0, 34, 180, 0, 229, 66, 3, 54, 5, 16, 253, 54, 6, 16, 95, 54, 7, 21, 7, 155, 0, 66]
abbrev dktX0_fitting_0 : List UInt8 := dkwX0_fitting_0 ++ dktX0_fitting_1
theorem dksX0_fitting_0 : cX0_fitting.data.toList.drop 0 = dktX0_fitting_0 := by decide +kernel
theorem dksX0_fitting_1 : cX0_fitting.data.toList.drop 24 = dktX0_fitting_1 := dk_seg dksX0_fitting_0 24 rfl rfl
theorem dksX0_fitting_2 : cX0_fitting.data.toList.drop 48 = dktX0_fitting_2 := dk_seg dksX0_fitting_1 24 rfl rfl
theorem dksX0_fitting_3 : cX0_fitting.data.toList.drop 71 = dktX0_fitting_3 := dk_seg dksX0_fitting_2 23 rfl rfl
theorem dksX0_fitting_4 : cX0_fitting.data.toList.drop 93 = dktX0_fitting_4 := dk_seg dksX0_fitting_3 22 rfl rfl
theorem dksX0_fitting_5 : cX0_fitting.data.toList.drop 117 = dktX0_fitting_5 := dk_seg dksX0_fitting_4 24 rfl rfl
theorem dX0_fitting_0 : decode cX0_fitting 0 = .ok (.aload_n 0, 1) := dk_42 (dk_at dksX0_fitting_0 0 rfl rfl)
theorem dX0_fitting_1 : decode cX0_fitting 1 = .ok (.getfield 34, 3) := dk_180 0 34 (dk_at dksX0_fitting_0 1 rfl rfl)
theorem dX0_fitting_4 : decode cX0_fitting 4 = .ok (.getfield 229, 3) := dk_180 0 229 (dk_at dksX0_fitting_0 4 rfl rfl)
theorem dX0_fitting_7 : decode cX0_fitting 7 = .ok (.lstore_n 3, 1) := dk_66 (dk_at dksX0_fitting_0 7 rfl rfl)
theorem dX0_fitting_8 : decode cX0_fitting 8 = .ok (.iconst 0, 1) := dk_3 (dk_at dksX0_fitting_0 8 rfl rfl)
theorem dX0_fitting_9 : decode cX0_fitting 9 = .ok (.istore 5, 2) := dk_54 5 (dk_at dksX0_fitting_0 9 rfl rfl)
theorem dX0_fitting_11 : decode cX0_fitting 11 = .ok (.bipush (-3), 2) := dk_16 253 (dk_at dksX0_fitting_0 11 rfl rfl)
theorem dX0_fitting_13 : decode cX0_fitting 13 = .ok (.istore 6, 2) := dk_54 6 (dk_at dksX0_fitting_0 13 rfl rfl)
theorem dX0_fitting_15 : decode cX0_fitting 15 = .ok (.bipush 95, 2) := dk_16 95 (dk_at dksX0_fitting_0 15 rfl rfl)
theorem dX0_fitting_17 : decode cX0_fitting 17 = .ok (.istore 7, 2) := dk_54 7 (dk_at dksX0_fitting_0 17 rfl rfl)
theorem dX0_fitting_19 : decode cX0_fitting 19 = .ok (.iload 7, 2) := dk_21 7 (dk_at dksX0_fitting_0 19 rfl rfl)
theorem dX0_fitting_21 : decode cX0_fitting 21 = .ok (.ifCond .lt 66, 3) := dk_155 0 66 (dk_at dksX0_fitting_0 21 rfl rfl)
theorem dX0_fitting_24 : decode cX0_fitting 24 = .ok (.aload_n 0, 1) := dk_42 (dk_at dksX0_fitting_1 0 rfl rfl)
theorem dX0_fitting_25 : decode cX0_fitting 25 = .ok (.getfield 34, 3) := dk_180 0 34 (dk_at dksX0_fitting_1 1 rfl rfl)
theorem dX0_fitting_28 : decode cX0_fitting 28 = .ok (.aload_n 0, 1) := dk_42 (dk_at dksX0_fitting_1 4 rfl rfl)
theorem dX0_fitting_29 : decode cX0_fitting 29 = .ok (.aload_n 0, 1) := dk_42 (dk_at dksX0_fitting_1 5 rfl rfl)
theorem dX0_fitting_30 : decode cX0_fitting 30 = .ok (.aload_n 0, 1) := dk_42 (dk_at dksX0_fitting_1 6 rfl rfl)
theorem dX0_fitting_31 : decode cX0_fitting 31 = .ok (.iload 7, 2) := dk_21 7 (dk_at dksX0_fitting_1 7 rfl rfl)
theorem dX0_fitting_33 : decode cX0_fitting 33 = .ok (.invokevirtual 621, 3) := dk_182 2 109 (dk_at dksX0_fitting_1 9 rfl rfl)
theorem dX0_fitting_36 : decode cX0_fitting 36 = .ok (.invokevirtual 413, 3) := dk_182 1 157 (dk_at dksX0_fitting_1 12 rfl rfl)
theorem dX0_fitting_39 : decode cX0_fitting 39 = .ok (.invokevirtual 417, 3) := dk_182 1 161 (dk_at dksX0_fitting_1 15 rfl rfl)
theorem dX0_fitting_42 : decode cX0_fitting 42 = .ok (.putfield 229, 3) := dk_181 0 229 (dk_at dksX0_fitting_1 18 rfl rfl)
theorem dX0_fitting_45 : decode cX0_fitting 45 = .ok (.iconst 0, 1) := dk_3 (dk_at dksX0_fitting_1 21 rfl rfl)
theorem dX0_fitting_46 : decode cX0_fitting 46 = .ok (.istore 8, 2) := dk_54 8 (dk_at dksX0_fitting_1 22 rfl rfl)
theorem dX0_fitting_48 : decode cX0_fitting 48 = .ok (.iload 8, 2) := dk_21 8 (dk_at dksX0_fitting_2 0 rfl rfl)
theorem dX0_fitting_50 : decode cX0_fitting 50 = .ok (.aload_n 1, 1) := dk_43 (dk_at dksX0_fitting_2 2 rfl rfl)
theorem dX0_fitting_51 : decode cX0_fitting 51 = .ok (.arraylength, 1) := dk_190 (dk_at dksX0_fitting_2 3 rfl rfl)
theorem dX0_fitting_52 : decode cX0_fitting 52 = .ok (.if_icmp .ge 22, 3) := dk_162 0 22 (dk_at dksX0_fitting_2 4 rfl rfl)
theorem dX0_fitting_55 : decode cX0_fitting 55 = .ok (.aload_n 0, 1) := dk_42 (dk_at dksX0_fitting_2 7 rfl rfl)
theorem dX0_fitting_56 : decode cX0_fitting 56 = .ok (.aload_n 1, 1) := dk_43 (dk_at dksX0_fitting_2 8 rfl rfl)
theorem dX0_fitting_57 : decode cX0_fitting 57 = .ok (.iload 8, 2) := dk_21 8 (dk_at dksX0_fitting_2 9 rfl rfl)
theorem dX0_fitting_59 : decode cX0_fitting 59 = .ok (.invokevirtual 625, 3) := dk_182 2 113 (dk_at dksX0_fitting_2 11 rfl rfl)
theorem dX0_fitting_62 : decode cX0_fitting 62 = .ok (.ifCond .ne 6, 3) := dk_154 0 6 (dk_at dksX0_fitting_2 14 rfl rfl)
theorem dX0_fitting_65 : decode cX0_fitting 65 = .ok (.goto 16, 3) := dk_167 0 16 (dk_at dksX0_fitting_2 17 rfl rfl)
theorem dX0_fitting_68 : decode cX0_fitting 68 = .ok (.iinc 8 3, 3) := dk_132 8 3 (dk_at dksX0_fitting_2 20 rfl rfl)
theorem dX0_fitting_71 : decode cX0_fitting 71 = .ok (.goto (-23), 3) := dk_167 255 233 (dk_at dksX0_fitting_3 0 rfl rfl)
theorem dX0_fitting_74 : decode cX0_fitting 74 = .ok (.iinc 5 1, 3) := dk_132 5 1 (dk_at dksX0_fitting_3 3 rfl rfl)
theorem dX0_fitting_77 : decode cX0_fitting 77 = .ok (.iload 7, 2) := dk_21 7 (dk_at dksX0_fitting_3 6 rfl rfl)
theorem dX0_fitting_79 : decode cX0_fitting 79 = .ok (.istore 6, 2) := dk_54 6 (dk_at dksX0_fitting_3 8 rfl rfl)
theorem dX0_fitting_81 : decode cX0_fitting 81 = .ok (.iinc 7 (-1), 3) := dk_132 7 255 (dk_at dksX0_fitting_3 10 rfl rfl)
theorem dX0_fitting_84 : decode cX0_fitting 84 = .ok (.goto (-65), 3) := dk_167 255 191 (dk_at dksX0_fitting_3 13 rfl rfl)
theorem dX0_fitting_87 : decode cX0_fitting 87 = .ok (.iload_n 2, 1) := dk_28 (dk_at dksX0_fitting_3 16 rfl rfl)
theorem dX0_fitting_88 : decode cX0_fitting 88 = .ok (.ifCond .ne 8, 3) := dk_154 0 8 (dk_at dksX0_fitting_3 17 rfl rfl)
theorem dX0_fitting_91 : decode cX0_fitting 91 = .ok (.iload 5, 2) := dk_21 5 (dk_at dksX0_fitting_3 20 rfl rfl)
theorem dX0_fitting_93 : decode cX0_fitting 93 = .ok (.goto 5, 3) := dk_167 0 5 (dk_at dksX0_fitting_4 0 rfl rfl)
theorem dX0_fitting_96 : decode cX0_fitting 96 = .ok (.iload 6, 2) := dk_21 6 (dk_at dksX0_fitting_4 3 rfl rfl)
theorem dX0_fitting_98 : decode cX0_fitting 98 = .ok (.istore 7, 2) := dk_54 7 (dk_at dksX0_fitting_4 5 rfl rfl)
theorem dX0_fitting_100 : decode cX0_fitting 100 = .ok (.aload_n 0, 1) := dk_42 (dk_at dksX0_fitting_4 7 rfl rfl)
theorem dX0_fitting_101 : decode cX0_fitting 101 = .ok (.getfield 34, 3) := dk_180 0 34 (dk_at dksX0_fitting_4 8 rfl rfl)
theorem dX0_fitting_104 : decode cX0_fitting 104 = .ok (.lload_n 3, 1) := dk_33 (dk_at dksX0_fitting_4 11 rfl rfl)
theorem dX0_fitting_105 : decode cX0_fitting 105 = .ok (.putfield 229, 3) := dk_181 0 229 (dk_at dksX0_fitting_4 12 rfl rfl)
theorem dX0_fitting_108 : decode cX0_fitting 108 = .ok (.iload 7, 2) := dk_21 7 (dk_at dksX0_fitting_4 15 rfl rfl)
theorem dX0_fitting_110 : decode cX0_fitting 110 = .ok (.ireturn, 1) := dk_172 (dk_at dksX0_fitting_4 17 rfl rfl)
theorem dX0_fitting_111 : decode cX0_fitting 111 = .ok (.astore 9, 2) := dk_58 9 (dk_at dksX0_fitting_4 18 rfl rfl)
theorem dX0_fitting_113 : decode cX0_fitting 113 = .ok (.aload_n 0, 1) := dk_42 (dk_at dksX0_fitting_4 20 rfl rfl)
theorem dX0_fitting_114 : decode cX0_fitting 114 = .ok (.getfield 34, 3) := dk_180 0 34 (dk_at dksX0_fitting_4 21 rfl rfl)
theorem dX0_fitting_117 : decode cX0_fitting 117 = .ok (.lload_n 3, 1) := dk_33 (dk_at dksX0_fitting_5 0 rfl rfl)
theorem dX0_fitting_118 : decode cX0_fitting 118 = .ok (.putfield 229, 3) := dk_181 0 229 (dk_at dksX0_fitting_5 1 rfl rfl)
theorem dX0_fitting_121 : decode cX0_fitting 121 = .ok (.aload 9, 2) := dk_25 9 (dk_at dksX0_fitting_5 4 rfl rfl)
theorem dX0_fitting_123 : decode cX0_fitting 123 = .ok (.athrow, 1) := dk_191 (dk_at dksX0_fitting_5 6 rfl rfl)
abbrev cX0_stranger : ByteArray := prog_1_method_111_code
def yX0_stranger : MethodName := ⟨RX0, "stranger", "(I)LCoarserOrders$Plain;"⟩
def dkwX0_stranger_1 : List UInt8 := [184, 1, 142, 83, 42, 180, 0, 200, 27, 50, 176]
abbrev dktX0_stranger_1 : List UInt8 := dkwX0_stranger_1 ++ []
def dkwX0_stranger_0 : List UInt8 := [42, 180, 0, 200, 27, 50, 199, 0, 21, 42, 180, 0, 200, 27, 27, 16, 16, 108, 3, 27, 16, 16, 112]
abbrev dktX0_stranger_0 : List UInt8 := dkwX0_stranger_0 ++ dktX0_stranger_1
theorem dksX0_stranger_0 : cX0_stranger.data.toList.drop 0 = dktX0_stranger_0 := by decide +kernel
theorem dksX0_stranger_1 : cX0_stranger.data.toList.drop 23 = dktX0_stranger_1 := dk_seg dksX0_stranger_0 23 rfl rfl
theorem dX0_stranger_0 : decode cX0_stranger 0 = .ok (.aload_n 0, 1) := dk_42 (dk_at dksX0_stranger_0 0 rfl rfl)
theorem dX0_stranger_1 : decode cX0_stranger 1 = .ok (.getfield 200, 3) := dk_180 0 200 (dk_at dksX0_stranger_0 1 rfl rfl)
theorem dX0_stranger_4 : decode cX0_stranger 4 = .ok (.iload_n 1, 1) := dk_27 (dk_at dksX0_stranger_0 4 rfl rfl)
theorem dX0_stranger_5 : decode cX0_stranger 5 = .ok (.aaload, 1) := dk_50 (dk_at dksX0_stranger_0 5 rfl rfl)
theorem dX0_stranger_6 : decode cX0_stranger 6 = .ok (.ifnonnull 21, 3) := dk_199 0 21 (dk_at dksX0_stranger_0 6 rfl rfl)
theorem dX0_stranger_9 : decode cX0_stranger 9 = .ok (.aload_n 0, 1) := dk_42 (dk_at dksX0_stranger_0 9 rfl rfl)
theorem dX0_stranger_10 : decode cX0_stranger 10 = .ok (.getfield 200, 3) := dk_180 0 200 (dk_at dksX0_stranger_0 10 rfl rfl)
theorem dX0_stranger_13 : decode cX0_stranger 13 = .ok (.iload_n 1, 1) := dk_27 (dk_at dksX0_stranger_0 13 rfl rfl)
theorem dX0_stranger_14 : decode cX0_stranger 14 = .ok (.iload_n 1, 1) := dk_27 (dk_at dksX0_stranger_0 14 rfl rfl)
theorem dX0_stranger_15 : decode cX0_stranger 15 = .ok (.bipush 16, 2) := dk_16 16 (dk_at dksX0_stranger_0 15 rfl rfl)
theorem dX0_stranger_17 : decode cX0_stranger 17 = .ok (.idiv, 1) := dk_108 (dk_at dksX0_stranger_0 17 rfl rfl)
theorem dX0_stranger_18 : decode cX0_stranger 18 = .ok (.iconst 0, 1) := dk_3 (dk_at dksX0_stranger_0 18 rfl rfl)
theorem dX0_stranger_19 : decode cX0_stranger 19 = .ok (.iload_n 1, 1) := dk_27 (dk_at dksX0_stranger_0 19 rfl rfl)
theorem dX0_stranger_20 : decode cX0_stranger 20 = .ok (.bipush 16, 2) := dk_16 16 (dk_at dksX0_stranger_0 20 rfl rfl)
theorem dX0_stranger_22 : decode cX0_stranger 22 = .ok (.irem, 1) := dk_112 (dk_at dksX0_stranger_0 22 rfl rfl)
theorem dX0_stranger_23 : decode cX0_stranger 23 = .ok (.invokestatic 398, 3) := dk_184 1 142 (dk_at dksX0_stranger_1 0 rfl rfl)
theorem dX0_stranger_26 : decode cX0_stranger 26 = .ok (.aastore, 1) := dk_83 (dk_at dksX0_stranger_1 3 rfl rfl)
theorem dX0_stranger_27 : decode cX0_stranger 27 = .ok (.aload_n 0, 1) := dk_42 (dk_at dksX0_stranger_1 4 rfl rfl)
theorem dX0_stranger_28 : decode cX0_stranger 28 = .ok (.getfield 200, 3) := dk_180 0 200 (dk_at dksX0_stranger_1 5 rfl rfl)
theorem dX0_stranger_31 : decode cX0_stranger 31 = .ok (.iload_n 1, 1) := dk_27 (dk_at dksX0_stranger_1 8 rfl rfl)
theorem dX0_stranger_32 : decode cX0_stranger 32 = .ok (.aaload, 1) := dk_50 (dk_at dksX0_stranger_1 9 rfl rfl)
theorem dX0_stranger_33 : decode cX0_stranger 33 = .ok (.areturn, 1) := dk_176 (dk_at dksX0_stranger_1 10 rfl rfl)
abbrev cX0_isThree : ByteArray := prog_1_method_112_code
def yX0_isThree : MethodName := ⟨RX0, "isThree", "([II)Z"⟩
def dkwX0_isThree_4 : List UInt8 := [160, 0, 7, 4, 167, 0, 4, 3, 172]
abbrev dktX0_isThree_4 : List UInt8 := dkwX0_isThree_4 ++ []
def dkwX0_isThree_3 : List UInt8 := [160, 0, 7, 4, 167, 0, 4, 3, 43, 28, 5, 96, 46, 4, 160, 0, 7, 4, 167, 0, 4, 3]
abbrev dktX0_isThree_3 : List UInt8 := dkwX0_isThree_3 ++ dktX0_isThree_4
def dkwX0_isThree_2 : List UInt8 := [42, 180, 0, 141, 4, 182, 2, 31, 42, 42, 180, 0, 137, 182, 1, 40, 42, 42, 180, 0, 141, 182, 1, 40]
abbrev dktX0_isThree_2 : List UInt8 := dkwX0_isThree_2 ++ dktX0_isThree_3
def dkwX0_isThree_1 : List UInt8 := [46, 43, 28, 4, 96, 46, 182, 1, 28, 154, 0, 5, 3, 172, 42, 42, 180, 0, 137, 4, 182, 2, 31, 42]
abbrev dktX0_isThree_1 : List UInt8 := dkwX0_isThree_1 ++ dktX0_isThree_2
def dkwX0_isThree_0 : List UInt8 := [28, 5, 96, 43, 190, 162, 0, 31, 43, 28, 5, 96, 46, 3, 4, 184, 0, 112, 153, 0, 18, 42, 43, 28]
abbrev dktX0_isThree_0 : List UInt8 := dkwX0_isThree_0 ++ dktX0_isThree_1
theorem dksX0_isThree_0 : cX0_isThree.data.toList.drop 0 = dktX0_isThree_0 := by decide +kernel
theorem dksX0_isThree_1 : cX0_isThree.data.toList.drop 24 = dktX0_isThree_1 := dk_seg dksX0_isThree_0 24 rfl rfl
theorem dksX0_isThree_2 : cX0_isThree.data.toList.drop 48 = dktX0_isThree_2 := dk_seg dksX0_isThree_1 24 rfl rfl
theorem dksX0_isThree_3 : cX0_isThree.data.toList.drop 72 = dktX0_isThree_3 := dk_seg dksX0_isThree_2 24 rfl rfl
theorem dksX0_isThree_4 : cX0_isThree.data.toList.drop 94 = dktX0_isThree_4 := dk_seg dksX0_isThree_3 22 rfl rfl
theorem dX0_isThree_0 : decode cX0_isThree 0 = .ok (.iload_n 2, 1) := dk_28 (dk_at dksX0_isThree_0 0 rfl rfl)
theorem dX0_isThree_1 : decode cX0_isThree 1 = .ok (.iconst 2, 1) := dk_5 (dk_at dksX0_isThree_0 1 rfl rfl)
theorem dX0_isThree_2 : decode cX0_isThree 2 = .ok (.iadd, 1) := dk_96 (dk_at dksX0_isThree_0 2 rfl rfl)
theorem dX0_isThree_3 : decode cX0_isThree 3 = .ok (.aload_n 1, 1) := dk_43 (dk_at dksX0_isThree_0 3 rfl rfl)
theorem dX0_isThree_4 : decode cX0_isThree 4 = .ok (.arraylength, 1) := dk_190 (dk_at dksX0_isThree_0 4 rfl rfl)
theorem dX0_isThree_5 : decode cX0_isThree 5 = .ok (.if_icmp .ge 31, 3) := dk_162 0 31 (dk_at dksX0_isThree_0 5 rfl rfl)
theorem dX0_isThree_8 : decode cX0_isThree 8 = .ok (.aload_n 1, 1) := dk_43 (dk_at dksX0_isThree_0 8 rfl rfl)
theorem dX0_isThree_9 : decode cX0_isThree 9 = .ok (.iload_n 2, 1) := dk_28 (dk_at dksX0_isThree_0 9 rfl rfl)
theorem dX0_isThree_10 : decode cX0_isThree 10 = .ok (.iconst 2, 1) := dk_5 (dk_at dksX0_isThree_0 10 rfl rfl)
theorem dX0_isThree_11 : decode cX0_isThree 11 = .ok (.iadd, 1) := dk_96 (dk_at dksX0_isThree_0 11 rfl rfl)
theorem dX0_isThree_12 : decode cX0_isThree 12 = .ok (.iaload, 1) := dk_46 (dk_at dksX0_isThree_0 12 rfl rfl)
theorem dX0_isThree_13 : decode cX0_isThree 13 = .ok (.iconst 0, 1) := dk_3 (dk_at dksX0_isThree_0 13 rfl rfl)
theorem dX0_isThree_14 : decode cX0_isThree 14 = .ok (.iconst 1, 1) := dk_4 (dk_at dksX0_isThree_0 14 rfl rfl)
theorem dX0_isThree_15 : decode cX0_isThree 15 = .ok (.invokestatic 112, 3) := dk_184 0 112 (dk_at dksX0_isThree_0 15 rfl rfl)
theorem dX0_isThree_18 : decode cX0_isThree 18 = .ok (.ifCond .eq 18, 3) := dk_153 0 18 (dk_at dksX0_isThree_0 18 rfl rfl)
theorem dX0_isThree_21 : decode cX0_isThree 21 = .ok (.aload_n 0, 1) := dk_42 (dk_at dksX0_isThree_0 21 rfl rfl)
theorem dX0_isThree_22 : decode cX0_isThree 22 = .ok (.aload_n 1, 1) := dk_43 (dk_at dksX0_isThree_0 22 rfl rfl)
theorem dX0_isThree_23 : decode cX0_isThree 23 = .ok (.iload_n 2, 1) := dk_28 (dk_at dksX0_isThree_0 23 rfl rfl)
theorem dX0_isThree_24 : decode cX0_isThree 24 = .ok (.iaload, 1) := dk_46 (dk_at dksX0_isThree_1 0 rfl rfl)
theorem dX0_isThree_25 : decode cX0_isThree 25 = .ok (.aload_n 1, 1) := dk_43 (dk_at dksX0_isThree_1 1 rfl rfl)
theorem dX0_isThree_26 : decode cX0_isThree 26 = .ok (.iload_n 2, 1) := dk_28 (dk_at dksX0_isThree_1 2 rfl rfl)
theorem dX0_isThree_27 : decode cX0_isThree 27 = .ok (.iconst 1, 1) := dk_4 (dk_at dksX0_isThree_1 3 rfl rfl)
theorem dX0_isThree_28 : decode cX0_isThree 28 = .ok (.iadd, 1) := dk_96 (dk_at dksX0_isThree_1 4 rfl rfl)
theorem dX0_isThree_29 : decode cX0_isThree 29 = .ok (.iaload, 1) := dk_46 (dk_at dksX0_isThree_1 5 rfl rfl)
theorem dX0_isThree_30 : decode cX0_isThree 30 = .ok (.invokevirtual 284, 3) := dk_182 1 28 (dk_at dksX0_isThree_1 6 rfl rfl)
theorem dX0_isThree_33 : decode cX0_isThree 33 = .ok (.ifCond .ne 5, 3) := dk_154 0 5 (dk_at dksX0_isThree_1 9 rfl rfl)
theorem dX0_isThree_36 : decode cX0_isThree 36 = .ok (.iconst 0, 1) := dk_3 (dk_at dksX0_isThree_1 12 rfl rfl)
theorem dX0_isThree_37 : decode cX0_isThree 37 = .ok (.ireturn, 1) := dk_172 (dk_at dksX0_isThree_1 13 rfl rfl)
theorem dX0_isThree_38 : decode cX0_isThree 38 = .ok (.aload_n 0, 1) := dk_42 (dk_at dksX0_isThree_1 14 rfl rfl)
theorem dX0_isThree_39 : decode cX0_isThree 39 = .ok (.aload_n 0, 1) := dk_42 (dk_at dksX0_isThree_1 15 rfl rfl)
theorem dX0_isThree_40 : decode cX0_isThree 40 = .ok (.getfield 137, 3) := dk_180 0 137 (dk_at dksX0_isThree_1 16 rfl rfl)
theorem dX0_isThree_43 : decode cX0_isThree 43 = .ok (.iconst 1, 1) := dk_4 (dk_at dksX0_isThree_1 19 rfl rfl)
theorem dX0_isThree_44 : decode cX0_isThree 44 = .ok (.invokevirtual 543, 3) := dk_182 2 31 (dk_at dksX0_isThree_1 20 rfl rfl)
theorem dX0_isThree_47 : decode cX0_isThree 47 = .ok (.aload_n 0, 1) := dk_42 (dk_at dksX0_isThree_1 23 rfl rfl)
theorem dX0_isThree_48 : decode cX0_isThree 48 = .ok (.aload_n 0, 1) := dk_42 (dk_at dksX0_isThree_2 0 rfl rfl)
theorem dX0_isThree_49 : decode cX0_isThree 49 = .ok (.getfield 141, 3) := dk_180 0 141 (dk_at dksX0_isThree_2 1 rfl rfl)
theorem dX0_isThree_52 : decode cX0_isThree 52 = .ok (.iconst 1, 1) := dk_4 (dk_at dksX0_isThree_2 4 rfl rfl)
theorem dX0_isThree_53 : decode cX0_isThree 53 = .ok (.invokevirtual 543, 3) := dk_182 2 31 (dk_at dksX0_isThree_2 5 rfl rfl)
theorem dX0_isThree_56 : decode cX0_isThree 56 = .ok (.aload_n 0, 1) := dk_42 (dk_at dksX0_isThree_2 8 rfl rfl)
theorem dX0_isThree_57 : decode cX0_isThree 57 = .ok (.aload_n 0, 1) := dk_42 (dk_at dksX0_isThree_2 9 rfl rfl)
theorem dX0_isThree_58 : decode cX0_isThree 58 = .ok (.getfield 137, 3) := dk_180 0 137 (dk_at dksX0_isThree_2 10 rfl rfl)
theorem dX0_isThree_61 : decode cX0_isThree 61 = .ok (.invokevirtual 296, 3) := dk_182 1 40 (dk_at dksX0_isThree_2 13 rfl rfl)
theorem dX0_isThree_64 : decode cX0_isThree 64 = .ok (.aload_n 0, 1) := dk_42 (dk_at dksX0_isThree_2 16 rfl rfl)
theorem dX0_isThree_65 : decode cX0_isThree 65 = .ok (.aload_n 0, 1) := dk_42 (dk_at dksX0_isThree_2 17 rfl rfl)
theorem dX0_isThree_66 : decode cX0_isThree 66 = .ok (.getfield 141, 3) := dk_180 0 141 (dk_at dksX0_isThree_2 18 rfl rfl)
theorem dX0_isThree_69 : decode cX0_isThree 69 = .ok (.invokevirtual 296, 3) := dk_182 1 40 (dk_at dksX0_isThree_2 21 rfl rfl)
theorem dX0_isThree_72 : decode cX0_isThree 72 = .ok (.if_icmp .ne 7, 3) := dk_160 0 7 (dk_at dksX0_isThree_3 0 rfl rfl)
theorem dX0_isThree_75 : decode cX0_isThree 75 = .ok (.iconst 1, 1) := dk_4 (dk_at dksX0_isThree_3 3 rfl rfl)
theorem dX0_isThree_76 : decode cX0_isThree 76 = .ok (.goto 4, 3) := dk_167 0 4 (dk_at dksX0_isThree_3 4 rfl rfl)
theorem dX0_isThree_79 : decode cX0_isThree 79 = .ok (.iconst 0, 1) := dk_3 (dk_at dksX0_isThree_3 7 rfl rfl)
theorem dX0_isThree_80 : decode cX0_isThree 80 = .ok (.aload_n 1, 1) := dk_43 (dk_at dksX0_isThree_3 8 rfl rfl)
theorem dX0_isThree_81 : decode cX0_isThree 81 = .ok (.iload_n 2, 1) := dk_28 (dk_at dksX0_isThree_3 9 rfl rfl)
theorem dX0_isThree_82 : decode cX0_isThree 82 = .ok (.iconst 2, 1) := dk_5 (dk_at dksX0_isThree_3 10 rfl rfl)
theorem dX0_isThree_83 : decode cX0_isThree 83 = .ok (.iadd, 1) := dk_96 (dk_at dksX0_isThree_3 11 rfl rfl)
theorem dX0_isThree_84 : decode cX0_isThree 84 = .ok (.iaload, 1) := dk_46 (dk_at dksX0_isThree_3 12 rfl rfl)
theorem dX0_isThree_85 : decode cX0_isThree 85 = .ok (.iconst 1, 1) := dk_4 (dk_at dksX0_isThree_3 13 rfl rfl)
theorem dX0_isThree_86 : decode cX0_isThree 86 = .ok (.if_icmp .ne 7, 3) := dk_160 0 7 (dk_at dksX0_isThree_3 14 rfl rfl)
theorem dX0_isThree_89 : decode cX0_isThree 89 = .ok (.iconst 1, 1) := dk_4 (dk_at dksX0_isThree_3 17 rfl rfl)
theorem dX0_isThree_90 : decode cX0_isThree 90 = .ok (.goto 4, 3) := dk_167 0 4 (dk_at dksX0_isThree_3 18 rfl rfl)
theorem dX0_isThree_93 : decode cX0_isThree 93 = .ok (.iconst 0, 1) := dk_3 (dk_at dksX0_isThree_3 21 rfl rfl)
theorem dX0_isThree_94 : decode cX0_isThree 94 = .ok (.if_icmp .ne 7, 3) := dk_160 0 7 (dk_at dksX0_isThree_4 0 rfl rfl)
theorem dX0_isThree_97 : decode cX0_isThree 97 = .ok (.iconst 1, 1) := dk_4 (dk_at dksX0_isThree_4 3 rfl rfl)
theorem dX0_isThree_98 : decode cX0_isThree 98 = .ok (.goto 4, 3) := dk_167 0 4 (dk_at dksX0_isThree_4 4 rfl rfl)
theorem dX0_isThree_101 : decode cX0_isThree 101 = .ok (.iconst 0, 1) := dk_3 (dk_at dksX0_isThree_4 7 rfl rfl)
theorem dX0_isThree_102 : decode cX0_isThree 102 = .ok (.ireturn, 1) := dk_172 (dk_at dksX0_isThree_4 8 rfl rfl)
abbrev cX0_seed : ByteArray := prog_1_method_115_code
def yX0_seed : MethodName := ⟨RX0, "seed", "(I)I"⟩
def dkwX0_seed_0 : List UInt8 := [42, 180, 0, 34, 180, 2, 136, 61, 42, 180, 0, 34, 27, 181, 2, 136, 28, 172]
abbrev dktX0_seed_0 : List UInt8 := dkwX0_seed_0 ++ []
theorem dksX0_seed_0 : cX0_seed.data.toList.drop 0 = dktX0_seed_0 := by decide +kernel
theorem dX0_seed_0 : decode cX0_seed 0 = .ok (.aload_n 0, 1) := dk_42 (dk_at dksX0_seed_0 0 rfl rfl)
theorem dX0_seed_1 : decode cX0_seed 1 = .ok (.getfield 34, 3) := dk_180 0 34 (dk_at dksX0_seed_0 1 rfl rfl)
theorem dX0_seed_4 : decode cX0_seed 4 = .ok (.getfield 648, 3) := dk_180 2 136 (dk_at dksX0_seed_0 4 rfl rfl)
theorem dX0_seed_7 : decode cX0_seed 7 = .ok (.istore_n 2, 1) := dk_61 (dk_at dksX0_seed_0 7 rfl rfl)
theorem dX0_seed_8 : decode cX0_seed 8 = .ok (.aload_n 0, 1) := dk_42 (dk_at dksX0_seed_0 8 rfl rfl)
theorem dX0_seed_9 : decode cX0_seed 9 = .ok (.getfield 34, 3) := dk_180 0 34 (dk_at dksX0_seed_0 9 rfl rfl)
theorem dX0_seed_12 : decode cX0_seed 12 = .ok (.iload_n 1, 1) := dk_27 (dk_at dksX0_seed_0 12 rfl rfl)
theorem dX0_seed_13 : decode cX0_seed 13 = .ok (.putfield 648, 3) := dk_181 2 136 (dk_at dksX0_seed_0 13 rfl rfl)
theorem dX0_seed_16 : decode cX0_seed 16 = .ok (.iload_n 2, 1) := dk_28 (dk_at dksX0_seed_0 16 rfl rfl)
theorem dX0_seed_17 : decode cX0_seed 17 = .ok (.ireturn, 1) := dk_172 (dk_at dksX0_seed_0 17 rfl rfl)
abbrev cX0_drawn : ByteArray := prog_1_method_117_code
def yX0_drawn : MethodName := ⟨RX0, "drawn", "(I)I"⟩
def dkwX0_drawn_2 : List UInt8 := [61, 132, 3, 1, 167, 255, 221, 28, 172]
abbrev dktX0_drawn_2 : List UInt8 := dkwX0_drawn_2 ++ []
def dkwX0_drawn_1 : List UInt8 := [180, 0, 137, 182, 2, 140, 28, 42, 42, 180, 0, 137, 182, 2, 68, 153, 0, 7, 4, 167, 0, 4, 3, 96]
abbrev dktX0_drawn_1 : List UInt8 := dkwX0_drawn_1 ++ dktX0_drawn_2
def dkwX0_drawn_0 : List UInt8 := [27, 4, 16, 60, 184, 0, 112, 154, 0, 5, 2, 172, 3, 61, 3, 62, 29, 27, 162, 0, 36, 42, 42]
abbrev dktX0_drawn_0 : List UInt8 := dkwX0_drawn_0 ++ dktX0_drawn_1
theorem dksX0_drawn_0 : cX0_drawn.data.toList.drop 0 = dktX0_drawn_0 := by decide +kernel
theorem dksX0_drawn_1 : cX0_drawn.data.toList.drop 23 = dktX0_drawn_1 := dk_seg dksX0_drawn_0 23 rfl rfl
theorem dksX0_drawn_2 : cX0_drawn.data.toList.drop 47 = dktX0_drawn_2 := dk_seg dksX0_drawn_1 24 rfl rfl
theorem dX0_drawn_0 : decode cX0_drawn 0 = .ok (.iload_n 1, 1) := dk_27 (dk_at dksX0_drawn_0 0 rfl rfl)
theorem dX0_drawn_1 : decode cX0_drawn 1 = .ok (.iconst 1, 1) := dk_4 (dk_at dksX0_drawn_0 1 rfl rfl)
theorem dX0_drawn_2 : decode cX0_drawn 2 = .ok (.bipush 60, 2) := dk_16 60 (dk_at dksX0_drawn_0 2 rfl rfl)
theorem dX0_drawn_4 : decode cX0_drawn 4 = .ok (.invokestatic 112, 3) := dk_184 0 112 (dk_at dksX0_drawn_0 4 rfl rfl)
theorem dX0_drawn_7 : decode cX0_drawn 7 = .ok (.ifCond .ne 5, 3) := dk_154 0 5 (dk_at dksX0_drawn_0 7 rfl rfl)
theorem dX0_drawn_10 : decode cX0_drawn 10 = .ok (.iconst (-1), 1) := dk_2 (dk_at dksX0_drawn_0 10 rfl rfl)
theorem dX0_drawn_11 : decode cX0_drawn 11 = .ok (.ireturn, 1) := dk_172 (dk_at dksX0_drawn_0 11 rfl rfl)
theorem dX0_drawn_12 : decode cX0_drawn 12 = .ok (.iconst 0, 1) := dk_3 (dk_at dksX0_drawn_0 12 rfl rfl)
theorem dX0_drawn_13 : decode cX0_drawn 13 = .ok (.istore_n 2, 1) := dk_61 (dk_at dksX0_drawn_0 13 rfl rfl)
theorem dX0_drawn_14 : decode cX0_drawn 14 = .ok (.iconst 0, 1) := dk_3 (dk_at dksX0_drawn_0 14 rfl rfl)
theorem dX0_drawn_15 : decode cX0_drawn 15 = .ok (.istore_n 3, 1) := dk_62 (dk_at dksX0_drawn_0 15 rfl rfl)
theorem dX0_drawn_16 : decode cX0_drawn 16 = .ok (.iload_n 3, 1) := dk_29 (dk_at dksX0_drawn_0 16 rfl rfl)
theorem dX0_drawn_17 : decode cX0_drawn 17 = .ok (.iload_n 1, 1) := dk_27 (dk_at dksX0_drawn_0 17 rfl rfl)
theorem dX0_drawn_18 : decode cX0_drawn 18 = .ok (.if_icmp .ge 36, 3) := dk_162 0 36 (dk_at dksX0_drawn_0 18 rfl rfl)
theorem dX0_drawn_21 : decode cX0_drawn 21 = .ok (.aload_n 0, 1) := dk_42 (dk_at dksX0_drawn_0 21 rfl rfl)
theorem dX0_drawn_22 : decode cX0_drawn 22 = .ok (.aload_n 0, 1) := dk_42 (dk_at dksX0_drawn_0 22 rfl rfl)
theorem dX0_drawn_23 : decode cX0_drawn 23 = .ok (.getfield 137, 3) := dk_180 0 137 (dk_at dksX0_drawn_1 0 rfl rfl)
theorem dX0_drawn_26 : decode cX0_drawn 26 = .ok (.invokevirtual 652, 3) := dk_182 2 140 (dk_at dksX0_drawn_1 3 rfl rfl)
theorem dX0_drawn_29 : decode cX0_drawn 29 = .ok (.iload_n 2, 1) := dk_28 (dk_at dksX0_drawn_1 6 rfl rfl)
theorem dX0_drawn_30 : decode cX0_drawn 30 = .ok (.aload_n 0, 1) := dk_42 (dk_at dksX0_drawn_1 7 rfl rfl)
theorem dX0_drawn_31 : decode cX0_drawn 31 = .ok (.aload_n 0, 1) := dk_42 (dk_at dksX0_drawn_1 8 rfl rfl)
theorem dX0_drawn_32 : decode cX0_drawn 32 = .ok (.getfield 137, 3) := dk_180 0 137 (dk_at dksX0_drawn_1 9 rfl rfl)
theorem dX0_drawn_35 : decode cX0_drawn 35 = .ok (.invokevirtual 580, 3) := dk_182 2 68 (dk_at dksX0_drawn_1 12 rfl rfl)
theorem dX0_drawn_38 : decode cX0_drawn 38 = .ok (.ifCond .eq 7, 3) := dk_153 0 7 (dk_at dksX0_drawn_1 15 rfl rfl)
theorem dX0_drawn_41 : decode cX0_drawn 41 = .ok (.iconst 1, 1) := dk_4 (dk_at dksX0_drawn_1 18 rfl rfl)
theorem dX0_drawn_42 : decode cX0_drawn 42 = .ok (.goto 4, 3) := dk_167 0 4 (dk_at dksX0_drawn_1 19 rfl rfl)
theorem dX0_drawn_45 : decode cX0_drawn 45 = .ok (.iconst 0, 1) := dk_3 (dk_at dksX0_drawn_1 22 rfl rfl)
theorem dX0_drawn_46 : decode cX0_drawn 46 = .ok (.iadd, 1) := dk_96 (dk_at dksX0_drawn_1 23 rfl rfl)
theorem dX0_drawn_47 : decode cX0_drawn 47 = .ok (.istore_n 2, 1) := dk_61 (dk_at dksX0_drawn_2 0 rfl rfl)
theorem dX0_drawn_48 : decode cX0_drawn 48 = .ok (.iinc 3 1, 3) := dk_132 3 1 (dk_at dksX0_drawn_2 1 rfl rfl)
theorem dX0_drawn_51 : decode cX0_drawn 51 = .ok (.goto (-35), 3) := dk_167 255 221 (dk_at dksX0_drawn_2 4 rfl rfl)
theorem dX0_drawn_54 : decode cX0_drawn 54 = .ok (.iload_n 2, 1) := dk_28 (dk_at dksX0_drawn_2 7 rfl rfl)
theorem dX0_drawn_55 : decode cX0_drawn 55 = .ok (.ireturn, 1) := dk_172 (dk_at dksX0_drawn_2 8 rfl rfl)
abbrev cX0_byLot : ByteArray := prog_1_method_116_code
def yX0_byLot : MethodName := ⟨RX0, "byLot", "([B)V"⟩
def dkwX0_byLot_2 : List UInt8 := [180, 2, 136, 16, 16, 124, 28, 4, 96, 112, 184, 0, 246, 132, 2, 255, 167, 255, 208, 177]
abbrev dktX0_byLot_2 : List UInt8 := dkwX0_byLot_2 ++ []
def dkwX0_byLot_1 : List UInt8 := [180, 0, 34, 180, 2, 136, 19, 2, 139, 104, 17, 48, 57, 96, 181, 2, 136, 43, 28, 42, 180, 0, 34]
abbrev dktX0_byLot_1 : List UInt8 := dkwX0_byLot_1 ++ dktX0_byLot_2
def dkwX0_byLot_0 : List UInt8 := [42, 43, 182, 1, 90, 42, 180, 0, 34, 180, 0, 38, 4, 100, 61, 28, 158, 0, 50, 42, 180, 0, 34, 42]
abbrev dktX0_byLot_0 : List UInt8 := dkwX0_byLot_0 ++ dktX0_byLot_1
theorem dksX0_byLot_0 : cX0_byLot.data.toList.drop 0 = dktX0_byLot_0 := by decide +kernel
theorem dksX0_byLot_1 : cX0_byLot.data.toList.drop 24 = dktX0_byLot_1 := dk_seg dksX0_byLot_0 24 rfl rfl
theorem dksX0_byLot_2 : cX0_byLot.data.toList.drop 47 = dktX0_byLot_2 := dk_seg dksX0_byLot_1 23 rfl rfl
theorem dX0_byLot_0 : decode cX0_byLot 0 = .ok (.aload_n 0, 1) := dk_42 (dk_at dksX0_byLot_0 0 rfl rfl)
theorem dX0_byLot_1 : decode cX0_byLot 1 = .ok (.aload_n 1, 1) := dk_43 (dk_at dksX0_byLot_0 1 rfl rfl)
theorem dX0_byLot_2 : decode cX0_byLot 2 = .ok (.invokevirtual 346, 3) := dk_182 1 90 (dk_at dksX0_byLot_0 2 rfl rfl)
theorem dX0_byLot_5 : decode cX0_byLot 5 = .ok (.aload_n 0, 1) := dk_42 (dk_at dksX0_byLot_0 5 rfl rfl)
theorem dX0_byLot_6 : decode cX0_byLot 6 = .ok (.getfield 34, 3) := dk_180 0 34 (dk_at dksX0_byLot_0 6 rfl rfl)
theorem dX0_byLot_9 : decode cX0_byLot 9 = .ok (.getfield 38, 3) := dk_180 0 38 (dk_at dksX0_byLot_0 9 rfl rfl)
theorem dX0_byLot_12 : decode cX0_byLot 12 = .ok (.iconst 1, 1) := dk_4 (dk_at dksX0_byLot_0 12 rfl rfl)
theorem dX0_byLot_13 : decode cX0_byLot 13 = .ok (.isub, 1) := dk_100 (dk_at dksX0_byLot_0 13 rfl rfl)
theorem dX0_byLot_14 : decode cX0_byLot 14 = .ok (.istore_n 2, 1) := dk_61 (dk_at dksX0_byLot_0 14 rfl rfl)
theorem dX0_byLot_15 : decode cX0_byLot 15 = .ok (.iload_n 2, 1) := dk_28 (dk_at dksX0_byLot_0 15 rfl rfl)
theorem dX0_byLot_16 : decode cX0_byLot 16 = .ok (.ifCond .le 50, 3) := dk_158 0 50 (dk_at dksX0_byLot_0 16 rfl rfl)
theorem dX0_byLot_19 : decode cX0_byLot 19 = .ok (.aload_n 0, 1) := dk_42 (dk_at dksX0_byLot_0 19 rfl rfl)
theorem dX0_byLot_20 : decode cX0_byLot 20 = .ok (.getfield 34, 3) := dk_180 0 34 (dk_at dksX0_byLot_0 20 rfl rfl)
theorem dX0_byLot_23 : decode cX0_byLot 23 = .ok (.aload_n 0, 1) := dk_42 (dk_at dksX0_byLot_0 23 rfl rfl)
theorem dX0_byLot_24 : decode cX0_byLot 24 = .ok (.getfield 34, 3) := dk_180 0 34 (dk_at dksX0_byLot_1 0 rfl rfl)
theorem dX0_byLot_27 : decode cX0_byLot 27 = .ok (.getfield 648, 3) := dk_180 2 136 (dk_at dksX0_byLot_1 3 rfl rfl)
theorem dX0_byLot_30 : decode cX0_byLot 30 = .ok (.ldc_w 651, 3) := dk_19 2 139 (dk_at dksX0_byLot_1 6 rfl rfl)
theorem dX0_byLot_33 : decode cX0_byLot 33 = .ok (.imul, 1) := dk_104 (dk_at dksX0_byLot_1 9 rfl rfl)
theorem dX0_byLot_34 : decode cX0_byLot 34 = .ok (.sipush 12345, 3) := dk_17 48 57 (dk_at dksX0_byLot_1 10 rfl rfl)
theorem dX0_byLot_37 : decode cX0_byLot 37 = .ok (.iadd, 1) := dk_96 (dk_at dksX0_byLot_1 13 rfl rfl)
theorem dX0_byLot_38 : decode cX0_byLot 38 = .ok (.putfield 648, 3) := dk_181 2 136 (dk_at dksX0_byLot_1 14 rfl rfl)
theorem dX0_byLot_41 : decode cX0_byLot 41 = .ok (.aload_n 1, 1) := dk_43 (dk_at dksX0_byLot_1 17 rfl rfl)
theorem dX0_byLot_42 : decode cX0_byLot 42 = .ok (.iload_n 2, 1) := dk_28 (dk_at dksX0_byLot_1 18 rfl rfl)
theorem dX0_byLot_43 : decode cX0_byLot 43 = .ok (.aload_n 0, 1) := dk_42 (dk_at dksX0_byLot_1 19 rfl rfl)
theorem dX0_byLot_44 : decode cX0_byLot 44 = .ok (.getfield 34, 3) := dk_180 0 34 (dk_at dksX0_byLot_1 20 rfl rfl)
theorem dX0_byLot_47 : decode cX0_byLot 47 = .ok (.getfield 648, 3) := dk_180 2 136 (dk_at dksX0_byLot_2 0 rfl rfl)
theorem dX0_byLot_50 : decode cX0_byLot 50 = .ok (.bipush 16, 2) := dk_16 16 (dk_at dksX0_byLot_2 3 rfl rfl)
theorem dX0_byLot_52 : decode cX0_byLot 52 = .ok (.iushr, 1) := dk_124 (dk_at dksX0_byLot_2 5 rfl rfl)
theorem dX0_byLot_53 : decode cX0_byLot 53 = .ok (.iload_n 2, 1) := dk_28 (dk_at dksX0_byLot_2 6 rfl rfl)
theorem dX0_byLot_54 : decode cX0_byLot 54 = .ok (.iconst 1, 1) := dk_4 (dk_at dksX0_byLot_2 7 rfl rfl)
theorem dX0_byLot_55 : decode cX0_byLot 55 = .ok (.iadd, 1) := dk_96 (dk_at dksX0_byLot_2 8 rfl rfl)
theorem dX0_byLot_56 : decode cX0_byLot 56 = .ok (.irem, 1) := dk_112 (dk_at dksX0_byLot_2 9 rfl rfl)
theorem dX0_byLot_57 : decode cX0_byLot 57 = .ok (.invokestatic 246, 3) := dk_184 0 246 (dk_at dksX0_byLot_2 10 rfl rfl)
theorem dX0_byLot_60 : decode cX0_byLot 60 = .ok (.iinc 2 (-1), 3) := dk_132 2 255 (dk_at dksX0_byLot_2 13 rfl rfl)
theorem dX0_byLot_63 : decode cX0_byLot 63 = .ok (.goto (-48), 3) := dk_167 255 208 (dk_at dksX0_byLot_2 16 rfl rfl)
theorem dX0_byLot_66 : decode cX0_byLot 66 = .ok (.return_, 1) := dk_177 (dk_at dksX0_byLot_2 19 rfl rfl)
abbrev cX0_prove : ByteArray := prog_1_method_118_code
def yX0_prove : MethodName := ⟨RX0, "prove", "(I)I"⟩
def dkwX0_prove_5 : List UInt8 := [180, 2, 143, 172]
abbrev dktX0_prove_5 : List UInt8 := dkwX0_prove_5 ++ []
def dkwX0_prove_4 : List UInt8 := [29, 79, 42, 89, 180, 2, 143, 4, 96, 181, 2, 143, 3, 61, 167, 0, 6, 132, 2, 1, 167, 255, 161, 42]
abbrev dktX0_prove_4 : List UInt8 := dkwX0_prove_4 ++ dktX0_prove_5
def dkwX0_prove_3 : List UInt8 := [180, 0, 203, 42, 180, 2, 143, 42, 42, 180, 0, 137, 182, 1, 40, 79, 42, 180, 0, 206, 42, 180, 2, 143]
abbrev dktX0_prove_3 : List UInt8 := dkwX0_prove_3 ++ dktX0_prove_4
def dkwX0_prove_2 : List UInt8 := [28, 184, 0, 250, 153, 0, 61, 42, 29, 182, 1, 105, 153, 0, 53, 42, 180, 0, 137, 28, 184, 1, 124, 42]
abbrev dktX0_prove_2 : List UInt8 := dkwX0_prove_2 ++ dktX0_prove_3
def dkwX0_prove_1 : List UInt8 := [42, 180, 0, 34, 180, 0, 38, 162, 0, 88, 42, 42, 180, 0, 137, 28, 182, 1, 87, 62, 42, 180, 0, 137]
abbrev dktX0_prove_1 : List UInt8 := dkwX0_prove_1 ++ dktX0_prove_2
def dkwX0_prove_0 : List UInt8 := [42, 27, 42, 180, 0, 137, 182, 0, 236, 154, 0, 5, 2, 172, 42, 3, 181, 2, 143, 3, 61, 28, 4, 96]
abbrev dktX0_prove_0 : List UInt8 := dkwX0_prove_0 ++ dktX0_prove_1
theorem dksX0_prove_0 : cX0_prove.data.toList.drop 0 = dktX0_prove_0 := by decide +kernel
theorem dksX0_prove_1 : cX0_prove.data.toList.drop 24 = dktX0_prove_1 := dk_seg dksX0_prove_0 24 rfl rfl
theorem dksX0_prove_2 : cX0_prove.data.toList.drop 48 = dktX0_prove_2 := dk_seg dksX0_prove_1 24 rfl rfl
theorem dksX0_prove_3 : cX0_prove.data.toList.drop 72 = dktX0_prove_3 := dk_seg dksX0_prove_2 24 rfl rfl
theorem dksX0_prove_4 : cX0_prove.data.toList.drop 96 = dktX0_prove_4 := dk_seg dksX0_prove_3 24 rfl rfl
theorem dksX0_prove_5 : cX0_prove.data.toList.drop 120 = dktX0_prove_5 := dk_seg dksX0_prove_4 24 rfl rfl
theorem dX0_prove_0 : decode cX0_prove 0 = .ok (.aload_n 0, 1) := dk_42 (dk_at dksX0_prove_0 0 rfl rfl)
theorem dX0_prove_1 : decode cX0_prove 1 = .ok (.iload_n 1, 1) := dk_27 (dk_at dksX0_prove_0 1 rfl rfl)
theorem dX0_prove_2 : decode cX0_prove 2 = .ok (.aload_n 0, 1) := dk_42 (dk_at dksX0_prove_0 2 rfl rfl)
theorem dX0_prove_3 : decode cX0_prove 3 = .ok (.getfield 137, 3) := dk_180 0 137 (dk_at dksX0_prove_0 3 rfl rfl)
theorem dX0_prove_6 : decode cX0_prove 6 = .ok (.invokevirtual 236, 3) := dk_182 0 236 (dk_at dksX0_prove_0 6 rfl rfl)
theorem dX0_prove_9 : decode cX0_prove 9 = .ok (.ifCond .ne 5, 3) := dk_154 0 5 (dk_at dksX0_prove_0 9 rfl rfl)
theorem dX0_prove_12 : decode cX0_prove 12 = .ok (.iconst (-1), 1) := dk_2 (dk_at dksX0_prove_0 12 rfl rfl)
theorem dX0_prove_13 : decode cX0_prove 13 = .ok (.ireturn, 1) := dk_172 (dk_at dksX0_prove_0 13 rfl rfl)
theorem dX0_prove_14 : decode cX0_prove 14 = .ok (.aload_n 0, 1) := dk_42 (dk_at dksX0_prove_0 14 rfl rfl)
theorem dX0_prove_15 : decode cX0_prove 15 = .ok (.iconst 0, 1) := dk_3 (dk_at dksX0_prove_0 15 rfl rfl)
theorem dX0_prove_16 : decode cX0_prove 16 = .ok (.putfield 655, 3) := dk_181 2 143 (dk_at dksX0_prove_0 16 rfl rfl)
theorem dX0_prove_19 : decode cX0_prove 19 = .ok (.iconst 0, 1) := dk_3 (dk_at dksX0_prove_0 19 rfl rfl)
theorem dX0_prove_20 : decode cX0_prove 20 = .ok (.istore_n 2, 1) := dk_61 (dk_at dksX0_prove_0 20 rfl rfl)
theorem dX0_prove_21 : decode cX0_prove 21 = .ok (.iload_n 2, 1) := dk_28 (dk_at dksX0_prove_0 21 rfl rfl)
theorem dX0_prove_22 : decode cX0_prove 22 = .ok (.iconst 1, 1) := dk_4 (dk_at dksX0_prove_0 22 rfl rfl)
theorem dX0_prove_23 : decode cX0_prove 23 = .ok (.iadd, 1) := dk_96 (dk_at dksX0_prove_0 23 rfl rfl)
theorem dX0_prove_24 : decode cX0_prove 24 = .ok (.aload_n 0, 1) := dk_42 (dk_at dksX0_prove_1 0 rfl rfl)
theorem dX0_prove_25 : decode cX0_prove 25 = .ok (.getfield 34, 3) := dk_180 0 34 (dk_at dksX0_prove_1 1 rfl rfl)
theorem dX0_prove_28 : decode cX0_prove 28 = .ok (.getfield 38, 3) := dk_180 0 38 (dk_at dksX0_prove_1 4 rfl rfl)
theorem dX0_prove_31 : decode cX0_prove 31 = .ok (.if_icmp .ge 88, 3) := dk_162 0 88 (dk_at dksX0_prove_1 7 rfl rfl)
theorem dX0_prove_34 : decode cX0_prove 34 = .ok (.aload_n 0, 1) := dk_42 (dk_at dksX0_prove_1 10 rfl rfl)
theorem dX0_prove_35 : decode cX0_prove 35 = .ok (.aload_n 0, 1) := dk_42 (dk_at dksX0_prove_1 11 rfl rfl)
theorem dX0_prove_36 : decode cX0_prove 36 = .ok (.getfield 137, 3) := dk_180 0 137 (dk_at dksX0_prove_1 12 rfl rfl)
theorem dX0_prove_39 : decode cX0_prove 39 = .ok (.iload_n 2, 1) := dk_28 (dk_at dksX0_prove_1 15 rfl rfl)
theorem dX0_prove_40 : decode cX0_prove 40 = .ok (.invokevirtual 343, 3) := dk_182 1 87 (dk_at dksX0_prove_1 16 rfl rfl)
theorem dX0_prove_43 : decode cX0_prove 43 = .ok (.istore_n 3, 1) := dk_62 (dk_at dksX0_prove_1 19 rfl rfl)
theorem dX0_prove_44 : decode cX0_prove 44 = .ok (.aload_n 0, 1) := dk_42 (dk_at dksX0_prove_1 20 rfl rfl)
theorem dX0_prove_45 : decode cX0_prove 45 = .ok (.getfield 137, 3) := dk_180 0 137 (dk_at dksX0_prove_1 21 rfl rfl)
theorem dX0_prove_48 : decode cX0_prove 48 = .ok (.iload_n 2, 1) := dk_28 (dk_at dksX0_prove_2 0 rfl rfl)
theorem dX0_prove_49 : decode cX0_prove 49 = .ok (.invokestatic 250, 3) := dk_184 0 250 (dk_at dksX0_prove_2 1 rfl rfl)
theorem dX0_prove_52 : decode cX0_prove 52 = .ok (.ifCond .eq 61, 3) := dk_153 0 61 (dk_at dksX0_prove_2 4 rfl rfl)
theorem dX0_prove_55 : decode cX0_prove 55 = .ok (.aload_n 0, 1) := dk_42 (dk_at dksX0_prove_2 7 rfl rfl)
theorem dX0_prove_56 : decode cX0_prove 56 = .ok (.iload_n 3, 1) := dk_29 (dk_at dksX0_prove_2 8 rfl rfl)
theorem dX0_prove_57 : decode cX0_prove 57 = .ok (.invokevirtual 361, 3) := dk_182 1 105 (dk_at dksX0_prove_2 9 rfl rfl)
theorem dX0_prove_60 : decode cX0_prove 60 = .ok (.ifCond .eq 53, 3) := dk_153 0 53 (dk_at dksX0_prove_2 12 rfl rfl)
theorem dX0_prove_63 : decode cX0_prove 63 = .ok (.aload_n 0, 1) := dk_42 (dk_at dksX0_prove_2 15 rfl rfl)
theorem dX0_prove_64 : decode cX0_prove 64 = .ok (.getfield 137, 3) := dk_180 0 137 (dk_at dksX0_prove_2 16 rfl rfl)
theorem dX0_prove_67 : decode cX0_prove 67 = .ok (.iload_n 2, 1) := dk_28 (dk_at dksX0_prove_2 19 rfl rfl)
theorem dX0_prove_68 : decode cX0_prove 68 = .ok (.invokestatic 380, 3) := dk_184 1 124 (dk_at dksX0_prove_2 20 rfl rfl)
theorem dX0_prove_71 : decode cX0_prove 71 = .ok (.aload_n 0, 1) := dk_42 (dk_at dksX0_prove_2 23 rfl rfl)
theorem dX0_prove_72 : decode cX0_prove 72 = .ok (.getfield 203, 3) := dk_180 0 203 (dk_at dksX0_prove_3 0 rfl rfl)
theorem dX0_prove_75 : decode cX0_prove 75 = .ok (.aload_n 0, 1) := dk_42 (dk_at dksX0_prove_3 3 rfl rfl)
theorem dX0_prove_76 : decode cX0_prove 76 = .ok (.getfield 655, 3) := dk_180 2 143 (dk_at dksX0_prove_3 4 rfl rfl)
theorem dX0_prove_79 : decode cX0_prove 79 = .ok (.aload_n 0, 1) := dk_42 (dk_at dksX0_prove_3 7 rfl rfl)
theorem dX0_prove_80 : decode cX0_prove 80 = .ok (.aload_n 0, 1) := dk_42 (dk_at dksX0_prove_3 8 rfl rfl)
theorem dX0_prove_81 : decode cX0_prove 81 = .ok (.getfield 137, 3) := dk_180 0 137 (dk_at dksX0_prove_3 9 rfl rfl)
theorem dX0_prove_84 : decode cX0_prove 84 = .ok (.invokevirtual 296, 3) := dk_182 1 40 (dk_at dksX0_prove_3 12 rfl rfl)
theorem dX0_prove_87 : decode cX0_prove 87 = .ok (.iastore, 1) := dk_79 (dk_at dksX0_prove_3 15 rfl rfl)
theorem dX0_prove_88 : decode cX0_prove 88 = .ok (.aload_n 0, 1) := dk_42 (dk_at dksX0_prove_3 16 rfl rfl)
theorem dX0_prove_89 : decode cX0_prove 89 = .ok (.getfield 206, 3) := dk_180 0 206 (dk_at dksX0_prove_3 17 rfl rfl)
theorem dX0_prove_92 : decode cX0_prove 92 = .ok (.aload_n 0, 1) := dk_42 (dk_at dksX0_prove_3 20 rfl rfl)
theorem dX0_prove_93 : decode cX0_prove 93 = .ok (.getfield 655, 3) := dk_180 2 143 (dk_at dksX0_prove_3 21 rfl rfl)
theorem dX0_prove_96 : decode cX0_prove 96 = .ok (.iload_n 3, 1) := dk_29 (dk_at dksX0_prove_4 0 rfl rfl)
theorem dX0_prove_97 : decode cX0_prove 97 = .ok (.iastore, 1) := dk_79 (dk_at dksX0_prove_4 1 rfl rfl)
theorem dX0_prove_98 : decode cX0_prove 98 = .ok (.aload_n 0, 1) := dk_42 (dk_at dksX0_prove_4 2 rfl rfl)
theorem dX0_prove_99 : decode cX0_prove 99 = .ok (.dup, 1) := dk_89 (dk_at dksX0_prove_4 3 rfl rfl)
theorem dX0_prove_100 : decode cX0_prove 100 = .ok (.getfield 655, 3) := dk_180 2 143 (dk_at dksX0_prove_4 4 rfl rfl)
theorem dX0_prove_103 : decode cX0_prove 103 = .ok (.iconst 1, 1) := dk_4 (dk_at dksX0_prove_4 7 rfl rfl)
theorem dX0_prove_104 : decode cX0_prove 104 = .ok (.iadd, 1) := dk_96 (dk_at dksX0_prove_4 8 rfl rfl)
theorem dX0_prove_105 : decode cX0_prove 105 = .ok (.putfield 655, 3) := dk_181 2 143 (dk_at dksX0_prove_4 9 rfl rfl)
theorem dX0_prove_108 : decode cX0_prove 108 = .ok (.iconst 0, 1) := dk_3 (dk_at dksX0_prove_4 12 rfl rfl)
theorem dX0_prove_109 : decode cX0_prove 109 = .ok (.istore_n 2, 1) := dk_61 (dk_at dksX0_prove_4 13 rfl rfl)
theorem dX0_prove_110 : decode cX0_prove 110 = .ok (.goto 6, 3) := dk_167 0 6 (dk_at dksX0_prove_4 14 rfl rfl)
theorem dX0_prove_113 : decode cX0_prove 113 = .ok (.iinc 2 1, 3) := dk_132 2 1 (dk_at dksX0_prove_4 17 rfl rfl)
theorem dX0_prove_116 : decode cX0_prove 116 = .ok (.goto (-95), 3) := dk_167 255 161 (dk_at dksX0_prove_4 20 rfl rfl)
theorem dX0_prove_119 : decode cX0_prove 119 = .ok (.aload_n 0, 1) := dk_42 (dk_at dksX0_prove_4 23 rfl rfl)
theorem dX0_prove_120 : decode cX0_prove 120 = .ok (.getfield 655, 3) := dk_180 2 143 (dk_at dksX0_prove_5 0 rfl rfl)
theorem dX0_prove_123 : decode cX0_prove 123 = .ok (.ireturn, 1) := dk_172 (dk_at dksX0_prove_5 3 rfl rfl)
abbrev cX0_step : ByteArray := prog_1_method_120_code
def yX0_step : MethodName := ⟨RX0, "step", "(II)I"⟩
def dkwX0_step_1 : List UInt8 := [167, 0, 9, 42, 180, 0, 206, 27, 46, 172]
abbrev dktX0_step_1 : List UInt8 := dkwX0_step_1 ++ []
def dkwX0_step_0 : List UInt8 := [42, 27, 28, 182, 2, 146, 154, 0, 8, 16, 247, 167, 0, 22, 28, 154, 0, 12, 42, 180, 0, 203, 27, 46]
abbrev dktX0_step_0 : List UInt8 := dkwX0_step_0 ++ dktX0_step_1
theorem dksX0_step_0 : cX0_step.data.toList.drop 0 = dktX0_step_0 := by decide +kernel
theorem dksX0_step_1 : cX0_step.data.toList.drop 24 = dktX0_step_1 := dk_seg dksX0_step_0 24 rfl rfl
theorem dX0_step_0 : decode cX0_step 0 = .ok (.aload_n 0, 1) := dk_42 (dk_at dksX0_step_0 0 rfl rfl)
theorem dX0_step_1 : decode cX0_step 1 = .ok (.iload_n 1, 1) := dk_27 (dk_at dksX0_step_0 1 rfl rfl)
theorem dX0_step_2 : decode cX0_step 2 = .ok (.iload_n 2, 1) := dk_28 (dk_at dksX0_step_0 2 rfl rfl)
theorem dX0_step_3 : decode cX0_step 3 = .ok (.invokevirtual 658, 3) := dk_182 2 146 (dk_at dksX0_step_0 3 rfl rfl)
theorem dX0_step_6 : decode cX0_step 6 = .ok (.ifCond .ne 8, 3) := dk_154 0 8 (dk_at dksX0_step_0 6 rfl rfl)
theorem dX0_step_9 : decode cX0_step 9 = .ok (.bipush (-9), 2) := dk_16 247 (dk_at dksX0_step_0 9 rfl rfl)
theorem dX0_step_11 : decode cX0_step 11 = .ok (.goto 22, 3) := dk_167 0 22 (dk_at dksX0_step_0 11 rfl rfl)
theorem dX0_step_14 : decode cX0_step 14 = .ok (.iload_n 2, 1) := dk_28 (dk_at dksX0_step_0 14 rfl rfl)
theorem dX0_step_15 : decode cX0_step 15 = .ok (.ifCond .ne 12, 3) := dk_154 0 12 (dk_at dksX0_step_0 15 rfl rfl)
theorem dX0_step_18 : decode cX0_step 18 = .ok (.aload_n 0, 1) := dk_42 (dk_at dksX0_step_0 18 rfl rfl)
theorem dX0_step_19 : decode cX0_step 19 = .ok (.getfield 203, 3) := dk_180 0 203 (dk_at dksX0_step_0 19 rfl rfl)
theorem dX0_step_22 : decode cX0_step 22 = .ok (.iload_n 1, 1) := dk_27 (dk_at dksX0_step_0 22 rfl rfl)
theorem dX0_step_23 : decode cX0_step 23 = .ok (.iaload, 1) := dk_46 (dk_at dksX0_step_0 23 rfl rfl)
theorem dX0_step_24 : decode cX0_step 24 = .ok (.goto 9, 3) := dk_167 0 9 (dk_at dksX0_step_1 0 rfl rfl)
theorem dX0_step_27 : decode cX0_step 27 = .ok (.aload_n 0, 1) := dk_42 (dk_at dksX0_step_1 3 rfl rfl)
theorem dX0_step_28 : decode cX0_step 28 = .ok (.getfield 206, 3) := dk_180 0 206 (dk_at dksX0_step_1 4 rfl rfl)
theorem dX0_step_31 : decode cX0_step 31 = .ok (.iload_n 1, 1) := dk_27 (dk_at dksX0_step_1 7 rfl rfl)
theorem dX0_step_32 : decode cX0_step 32 = .ok (.iaload, 1) := dk_46 (dk_at dksX0_step_1 8 rfl rfl)
theorem dX0_step_33 : decode cX0_step 33 = .ok (.ireturn, 1) := dk_172 (dk_at dksX0_step_1 9 rfl rfl)
abbrev cX0_isStep : ByteArray := prog_1_method_119_code
def yX0_isStep : MethodName := ⟨RX0, "isStep", "(II)Z"⟩
def dkwX0_isStep_1 : List UInt8 := [167, 0, 4, 3, 172]
abbrev dktX0_isStep_1 : List UInt8 := dkwX0_isStep_1 ++ []
def dkwX0_isStep_0 : List UInt8 := [27, 3, 42, 180, 2, 143, 4, 100, 184, 0, 112, 153, 0, 16, 28, 3, 4, 184, 0, 112, 153, 0, 7, 4]
abbrev dktX0_isStep_0 : List UInt8 := dkwX0_isStep_0 ++ dktX0_isStep_1
theorem dksX0_isStep_0 : cX0_isStep.data.toList.drop 0 = dktX0_isStep_0 := by decide +kernel
theorem dksX0_isStep_1 : cX0_isStep.data.toList.drop 24 = dktX0_isStep_1 := dk_seg dksX0_isStep_0 24 rfl rfl
theorem dX0_isStep_0 : decode cX0_isStep 0 = .ok (.iload_n 1, 1) := dk_27 (dk_at dksX0_isStep_0 0 rfl rfl)
theorem dX0_isStep_1 : decode cX0_isStep 1 = .ok (.iconst 0, 1) := dk_3 (dk_at dksX0_isStep_0 1 rfl rfl)
theorem dX0_isStep_2 : decode cX0_isStep 2 = .ok (.aload_n 0, 1) := dk_42 (dk_at dksX0_isStep_0 2 rfl rfl)
theorem dX0_isStep_3 : decode cX0_isStep 3 = .ok (.getfield 655, 3) := dk_180 2 143 (dk_at dksX0_isStep_0 3 rfl rfl)
theorem dX0_isStep_6 : decode cX0_isStep 6 = .ok (.iconst 1, 1) := dk_4 (dk_at dksX0_isStep_0 6 rfl rfl)
theorem dX0_isStep_7 : decode cX0_isStep 7 = .ok (.isub, 1) := dk_100 (dk_at dksX0_isStep_0 7 rfl rfl)
theorem dX0_isStep_8 : decode cX0_isStep 8 = .ok (.invokestatic 112, 3) := dk_184 0 112 (dk_at dksX0_isStep_0 8 rfl rfl)
theorem dX0_isStep_11 : decode cX0_isStep 11 = .ok (.ifCond .eq 16, 3) := dk_153 0 16 (dk_at dksX0_isStep_0 11 rfl rfl)
theorem dX0_isStep_14 : decode cX0_isStep 14 = .ok (.iload_n 2, 1) := dk_28 (dk_at dksX0_isStep_0 14 rfl rfl)
theorem dX0_isStep_15 : decode cX0_isStep 15 = .ok (.iconst 0, 1) := dk_3 (dk_at dksX0_isStep_0 15 rfl rfl)
theorem dX0_isStep_16 : decode cX0_isStep 16 = .ok (.iconst 1, 1) := dk_4 (dk_at dksX0_isStep_0 16 rfl rfl)
theorem dX0_isStep_17 : decode cX0_isStep 17 = .ok (.invokestatic 112, 3) := dk_184 0 112 (dk_at dksX0_isStep_0 17 rfl rfl)
theorem dX0_isStep_20 : decode cX0_isStep 20 = .ok (.ifCond .eq 7, 3) := dk_153 0 7 (dk_at dksX0_isStep_0 20 rfl rfl)
theorem dX0_isStep_23 : decode cX0_isStep 23 = .ok (.iconst 1, 1) := dk_4 (dk_at dksX0_isStep_0 23 rfl rfl)
theorem dX0_isStep_24 : decode cX0_isStep 24 = .ok (.goto 4, 3) := dk_167 0 4 (dk_at dksX0_isStep_1 0 rfl rfl)
theorem dX0_isStep_27 : decode cX0_isStep 27 = .ok (.iconst 0, 1) := dk_3 (dk_at dksX0_isStep_1 3 rfl rfl)
theorem dX0_isStep_28 : decode cX0_isStep 28 = .ok (.ireturn, 1) := dk_172 (dk_at dksX0_isStep_1 4 rfl rfl)
abbrev cX0_alterStep : ByteArray := prog_1_method_121_code
def yX0_alterStep : MethodName := ⟨RX0, "alterStep", "(III)I"⟩
def dkwX0_alterStep_1 : List UInt8 := [180, 0, 206, 58, 4, 25, 4, 27, 46, 54, 5, 25, 4, 27, 29, 79, 21, 5, 172]
abbrev dktX0_alterStep_1 : List UInt8 := dkwX0_alterStep_1 ++ []
def dkwX0_alterStep_0 : List UInt8 := [42, 27, 28, 182, 2, 146, 154, 0, 6, 16, 247, 172, 28, 154, 0, 10, 42, 180, 0, 203, 167, 0, 7, 42]
abbrev dktX0_alterStep_0 : List UInt8 := dkwX0_alterStep_0 ++ dktX0_alterStep_1
theorem dksX0_alterStep_0 : cX0_alterStep.data.toList.drop 0 = dktX0_alterStep_0 := by decide +kernel
theorem dksX0_alterStep_1 : cX0_alterStep.data.toList.drop 24 = dktX0_alterStep_1 := dk_seg dksX0_alterStep_0 24 rfl rfl
theorem dX0_alterStep_0 : decode cX0_alterStep 0 = .ok (.aload_n 0, 1) := dk_42 (dk_at dksX0_alterStep_0 0 rfl rfl)
theorem dX0_alterStep_1 : decode cX0_alterStep 1 = .ok (.iload_n 1, 1) := dk_27 (dk_at dksX0_alterStep_0 1 rfl rfl)
theorem dX0_alterStep_2 : decode cX0_alterStep 2 = .ok (.iload_n 2, 1) := dk_28 (dk_at dksX0_alterStep_0 2 rfl rfl)
theorem dX0_alterStep_3 : decode cX0_alterStep 3 = .ok (.invokevirtual 658, 3) := dk_182 2 146 (dk_at dksX0_alterStep_0 3 rfl rfl)
theorem dX0_alterStep_6 : decode cX0_alterStep 6 = .ok (.ifCond .ne 6, 3) := dk_154 0 6 (dk_at dksX0_alterStep_0 6 rfl rfl)
theorem dX0_alterStep_9 : decode cX0_alterStep 9 = .ok (.bipush (-9), 2) := dk_16 247 (dk_at dksX0_alterStep_0 9 rfl rfl)
theorem dX0_alterStep_11 : decode cX0_alterStep 11 = .ok (.ireturn, 1) := dk_172 (dk_at dksX0_alterStep_0 11 rfl rfl)
theorem dX0_alterStep_12 : decode cX0_alterStep 12 = .ok (.iload_n 2, 1) := dk_28 (dk_at dksX0_alterStep_0 12 rfl rfl)
theorem dX0_alterStep_13 : decode cX0_alterStep 13 = .ok (.ifCond .ne 10, 3) := dk_154 0 10 (dk_at dksX0_alterStep_0 13 rfl rfl)
theorem dX0_alterStep_16 : decode cX0_alterStep 16 = .ok (.aload_n 0, 1) := dk_42 (dk_at dksX0_alterStep_0 16 rfl rfl)
theorem dX0_alterStep_17 : decode cX0_alterStep 17 = .ok (.getfield 203, 3) := dk_180 0 203 (dk_at dksX0_alterStep_0 17 rfl rfl)
theorem dX0_alterStep_20 : decode cX0_alterStep 20 = .ok (.goto 7, 3) := dk_167 0 7 (dk_at dksX0_alterStep_0 20 rfl rfl)
theorem dX0_alterStep_23 : decode cX0_alterStep 23 = .ok (.aload_n 0, 1) := dk_42 (dk_at dksX0_alterStep_0 23 rfl rfl)
theorem dX0_alterStep_24 : decode cX0_alterStep 24 = .ok (.getfield 206, 3) := dk_180 0 206 (dk_at dksX0_alterStep_1 0 rfl rfl)
theorem dX0_alterStep_27 : decode cX0_alterStep 27 = .ok (.astore 4, 2) := dk_58 4 (dk_at dksX0_alterStep_1 3 rfl rfl)
theorem dX0_alterStep_29 : decode cX0_alterStep 29 = .ok (.aload 4, 2) := dk_25 4 (dk_at dksX0_alterStep_1 5 rfl rfl)
theorem dX0_alterStep_31 : decode cX0_alterStep 31 = .ok (.iload_n 1, 1) := dk_27 (dk_at dksX0_alterStep_1 7 rfl rfl)
theorem dX0_alterStep_32 : decode cX0_alterStep 32 = .ok (.iaload, 1) := dk_46 (dk_at dksX0_alterStep_1 8 rfl rfl)
theorem dX0_alterStep_33 : decode cX0_alterStep 33 = .ok (.istore 5, 2) := dk_54 5 (dk_at dksX0_alterStep_1 9 rfl rfl)
theorem dX0_alterStep_35 : decode cX0_alterStep 35 = .ok (.aload 4, 2) := dk_25 4 (dk_at dksX0_alterStep_1 11 rfl rfl)
theorem dX0_alterStep_37 : decode cX0_alterStep 37 = .ok (.iload_n 1, 1) := dk_27 (dk_at dksX0_alterStep_1 13 rfl rfl)
theorem dX0_alterStep_38 : decode cX0_alterStep 38 = .ok (.iload_n 3, 1) := dk_29 (dk_at dksX0_alterStep_1 14 rfl rfl)
theorem dX0_alterStep_39 : decode cX0_alterStep 39 = .ok (.iastore, 1) := dk_79 (dk_at dksX0_alterStep_1 15 rfl rfl)
theorem dX0_alterStep_40 : decode cX0_alterStep 40 = .ok (.iload 5, 2) := dk_21 5 (dk_at dksX0_alterStep_1 16 rfl rfl)
theorem dX0_alterStep_42 : decode cX0_alterStep 42 = .ok (.ireturn, 1) := dk_172 (dk_at dksX0_alterStep_1 18 rfl rfl)
abbrev cX0_judge : ByteArray := prog_1_method_123_code
def yX0_judge : MethodName := ⟨RX0, "judge", "(I)I"⟩
def dkwX0_judge_2 : List UInt8 := [4, 96, 172, 132, 2, 1, 167, 255, 218, 3, 172]
abbrev dktX0_judge_2 : List UInt8 := dkwX0_judge_2 ++ []
def dkwX0_judge_1 : List UInt8 := [42, 42, 180, 0, 137, 42, 180, 0, 203, 28, 46, 42, 180, 0, 206, 28, 46, 182, 2, 149, 154, 0, 7, 28]
abbrev dktX0_judge_1 : List UInt8 := dkwX0_judge_1 ++ dktX0_judge_2
def dkwX0_judge_0 : List UInt8 := [42, 27, 42, 180, 0, 137, 182, 0, 236, 154, 0, 5, 2, 172, 3, 61, 28, 42, 180, 2, 143, 162, 0, 36]
abbrev dktX0_judge_0 : List UInt8 := dkwX0_judge_0 ++ dktX0_judge_1
theorem dksX0_judge_0 : cX0_judge.data.toList.drop 0 = dktX0_judge_0 := by decide +kernel
theorem dksX0_judge_1 : cX0_judge.data.toList.drop 24 = dktX0_judge_1 := dk_seg dksX0_judge_0 24 rfl rfl
theorem dksX0_judge_2 : cX0_judge.data.toList.drop 48 = dktX0_judge_2 := dk_seg dksX0_judge_1 24 rfl rfl
theorem dX0_judge_0 : decode cX0_judge 0 = .ok (.aload_n 0, 1) := dk_42 (dk_at dksX0_judge_0 0 rfl rfl)
theorem dX0_judge_1 : decode cX0_judge 1 = .ok (.iload_n 1, 1) := dk_27 (dk_at dksX0_judge_0 1 rfl rfl)
theorem dX0_judge_2 : decode cX0_judge 2 = .ok (.aload_n 0, 1) := dk_42 (dk_at dksX0_judge_0 2 rfl rfl)
theorem dX0_judge_3 : decode cX0_judge 3 = .ok (.getfield 137, 3) := dk_180 0 137 (dk_at dksX0_judge_0 3 rfl rfl)
theorem dX0_judge_6 : decode cX0_judge 6 = .ok (.invokevirtual 236, 3) := dk_182 0 236 (dk_at dksX0_judge_0 6 rfl rfl)
theorem dX0_judge_9 : decode cX0_judge 9 = .ok (.ifCond .ne 5, 3) := dk_154 0 5 (dk_at dksX0_judge_0 9 rfl rfl)
theorem dX0_judge_12 : decode cX0_judge 12 = .ok (.iconst (-1), 1) := dk_2 (dk_at dksX0_judge_0 12 rfl rfl)
theorem dX0_judge_13 : decode cX0_judge 13 = .ok (.ireturn, 1) := dk_172 (dk_at dksX0_judge_0 13 rfl rfl)
theorem dX0_judge_14 : decode cX0_judge 14 = .ok (.iconst 0, 1) := dk_3 (dk_at dksX0_judge_0 14 rfl rfl)
theorem dX0_judge_15 : decode cX0_judge 15 = .ok (.istore_n 2, 1) := dk_61 (dk_at dksX0_judge_0 15 rfl rfl)
theorem dX0_judge_16 : decode cX0_judge 16 = .ok (.iload_n 2, 1) := dk_28 (dk_at dksX0_judge_0 16 rfl rfl)
theorem dX0_judge_17 : decode cX0_judge 17 = .ok (.aload_n 0, 1) := dk_42 (dk_at dksX0_judge_0 17 rfl rfl)
theorem dX0_judge_18 : decode cX0_judge 18 = .ok (.getfield 655, 3) := dk_180 2 143 (dk_at dksX0_judge_0 18 rfl rfl)
theorem dX0_judge_21 : decode cX0_judge 21 = .ok (.if_icmp .ge 36, 3) := dk_162 0 36 (dk_at dksX0_judge_0 21 rfl rfl)
theorem dX0_judge_24 : decode cX0_judge 24 = .ok (.aload_n 0, 1) := dk_42 (dk_at dksX0_judge_1 0 rfl rfl)
theorem dX0_judge_25 : decode cX0_judge 25 = .ok (.aload_n 0, 1) := dk_42 (dk_at dksX0_judge_1 1 rfl rfl)
theorem dX0_judge_26 : decode cX0_judge 26 = .ok (.getfield 137, 3) := dk_180 0 137 (dk_at dksX0_judge_1 2 rfl rfl)
theorem dX0_judge_29 : decode cX0_judge 29 = .ok (.aload_n 0, 1) := dk_42 (dk_at dksX0_judge_1 5 rfl rfl)
theorem dX0_judge_30 : decode cX0_judge 30 = .ok (.getfield 203, 3) := dk_180 0 203 (dk_at dksX0_judge_1 6 rfl rfl)
theorem dX0_judge_33 : decode cX0_judge 33 = .ok (.iload_n 2, 1) := dk_28 (dk_at dksX0_judge_1 9 rfl rfl)
theorem dX0_judge_34 : decode cX0_judge 34 = .ok (.iaload, 1) := dk_46 (dk_at dksX0_judge_1 10 rfl rfl)
theorem dX0_judge_35 : decode cX0_judge 35 = .ok (.aload_n 0, 1) := dk_42 (dk_at dksX0_judge_1 11 rfl rfl)
theorem dX0_judge_36 : decode cX0_judge 36 = .ok (.getfield 206, 3) := dk_180 0 206 (dk_at dksX0_judge_1 12 rfl rfl)
theorem dX0_judge_39 : decode cX0_judge 39 = .ok (.iload_n 2, 1) := dk_28 (dk_at dksX0_judge_1 15 rfl rfl)
theorem dX0_judge_40 : decode cX0_judge 40 = .ok (.iaload, 1) := dk_46 (dk_at dksX0_judge_1 16 rfl rfl)
theorem dX0_judge_41 : decode cX0_judge 41 = .ok (.invokevirtual 661, 3) := dk_182 2 149 (dk_at dksX0_judge_1 17 rfl rfl)
theorem dX0_judge_44 : decode cX0_judge 44 = .ok (.ifCond .ne 7, 3) := dk_154 0 7 (dk_at dksX0_judge_1 20 rfl rfl)
theorem dX0_judge_47 : decode cX0_judge 47 = .ok (.iload_n 2, 1) := dk_28 (dk_at dksX0_judge_1 23 rfl rfl)
theorem dX0_judge_48 : decode cX0_judge 48 = .ok (.iconst 1, 1) := dk_4 (dk_at dksX0_judge_2 0 rfl rfl)
theorem dX0_judge_49 : decode cX0_judge 49 = .ok (.iadd, 1) := dk_96 (dk_at dksX0_judge_2 1 rfl rfl)
theorem dX0_judge_50 : decode cX0_judge 50 = .ok (.ireturn, 1) := dk_172 (dk_at dksX0_judge_2 2 rfl rfl)
theorem dX0_judge_51 : decode cX0_judge 51 = .ok (.iinc 2 1, 3) := dk_132 2 1 (dk_at dksX0_judge_2 3 rfl rfl)
theorem dX0_judge_54 : decode cX0_judge 54 = .ok (.goto (-38), 3) := dk_167 255 218 (dk_at dksX0_judge_2 6 rfl rfl)
theorem dX0_judge_57 : decode cX0_judge 57 = .ok (.iconst 0, 1) := dk_3 (dk_at dksX0_judge_2 9 rfl rfl)
theorem dX0_judge_58 : decode cX0_judge 58 = .ok (.ireturn, 1) := dk_172 (dk_at dksX0_judge_2 10 rfl rfl)
abbrev cX0_isRight : ByteArray := prog_1_method_122_code
def yX0_isRight : MethodName := ⟨RX0, "isRight", "([BII)Z"⟩
def dkwX0_isRight_3 : List UInt8 := [132, 4, 1, 167, 255, 187, 3, 172]
abbrev dktX0_isRight_3 : List UInt8 := dkwX0_isRight_3 ++ []
def dkwX0_isRight_2 : List UInt8 := [167, 0, 24, 43, 21, 4, 184, 1, 124, 42, 43, 182, 1, 40, 28, 160, 0, 7, 4, 167, 0, 4, 3, 172]
abbrev dktX0_isRight_2 : List UInt8 := dkwX0_isRight_2 ++ dktX0_isRight_3
def dkwX0_isRight_1 : List UInt8 := [153, 0, 46, 42, 43, 21, 4, 182, 1, 87, 29, 160, 0, 35, 42, 29, 182, 1, 105, 154, 0, 6]
abbrev dktX0_isRight_1 : List UInt8 := dkwX0_isRight_1 ++ dktX0_isRight_2
def dkwX0_isRight_0 : List UInt8 := [3, 54, 4, 21, 4, 4, 96, 42, 180, 0, 34, 180, 0, 38, 162, 0, 61, 43, 21, 4, 184, 0, 250]
abbrev dktX0_isRight_0 : List UInt8 := dkwX0_isRight_0 ++ dktX0_isRight_1
theorem dksX0_isRight_0 : cX0_isRight.data.toList.drop 0 = dktX0_isRight_0 := by decide +kernel
theorem dksX0_isRight_1 : cX0_isRight.data.toList.drop 23 = dktX0_isRight_1 := dk_seg dksX0_isRight_0 23 rfl rfl
theorem dksX0_isRight_2 : cX0_isRight.data.toList.drop 45 = dktX0_isRight_2 := dk_seg dksX0_isRight_1 22 rfl rfl
theorem dksX0_isRight_3 : cX0_isRight.data.toList.drop 69 = dktX0_isRight_3 := dk_seg dksX0_isRight_2 24 rfl rfl
theorem dX0_isRight_0 : decode cX0_isRight 0 = .ok (.iconst 0, 1) := dk_3 (dk_at dksX0_isRight_0 0 rfl rfl)
theorem dX0_isRight_1 : decode cX0_isRight 1 = .ok (.istore 4, 2) := dk_54 4 (dk_at dksX0_isRight_0 1 rfl rfl)
theorem dX0_isRight_3 : decode cX0_isRight 3 = .ok (.iload 4, 2) := dk_21 4 (dk_at dksX0_isRight_0 3 rfl rfl)
theorem dX0_isRight_5 : decode cX0_isRight 5 = .ok (.iconst 1, 1) := dk_4 (dk_at dksX0_isRight_0 5 rfl rfl)
theorem dX0_isRight_6 : decode cX0_isRight 6 = .ok (.iadd, 1) := dk_96 (dk_at dksX0_isRight_0 6 rfl rfl)
theorem dX0_isRight_7 : decode cX0_isRight 7 = .ok (.aload_n 0, 1) := dk_42 (dk_at dksX0_isRight_0 7 rfl rfl)
theorem dX0_isRight_8 : decode cX0_isRight 8 = .ok (.getfield 34, 3) := dk_180 0 34 (dk_at dksX0_isRight_0 8 rfl rfl)
theorem dX0_isRight_11 : decode cX0_isRight 11 = .ok (.getfield 38, 3) := dk_180 0 38 (dk_at dksX0_isRight_0 11 rfl rfl)
theorem dX0_isRight_14 : decode cX0_isRight 14 = .ok (.if_icmp .ge 61, 3) := dk_162 0 61 (dk_at dksX0_isRight_0 14 rfl rfl)
theorem dX0_isRight_17 : decode cX0_isRight 17 = .ok (.aload_n 1, 1) := dk_43 (dk_at dksX0_isRight_0 17 rfl rfl)
theorem dX0_isRight_18 : decode cX0_isRight 18 = .ok (.iload 4, 2) := dk_21 4 (dk_at dksX0_isRight_0 18 rfl rfl)
theorem dX0_isRight_20 : decode cX0_isRight 20 = .ok (.invokestatic 250, 3) := dk_184 0 250 (dk_at dksX0_isRight_0 20 rfl rfl)
theorem dX0_isRight_23 : decode cX0_isRight 23 = .ok (.ifCond .eq 46, 3) := dk_153 0 46 (dk_at dksX0_isRight_1 0 rfl rfl)
theorem dX0_isRight_26 : decode cX0_isRight 26 = .ok (.aload_n 0, 1) := dk_42 (dk_at dksX0_isRight_1 3 rfl rfl)
theorem dX0_isRight_27 : decode cX0_isRight 27 = .ok (.aload_n 1, 1) := dk_43 (dk_at dksX0_isRight_1 4 rfl rfl)
theorem dX0_isRight_28 : decode cX0_isRight 28 = .ok (.iload 4, 2) := dk_21 4 (dk_at dksX0_isRight_1 5 rfl rfl)
theorem dX0_isRight_30 : decode cX0_isRight 30 = .ok (.invokevirtual 343, 3) := dk_182 1 87 (dk_at dksX0_isRight_1 7 rfl rfl)
theorem dX0_isRight_33 : decode cX0_isRight 33 = .ok (.iload_n 3, 1) := dk_29 (dk_at dksX0_isRight_1 10 rfl rfl)
theorem dX0_isRight_34 : decode cX0_isRight 34 = .ok (.if_icmp .ne 35, 3) := dk_160 0 35 (dk_at dksX0_isRight_1 11 rfl rfl)
theorem dX0_isRight_37 : decode cX0_isRight 37 = .ok (.aload_n 0, 1) := dk_42 (dk_at dksX0_isRight_1 14 rfl rfl)
theorem dX0_isRight_38 : decode cX0_isRight 38 = .ok (.iload_n 3, 1) := dk_29 (dk_at dksX0_isRight_1 15 rfl rfl)
theorem dX0_isRight_39 : decode cX0_isRight 39 = .ok (.invokevirtual 361, 3) := dk_182 1 105 (dk_at dksX0_isRight_1 16 rfl rfl)
theorem dX0_isRight_42 : decode cX0_isRight 42 = .ok (.ifCond .ne 6, 3) := dk_154 0 6 (dk_at dksX0_isRight_1 19 rfl rfl)
theorem dX0_isRight_45 : decode cX0_isRight 45 = .ok (.goto 24, 3) := dk_167 0 24 (dk_at dksX0_isRight_2 0 rfl rfl)
theorem dX0_isRight_48 : decode cX0_isRight 48 = .ok (.aload_n 1, 1) := dk_43 (dk_at dksX0_isRight_2 3 rfl rfl)
theorem dX0_isRight_49 : decode cX0_isRight 49 = .ok (.iload 4, 2) := dk_21 4 (dk_at dksX0_isRight_2 4 rfl rfl)
theorem dX0_isRight_51 : decode cX0_isRight 51 = .ok (.invokestatic 380, 3) := dk_184 1 124 (dk_at dksX0_isRight_2 6 rfl rfl)
theorem dX0_isRight_54 : decode cX0_isRight 54 = .ok (.aload_n 0, 1) := dk_42 (dk_at dksX0_isRight_2 9 rfl rfl)
theorem dX0_isRight_55 : decode cX0_isRight 55 = .ok (.aload_n 1, 1) := dk_43 (dk_at dksX0_isRight_2 10 rfl rfl)
theorem dX0_isRight_56 : decode cX0_isRight 56 = .ok (.invokevirtual 296, 3) := dk_182 1 40 (dk_at dksX0_isRight_2 11 rfl rfl)
theorem dX0_isRight_59 : decode cX0_isRight 59 = .ok (.iload_n 2, 1) := dk_28 (dk_at dksX0_isRight_2 14 rfl rfl)
theorem dX0_isRight_60 : decode cX0_isRight 60 = .ok (.if_icmp .ne 7, 3) := dk_160 0 7 (dk_at dksX0_isRight_2 15 rfl rfl)
theorem dX0_isRight_63 : decode cX0_isRight 63 = .ok (.iconst 1, 1) := dk_4 (dk_at dksX0_isRight_2 18 rfl rfl)
theorem dX0_isRight_64 : decode cX0_isRight 64 = .ok (.goto 4, 3) := dk_167 0 4 (dk_at dksX0_isRight_2 19 rfl rfl)
theorem dX0_isRight_67 : decode cX0_isRight 67 = .ok (.iconst 0, 1) := dk_3 (dk_at dksX0_isRight_2 22 rfl rfl)
theorem dX0_isRight_68 : decode cX0_isRight 68 = .ok (.ireturn, 1) := dk_172 (dk_at dksX0_isRight_2 23 rfl rfl)
theorem dX0_isRight_69 : decode cX0_isRight 69 = .ok (.iinc 4 1, 3) := dk_132 4 1 (dk_at dksX0_isRight_3 0 rfl rfl)
theorem dX0_isRight_72 : decode cX0_isRight 72 = .ok (.goto (-69), 3) := dk_167 255 187 (dk_at dksX0_isRight_3 3 rfl rfl)
theorem dX0_isRight_75 : decode cX0_isRight 75 = .ok (.iconst 0, 1) := dk_3 (dk_at dksX0_isRight_3 6 rfl rfl)
theorem dX0_isRight_76 : decode cX0_isRight 76 = .ok (.ireturn, 1) := dk_172 (dk_at dksX0_isRight_3 7 rfl rfl)
abbrev cX0_sheet : ByteArray := prog_1_method_126_code
def yX0_sheet : MethodName := ⟨RX0, "sheet", "(III)I"⟩
def dkwX0_sheet_2 : List UInt8 := [181, 2, 120, 4, 172, 58, 4, 16, 242, 172]
abbrev dktX0_sheet_2 : List UInt8 := dkwX0_sheet_2 ++ []
def dkwX0_sheet_1 : List UInt8 := [164, 0, 5, 2, 172, 42, 180, 0, 215, 27, 50, 28, 156, 0, 7, 1, 167, 0, 8, 28, 29, 184, 2, 152]
abbrev dktX0_sheet_1 : List UInt8 := dkwX0_sheet_1 ++ dktX0_sheet_2
def dkwX0_sheet_0 : List UInt8 := [27, 184, 2, 117, 153, 0, 22, 28, 2, 6, 184, 0, 112, 153, 0, 13, 28, 155, 0, 11, 29, 16, 40]
abbrev dktX0_sheet_0 : List UInt8 := dkwX0_sheet_0 ++ dktX0_sheet_1
theorem dksX0_sheet_0 : cX0_sheet.data.toList.drop 0 = dktX0_sheet_0 := by decide +kernel
theorem dksX0_sheet_1 : cX0_sheet.data.toList.drop 23 = dktX0_sheet_1 := dk_seg dksX0_sheet_0 23 rfl rfl
theorem dksX0_sheet_2 : cX0_sheet.data.toList.drop 47 = dktX0_sheet_2 := dk_seg dksX0_sheet_1 24 rfl rfl
theorem dX0_sheet_0 : decode cX0_sheet 0 = .ok (.iload_n 1, 1) := dk_27 (dk_at dksX0_sheet_0 0 rfl rfl)
theorem dX0_sheet_1 : decode cX0_sheet 1 = .ok (.invokestatic 629, 3) := dk_184 2 117 (dk_at dksX0_sheet_0 1 rfl rfl)
theorem dX0_sheet_4 : decode cX0_sheet 4 = .ok (.ifCond .eq 22, 3) := dk_153 0 22 (dk_at dksX0_sheet_0 4 rfl rfl)
theorem dX0_sheet_7 : decode cX0_sheet 7 = .ok (.iload_n 2, 1) := dk_28 (dk_at dksX0_sheet_0 7 rfl rfl)
theorem dX0_sheet_8 : decode cX0_sheet 8 = .ok (.iconst (-1), 1) := dk_2 (dk_at dksX0_sheet_0 8 rfl rfl)
theorem dX0_sheet_9 : decode cX0_sheet 9 = .ok (.iconst 3, 1) := dk_6 (dk_at dksX0_sheet_0 9 rfl rfl)
theorem dX0_sheet_10 : decode cX0_sheet 10 = .ok (.invokestatic 112, 3) := dk_184 0 112 (dk_at dksX0_sheet_0 10 rfl rfl)
theorem dX0_sheet_13 : decode cX0_sheet 13 = .ok (.ifCond .eq 13, 3) := dk_153 0 13 (dk_at dksX0_sheet_0 13 rfl rfl)
theorem dX0_sheet_16 : decode cX0_sheet 16 = .ok (.iload_n 2, 1) := dk_28 (dk_at dksX0_sheet_0 16 rfl rfl)
theorem dX0_sheet_17 : decode cX0_sheet 17 = .ok (.ifCond .lt 11, 3) := dk_155 0 11 (dk_at dksX0_sheet_0 17 rfl rfl)
theorem dX0_sheet_20 : decode cX0_sheet 20 = .ok (.iload_n 3, 1) := dk_29 (dk_at dksX0_sheet_0 20 rfl rfl)
theorem dX0_sheet_21 : decode cX0_sheet 21 = .ok (.bipush 40, 2) := dk_16 40 (dk_at dksX0_sheet_0 21 rfl rfl)
theorem dX0_sheet_23 : decode cX0_sheet 23 = .ok (.if_icmp .le 5, 3) := dk_164 0 5 (dk_at dksX0_sheet_1 0 rfl rfl)
theorem dX0_sheet_26 : decode cX0_sheet 26 = .ok (.iconst (-1), 1) := dk_2 (dk_at dksX0_sheet_1 3 rfl rfl)
theorem dX0_sheet_27 : decode cX0_sheet 27 = .ok (.ireturn, 1) := dk_172 (dk_at dksX0_sheet_1 4 rfl rfl)
theorem dX0_sheet_28 : decode cX0_sheet 28 = .ok (.aload_n 0, 1) := dk_42 (dk_at dksX0_sheet_1 5 rfl rfl)
theorem dX0_sheet_29 : decode cX0_sheet 29 = .ok (.getfield 215, 3) := dk_180 0 215 (dk_at dksX0_sheet_1 6 rfl rfl)
theorem dX0_sheet_32 : decode cX0_sheet 32 = .ok (.iload_n 1, 1) := dk_27 (dk_at dksX0_sheet_1 9 rfl rfl)
theorem dX0_sheet_33 : decode cX0_sheet 33 = .ok (.aaload, 1) := dk_50 (dk_at dksX0_sheet_1 10 rfl rfl)
theorem dX0_sheet_34 : decode cX0_sheet 34 = .ok (.iload_n 2, 1) := dk_28 (dk_at dksX0_sheet_1 11 rfl rfl)
theorem dX0_sheet_35 : decode cX0_sheet 35 = .ok (.ifCond .ge 7, 3) := dk_156 0 7 (dk_at dksX0_sheet_1 12 rfl rfl)
theorem dX0_sheet_38 : decode cX0_sheet 38 = .ok (.aconst_null, 1) := dk_1 (dk_at dksX0_sheet_1 15 rfl rfl)
theorem dX0_sheet_39 : decode cX0_sheet 39 = .ok (.goto 8, 3) := dk_167 0 8 (dk_at dksX0_sheet_1 16 rfl rfl)
theorem dX0_sheet_42 : decode cX0_sheet 42 = .ok (.iload_n 2, 1) := dk_28 (dk_at dksX0_sheet_1 19 rfl rfl)
theorem dX0_sheet_43 : decode cX0_sheet 43 = .ok (.iload_n 3, 1) := dk_29 (dk_at dksX0_sheet_1 20 rfl rfl)
theorem dX0_sheet_44 : decode cX0_sheet 44 = .ok (.invokestatic 664, 3) := dk_184 2 152 (dk_at dksX0_sheet_1 21 rfl rfl)
theorem dX0_sheet_47 : decode cX0_sheet 47 = .ok (.putfield 632, 3) := dk_181 2 120 (dk_at dksX0_sheet_2 0 rfl rfl)
theorem dX0_sheet_50 : decode cX0_sheet 50 = .ok (.iconst 1, 1) := dk_4 (dk_at dksX0_sheet_2 3 rfl rfl)
theorem dX0_sheet_51 : decode cX0_sheet 51 = .ok (.ireturn, 1) := dk_172 (dk_at dksX0_sheet_2 4 rfl rfl)
theorem dX0_sheet_52 : decode cX0_sheet 52 = .ok (.astore 4, 2) := dk_58 4 (dk_at dksX0_sheet_2 5 rfl rfl)
theorem dX0_sheet_54 : decode cX0_sheet 54 = .ok (.bipush (-14), 2) := dk_16 242 (dk_at dksX0_sheet_2 7 rfl rfl)
theorem dX0_sheet_56 : decode cX0_sheet 56 = .ok (.ireturn, 1) := dk_172 (dk_at dksX0_sheet_2 9 rfl rfl)
abbrev cX0_rowOfSort : ByteArray := prog_1_method_125_code
def yX0_rowOfSort : MethodName := ⟨RX0, "rowOfSort", "(II)Ljava/lang/Object;"⟩
def dkwX0_rowOfSort_2 : List UInt8 := [27, 188, 8, 176, 27, 188, 9, 176, 27, 188, 10, 176, 27, 188, 11, 176]
abbrev dktX0_rowOfSort_2 : List UInt8 := dkwX0_rowOfSort_2 ++ []
def dkwX0_rowOfSort_1 : List UInt8 := [170, 0, 0, 0, 0, 0, 39, 0, 0, 0, 0, 0, 0, 0, 2, 0, 0, 0, 27, 0, 0, 0, 31, 0, 0, 0, 35]
abbrev dktX0_rowOfSort_1 : List UInt8 := dkwX0_rowOfSort_1 ++ dktX0_rowOfSort_2
def dkwX0_rowOfSort_0 : List UInt8 := [26]
abbrev dktX0_rowOfSort_0 : List UInt8 := dkwX0_rowOfSort_0 ++ dktX0_rowOfSort_1
theorem dksX0_rowOfSort_0 : cX0_rowOfSort.data.toList.drop 0 = dktX0_rowOfSort_0 := by decide +kernel
theorem dksX0_rowOfSort_1 : cX0_rowOfSort.data.toList.drop 1 = dktX0_rowOfSort_1 := dk_seg dksX0_rowOfSort_0 1 rfl rfl
theorem dksX0_rowOfSort_2 : cX0_rowOfSort.data.toList.drop 28 = dktX0_rowOfSort_2 := dk_seg dksX0_rowOfSort_1 27 rfl rfl
theorem dX0_rowOfSort_0 : decode cX0_rowOfSort 0 = .ok (.iload_n 0, 1) := dk_26 (dk_at dksX0_rowOfSort_0 0 rfl rfl)
theorem dX0_rowOfSort_1 : decode cX0_rowOfSort 1 = .ok (.tableswitch 39 0 2 #[27, 31, 35], 27) := by decide +kernel
theorem dX0_rowOfSort_28 : decode cX0_rowOfSort 28 = .ok (.iload_n 1, 1) := dk_27 (dk_at dksX0_rowOfSort_2 0 rfl rfl)
theorem dX0_rowOfSort_29 : decode cX0_rowOfSort 29 = .ok (.newarray .byte, 2) := dk_188_8 (dk_at dksX0_rowOfSort_2 1 rfl rfl)
theorem dX0_rowOfSort_31 : decode cX0_rowOfSort 31 = .ok (.areturn, 1) := dk_176 (dk_at dksX0_rowOfSort_2 3 rfl rfl)
theorem dX0_rowOfSort_32 : decode cX0_rowOfSort 32 = .ok (.iload_n 1, 1) := dk_27 (dk_at dksX0_rowOfSort_2 4 rfl rfl)
theorem dX0_rowOfSort_33 : decode cX0_rowOfSort 33 = .ok (.newarray .short, 2) := dk_188_9 (dk_at dksX0_rowOfSort_2 5 rfl rfl)
theorem dX0_rowOfSort_35 : decode cX0_rowOfSort 35 = .ok (.areturn, 1) := dk_176 (dk_at dksX0_rowOfSort_2 7 rfl rfl)
theorem dX0_rowOfSort_36 : decode cX0_rowOfSort 36 = .ok (.iload_n 1, 1) := dk_27 (dk_at dksX0_rowOfSort_2 8 rfl rfl)
theorem dX0_rowOfSort_37 : decode cX0_rowOfSort 37 = .ok (.newarray .int, 2) := dk_188_10 (dk_at dksX0_rowOfSort_2 9 rfl rfl)
theorem dX0_rowOfSort_39 : decode cX0_rowOfSort 39 = .ok (.areturn, 1) := dk_176 (dk_at dksX0_rowOfSort_2 11 rfl rfl)
theorem dX0_rowOfSort_40 : decode cX0_rowOfSort 40 = .ok (.iload_n 1, 1) := dk_27 (dk_at dksX0_rowOfSort_2 12 rfl rfl)
theorem dX0_rowOfSort_41 : decode cX0_rowOfSort 41 = .ok (.newarray .long, 2) := dk_188_11 (dk_at dksX0_rowOfSort_2 13 rfl rfl)
theorem dX0_rowOfSort_43 : decode cX0_rowOfSort 43 = .ok (.areturn, 1) := dk_176 (dk_at dksX0_rowOfSort_2 15 rfl rfl)
abbrev cX0_put : ByteArray := prog_1_method_129_code
def yX0_put : MethodName := ⟨RX0, "put", "(IIJ)I"⟩
def dkwX0_put_3 : List UInt8 := [172]
abbrev dktX0_put_3 : List UInt8 := dkwX0_put_3 ++ []
def dkwX0_put_2 : List UInt8 := [184, 0, 112, 16, 244, 182, 2, 125, 25, 5, 28, 33, 184, 2, 165, 4, 172, 58, 5, 25, 5, 180, 2, 135]
abbrev dktX0_put_2 : List UInt8 := dkwX0_put_2 ++ dktX0_put_3
def dkwX0_put_1 : List UInt8 := [198, 0, 7, 4, 167, 0, 4, 3, 16, 245, 182, 2, 125, 42, 28, 3, 25, 5, 184, 2, 162, 4, 100]
abbrev dktX0_put_1 : List UInt8 := dkwX0_put_1 ++ dktX0_put_2
def dkwX0_put_0 : List UInt8 := [27, 184, 2, 117, 154, 0, 5, 2, 172, 42, 180, 0, 215, 27, 50, 180, 2, 120, 58, 5, 42, 25, 5]
abbrev dktX0_put_0 : List UInt8 := dkwX0_put_0 ++ dktX0_put_1
theorem dksX0_put_0 : cX0_put.data.toList.drop 0 = dktX0_put_0 := by decide +kernel
theorem dksX0_put_1 : cX0_put.data.toList.drop 23 = dktX0_put_1 := dk_seg dksX0_put_0 23 rfl rfl
theorem dksX0_put_2 : cX0_put.data.toList.drop 46 = dktX0_put_2 := dk_seg dksX0_put_1 23 rfl rfl
theorem dksX0_put_3 : cX0_put.data.toList.drop 70 = dktX0_put_3 := dk_seg dksX0_put_2 24 rfl rfl
theorem dX0_put_0 : decode cX0_put 0 = .ok (.iload_n 1, 1) := dk_27 (dk_at dksX0_put_0 0 rfl rfl)
theorem dX0_put_1 : decode cX0_put 1 = .ok (.invokestatic 629, 3) := dk_184 2 117 (dk_at dksX0_put_0 1 rfl rfl)
theorem dX0_put_4 : decode cX0_put 4 = .ok (.ifCond .ne 5, 3) := dk_154 0 5 (dk_at dksX0_put_0 4 rfl rfl)
theorem dX0_put_7 : decode cX0_put 7 = .ok (.iconst (-1), 1) := dk_2 (dk_at dksX0_put_0 7 rfl rfl)
theorem dX0_put_8 : decode cX0_put 8 = .ok (.ireturn, 1) := dk_172 (dk_at dksX0_put_0 8 rfl rfl)
theorem dX0_put_9 : decode cX0_put 9 = .ok (.aload_n 0, 1) := dk_42 (dk_at dksX0_put_0 9 rfl rfl)
theorem dX0_put_10 : decode cX0_put 10 = .ok (.getfield 215, 3) := dk_180 0 215 (dk_at dksX0_put_0 10 rfl rfl)
theorem dX0_put_13 : decode cX0_put 13 = .ok (.iload_n 1, 1) := dk_27 (dk_at dksX0_put_0 13 rfl rfl)
theorem dX0_put_14 : decode cX0_put 14 = .ok (.aaload, 1) := dk_50 (dk_at dksX0_put_0 14 rfl rfl)
theorem dX0_put_15 : decode cX0_put 15 = .ok (.getfield 632, 3) := dk_180 2 120 (dk_at dksX0_put_0 15 rfl rfl)
theorem dX0_put_18 : decode cX0_put 18 = .ok (.astore 5, 2) := dk_58 5 (dk_at dksX0_put_0 18 rfl rfl)
theorem dX0_put_20 : decode cX0_put 20 = .ok (.aload_n 0, 1) := dk_42 (dk_at dksX0_put_0 20 rfl rfl)
theorem dX0_put_21 : decode cX0_put 21 = .ok (.aload 5, 2) := dk_25 5 (dk_at dksX0_put_0 21 rfl rfl)
theorem dX0_put_23 : decode cX0_put 23 = .ok (.ifnull 7, 3) := dk_198 0 7 (dk_at dksX0_put_1 0 rfl rfl)
theorem dX0_put_26 : decode cX0_put 26 = .ok (.iconst 1, 1) := dk_4 (dk_at dksX0_put_1 3 rfl rfl)
theorem dX0_put_27 : decode cX0_put 27 = .ok (.goto 4, 3) := dk_167 0 4 (dk_at dksX0_put_1 4 rfl rfl)
theorem dX0_put_30 : decode cX0_put 30 = .ok (.iconst 0, 1) := dk_3 (dk_at dksX0_put_1 7 rfl rfl)
theorem dX0_put_31 : decode cX0_put 31 = .ok (.bipush (-11), 2) := dk_16 245 (dk_at dksX0_put_1 8 rfl rfl)
theorem dX0_put_33 : decode cX0_put 33 = .ok (.invokevirtual 637, 3) := dk_182 2 125 (dk_at dksX0_put_1 10 rfl rfl)
theorem dX0_put_36 : decode cX0_put 36 = .ok (.aload_n 0, 1) := dk_42 (dk_at dksX0_put_1 13 rfl rfl)
theorem dX0_put_37 : decode cX0_put 37 = .ok (.iload_n 2, 1) := dk_28 (dk_at dksX0_put_1 14 rfl rfl)
theorem dX0_put_38 : decode cX0_put 38 = .ok (.iconst 0, 1) := dk_3 (dk_at dksX0_put_1 15 rfl rfl)
theorem dX0_put_39 : decode cX0_put 39 = .ok (.aload 5, 2) := dk_25 5 (dk_at dksX0_put_1 16 rfl rfl)
theorem dX0_put_41 : decode cX0_put 41 = .ok (.invokestatic 674, 3) := dk_184 2 162 (dk_at dksX0_put_1 18 rfl rfl)
theorem dX0_put_44 : decode cX0_put 44 = .ok (.iconst 1, 1) := dk_4 (dk_at dksX0_put_1 21 rfl rfl)
theorem dX0_put_45 : decode cX0_put 45 = .ok (.isub, 1) := dk_100 (dk_at dksX0_put_1 22 rfl rfl)
theorem dX0_put_46 : decode cX0_put 46 = .ok (.invokestatic 112, 3) := dk_184 0 112 (dk_at dksX0_put_2 0 rfl rfl)
theorem dX0_put_49 : decode cX0_put 49 = .ok (.bipush (-12), 2) := dk_16 244 (dk_at dksX0_put_2 3 rfl rfl)
theorem dX0_put_51 : decode cX0_put 51 = .ok (.invokevirtual 637, 3) := dk_182 2 125 (dk_at dksX0_put_2 5 rfl rfl)
theorem dX0_put_54 : decode cX0_put 54 = .ok (.aload 5, 2) := dk_25 5 (dk_at dksX0_put_2 8 rfl rfl)
theorem dX0_put_56 : decode cX0_put 56 = .ok (.iload_n 2, 1) := dk_28 (dk_at dksX0_put_2 10 rfl rfl)
theorem dX0_put_57 : decode cX0_put 57 = .ok (.lload_n 3, 1) := dk_33 (dk_at dksX0_put_2 11 rfl rfl)
theorem dX0_put_58 : decode cX0_put 58 = .ok (.invokestatic 677, 3) := dk_184 2 165 (dk_at dksX0_put_2 12 rfl rfl)
theorem dX0_put_61 : decode cX0_put 61 = .ok (.iconst 1, 1) := dk_4 (dk_at dksX0_put_2 15 rfl rfl)
theorem dX0_put_62 : decode cX0_put 62 = .ok (.ireturn, 1) := dk_172 (dk_at dksX0_put_2 16 rfl rfl)
theorem dX0_put_63 : decode cX0_put 63 = .ok (.astore 5, 2) := dk_58 5 (dk_at dksX0_put_2 17 rfl rfl)
theorem dX0_put_65 : decode cX0_put 65 = .ok (.aload 5, 2) := dk_25 5 (dk_at dksX0_put_2 19 rfl rfl)
theorem dX0_put_67 : decode cX0_put 67 = .ok (.getfield 647, 3) := dk_180 2 135 (dk_at dksX0_put_2 21 rfl rfl)
theorem dX0_put_70 : decode cX0_put 70 = .ok (.ireturn, 1) := dk_172 (dk_at dksX0_put_3 0 rfl rfl)
abbrev cX0_length : ByteArray := prog_1_method_127_code
def yX0_length : MethodName := ⟨RX0, "length", "(Ljava/lang/Object;)I"⟩
def dkwX0_length_1 : List UInt8 := [190, 172, 42, 193, 2, 124, 153, 0, 11, 42, 192, 2, 124, 190, 167, 0, 8, 42, 192, 2, 160, 190, 172]
abbrev dktX0_length_1 : List UInt8 := dkwX0_length_1 ++ []
def dkwX0_length_0 : List UInt8 := [42, 193, 0, 156, 153, 0, 9, 42, 192, 0, 156, 190, 172, 42, 193, 2, 158, 153, 0, 9, 42, 192, 2, 158]
abbrev dktX0_length_0 : List UInt8 := dkwX0_length_0 ++ dktX0_length_1
theorem dksX0_length_0 : cX0_length.data.toList.drop 0 = dktX0_length_0 := by decide +kernel
theorem dksX0_length_1 : cX0_length.data.toList.drop 24 = dktX0_length_1 := dk_seg dksX0_length_0 24 rfl rfl
theorem dX0_length_0 : decode cX0_length 0 = .ok (.aload_n 0, 1) := dk_42 (dk_at dksX0_length_0 0 rfl rfl)
theorem dX0_length_1 : decode cX0_length 1 = .ok (.instanceof 156, 3) := dk_193 0 156 (dk_at dksX0_length_0 1 rfl rfl)
theorem dX0_length_4 : decode cX0_length 4 = .ok (.ifCond .eq 9, 3) := dk_153 0 9 (dk_at dksX0_length_0 4 rfl rfl)
theorem dX0_length_7 : decode cX0_length 7 = .ok (.aload_n 0, 1) := dk_42 (dk_at dksX0_length_0 7 rfl rfl)
theorem dX0_length_8 : decode cX0_length 8 = .ok (.checkcast 156, 3) := dk_192 0 156 (dk_at dksX0_length_0 8 rfl rfl)
theorem dX0_length_11 : decode cX0_length 11 = .ok (.arraylength, 1) := dk_190 (dk_at dksX0_length_0 11 rfl rfl)
theorem dX0_length_12 : decode cX0_length 12 = .ok (.ireturn, 1) := dk_172 (dk_at dksX0_length_0 12 rfl rfl)
theorem dX0_length_13 : decode cX0_length 13 = .ok (.aload_n 0, 1) := dk_42 (dk_at dksX0_length_0 13 rfl rfl)
theorem dX0_length_14 : decode cX0_length 14 = .ok (.instanceof 670, 3) := dk_193 2 158 (dk_at dksX0_length_0 14 rfl rfl)
theorem dX0_length_17 : decode cX0_length 17 = .ok (.ifCond .eq 9, 3) := dk_153 0 9 (dk_at dksX0_length_0 17 rfl rfl)
theorem dX0_length_20 : decode cX0_length 20 = .ok (.aload_n 0, 1) := dk_42 (dk_at dksX0_length_0 20 rfl rfl)
theorem dX0_length_21 : decode cX0_length 21 = .ok (.checkcast 670, 3) := dk_192 2 158 (dk_at dksX0_length_0 21 rfl rfl)
theorem dX0_length_24 : decode cX0_length 24 = .ok (.arraylength, 1) := dk_190 (dk_at dksX0_length_1 0 rfl rfl)
theorem dX0_length_25 : decode cX0_length 25 = .ok (.ireturn, 1) := dk_172 (dk_at dksX0_length_1 1 rfl rfl)
theorem dX0_length_26 : decode cX0_length 26 = .ok (.aload_n 0, 1) := dk_42 (dk_at dksX0_length_1 2 rfl rfl)
theorem dX0_length_27 : decode cX0_length 27 = .ok (.instanceof 636, 3) := dk_193 2 124 (dk_at dksX0_length_1 3 rfl rfl)
theorem dX0_length_30 : decode cX0_length 30 = .ok (.ifCond .eq 11, 3) := dk_153 0 11 (dk_at dksX0_length_1 6 rfl rfl)
theorem dX0_length_33 : decode cX0_length 33 = .ok (.aload_n 0, 1) := dk_42 (dk_at dksX0_length_1 9 rfl rfl)
theorem dX0_length_34 : decode cX0_length 34 = .ok (.checkcast 636, 3) := dk_192 2 124 (dk_at dksX0_length_1 10 rfl rfl)
theorem dX0_length_37 : decode cX0_length 37 = .ok (.arraylength, 1) := dk_190 (dk_at dksX0_length_1 13 rfl rfl)
theorem dX0_length_38 : decode cX0_length 38 = .ok (.goto 8, 3) := dk_167 0 8 (dk_at dksX0_length_1 14 rfl rfl)
theorem dX0_length_41 : decode cX0_length 41 = .ok (.aload_n 0, 1) := dk_42 (dk_at dksX0_length_1 17 rfl rfl)
theorem dX0_length_42 : decode cX0_length 42 = .ok (.checkcast 672, 3) := dk_192 2 160 (dk_at dksX0_length_1 18 rfl rfl)
theorem dX0_length_45 : decode cX0_length 45 = .ok (.arraylength, 1) := dk_190 (dk_at dksX0_length_1 21 rfl rfl)
theorem dX0_length_46 : decode cX0_length 46 = .ok (.ireturn, 1) := dk_172 (dk_at dksX0_length_1 22 rfl rfl)
abbrev cX0_set : ByteArray := prog_1_method_128_code
def yX0_set : MethodName := ⟨RX0, "set", "(Ljava/lang/Object;IJ)V"⟩
def dkwX0_set_2 : List UInt8 := [192, 2, 124, 27, 32, 136, 79, 167, 0, 10, 42, 192, 2, 160, 27, 32, 80, 177]
abbrev dktX0_set_2 : List UInt8 := dkwX0_set_2 ++ []
def dkwX0_set_1 : List UInt8 := [153, 0, 15, 42, 192, 2, 158, 27, 32, 136, 147, 86, 167, 0, 28, 42, 193, 2, 124, 153, 0, 14, 42]
abbrev dktX0_set_1 : List UInt8 := dkwX0_set_1 ++ dktX0_set_2
def dkwX0_set_0 : List UInt8 := [42, 193, 0, 156, 153, 0, 15, 42, 192, 0, 156, 27, 32, 136, 145, 84, 167, 0, 47, 42, 193, 2, 158]
abbrev dktX0_set_0 : List UInt8 := dkwX0_set_0 ++ dktX0_set_1
theorem dksX0_set_0 : cX0_set.data.toList.drop 0 = dktX0_set_0 := by decide +kernel
theorem dksX0_set_1 : cX0_set.data.toList.drop 23 = dktX0_set_1 := dk_seg dksX0_set_0 23 rfl rfl
theorem dksX0_set_2 : cX0_set.data.toList.drop 46 = dktX0_set_2 := dk_seg dksX0_set_1 23 rfl rfl
theorem dX0_set_0 : decode cX0_set 0 = .ok (.aload_n 0, 1) := dk_42 (dk_at dksX0_set_0 0 rfl rfl)
theorem dX0_set_1 : decode cX0_set 1 = .ok (.instanceof 156, 3) := dk_193 0 156 (dk_at dksX0_set_0 1 rfl rfl)
theorem dX0_set_4 : decode cX0_set 4 = .ok (.ifCond .eq 15, 3) := dk_153 0 15 (dk_at dksX0_set_0 4 rfl rfl)
theorem dX0_set_7 : decode cX0_set 7 = .ok (.aload_n 0, 1) := dk_42 (dk_at dksX0_set_0 7 rfl rfl)
theorem dX0_set_8 : decode cX0_set 8 = .ok (.checkcast 156, 3) := dk_192 0 156 (dk_at dksX0_set_0 8 rfl rfl)
theorem dX0_set_11 : decode cX0_set 11 = .ok (.iload_n 1, 1) := dk_27 (dk_at dksX0_set_0 11 rfl rfl)
theorem dX0_set_12 : decode cX0_set 12 = .ok (.lload_n 2, 1) := dk_32 (dk_at dksX0_set_0 12 rfl rfl)
theorem dX0_set_13 : decode cX0_set 13 = .ok (.l2i, 1) := dk_136 (dk_at dksX0_set_0 13 rfl rfl)
theorem dX0_set_14 : decode cX0_set 14 = .ok (.i2b, 1) := dk_145 (dk_at dksX0_set_0 14 rfl rfl)
theorem dX0_set_15 : decode cX0_set 15 = .ok (.bastore, 1) := dk_84 (dk_at dksX0_set_0 15 rfl rfl)
theorem dX0_set_16 : decode cX0_set 16 = .ok (.goto 47, 3) := dk_167 0 47 (dk_at dksX0_set_0 16 rfl rfl)
theorem dX0_set_19 : decode cX0_set 19 = .ok (.aload_n 0, 1) := dk_42 (dk_at dksX0_set_0 19 rfl rfl)
theorem dX0_set_20 : decode cX0_set 20 = .ok (.instanceof 670, 3) := dk_193 2 158 (dk_at dksX0_set_0 20 rfl rfl)
theorem dX0_set_23 : decode cX0_set 23 = .ok (.ifCond .eq 15, 3) := dk_153 0 15 (dk_at dksX0_set_1 0 rfl rfl)
theorem dX0_set_26 : decode cX0_set 26 = .ok (.aload_n 0, 1) := dk_42 (dk_at dksX0_set_1 3 rfl rfl)
theorem dX0_set_27 : decode cX0_set 27 = .ok (.checkcast 670, 3) := dk_192 2 158 (dk_at dksX0_set_1 4 rfl rfl)
theorem dX0_set_30 : decode cX0_set 30 = .ok (.iload_n 1, 1) := dk_27 (dk_at dksX0_set_1 7 rfl rfl)
theorem dX0_set_31 : decode cX0_set 31 = .ok (.lload_n 2, 1) := dk_32 (dk_at dksX0_set_1 8 rfl rfl)
theorem dX0_set_32 : decode cX0_set 32 = .ok (.l2i, 1) := dk_136 (dk_at dksX0_set_1 9 rfl rfl)
theorem dX0_set_33 : decode cX0_set 33 = .ok (.i2s, 1) := dk_147 (dk_at dksX0_set_1 10 rfl rfl)
theorem dX0_set_34 : decode cX0_set 34 = .ok (.sastore, 1) := dk_86 (dk_at dksX0_set_1 11 rfl rfl)
theorem dX0_set_35 : decode cX0_set 35 = .ok (.goto 28, 3) := dk_167 0 28 (dk_at dksX0_set_1 12 rfl rfl)
theorem dX0_set_38 : decode cX0_set 38 = .ok (.aload_n 0, 1) := dk_42 (dk_at dksX0_set_1 15 rfl rfl)
theorem dX0_set_39 : decode cX0_set 39 = .ok (.instanceof 636, 3) := dk_193 2 124 (dk_at dksX0_set_1 16 rfl rfl)
theorem dX0_set_42 : decode cX0_set 42 = .ok (.ifCond .eq 14, 3) := dk_153 0 14 (dk_at dksX0_set_1 19 rfl rfl)
theorem dX0_set_45 : decode cX0_set 45 = .ok (.aload_n 0, 1) := dk_42 (dk_at dksX0_set_1 22 rfl rfl)
theorem dX0_set_46 : decode cX0_set 46 = .ok (.checkcast 636, 3) := dk_192 2 124 (dk_at dksX0_set_2 0 rfl rfl)
theorem dX0_set_49 : decode cX0_set 49 = .ok (.iload_n 1, 1) := dk_27 (dk_at dksX0_set_2 3 rfl rfl)
theorem dX0_set_50 : decode cX0_set 50 = .ok (.lload_n 2, 1) := dk_32 (dk_at dksX0_set_2 4 rfl rfl)
theorem dX0_set_51 : decode cX0_set 51 = .ok (.l2i, 1) := dk_136 (dk_at dksX0_set_2 5 rfl rfl)
theorem dX0_set_52 : decode cX0_set 52 = .ok (.iastore, 1) := dk_79 (dk_at dksX0_set_2 6 rfl rfl)
theorem dX0_set_53 : decode cX0_set 53 = .ok (.goto 10, 3) := dk_167 0 10 (dk_at dksX0_set_2 7 rfl rfl)
theorem dX0_set_56 : decode cX0_set 56 = .ok (.aload_n 0, 1) := dk_42 (dk_at dksX0_set_2 10 rfl rfl)
theorem dX0_set_57 : decode cX0_set 57 = .ok (.checkcast 672, 3) := dk_192 2 160 (dk_at dksX0_set_2 11 rfl rfl)
theorem dX0_set_60 : decode cX0_set 60 = .ok (.iload_n 1, 1) := dk_27 (dk_at dksX0_set_2 14 rfl rfl)
theorem dX0_set_61 : decode cX0_set 61 = .ok (.lload_n 2, 1) := dk_32 (dk_at dksX0_set_2 15 rfl rfl)
theorem dX0_set_62 : decode cX0_set 62 = .ok (.lastore, 1) := dk_80 (dk_at dksX0_set_2 16 rfl rfl)
theorem dX0_set_63 : decode cX0_set 63 = .ok (.return_, 1) := dk_177 (dk_at dksX0_set_2 17 rfl rfl)
abbrev cX0_item : ByteArray := prog_1_method_132_code
def yX0_item : MethodName := ⟨RX0, "item", "(III)I"⟩
def dkwX0_item_2 : List UInt8 := [180, 2, 135, 172]
abbrev dktX0_item_2 : List UInt8 := dkwX0_item_2 ++ []
def dkwX0_item_1 : List UInt8 := [50, 180, 2, 120, 28, 29, 182, 2, 173, 172, 58, 4, 16, 243, 172, 58, 4, 16, 245, 172, 58, 4, 25, 4]
abbrev dktX0_item_1 : List UInt8 := dkwX0_item_1 ++ dktX0_item_2
def dkwX0_item_0 : List UInt8 := [27, 184, 2, 117, 153, 0, 12, 28, 3, 6, 184, 0, 112, 154, 0, 5, 2, 172, 42, 42, 180, 0, 215, 27]
abbrev dktX0_item_0 : List UInt8 := dkwX0_item_0 ++ dktX0_item_1
theorem dksX0_item_0 : cX0_item.data.toList.drop 0 = dktX0_item_0 := by decide +kernel
theorem dksX0_item_1 : cX0_item.data.toList.drop 24 = dktX0_item_1 := dk_seg dksX0_item_0 24 rfl rfl
theorem dksX0_item_2 : cX0_item.data.toList.drop 48 = dktX0_item_2 := dk_seg dksX0_item_1 24 rfl rfl
theorem dX0_item_0 : decode cX0_item 0 = .ok (.iload_n 1, 1) := dk_27 (dk_at dksX0_item_0 0 rfl rfl)
theorem dX0_item_1 : decode cX0_item 1 = .ok (.invokestatic 629, 3) := dk_184 2 117 (dk_at dksX0_item_0 1 rfl rfl)
theorem dX0_item_4 : decode cX0_item 4 = .ok (.ifCond .eq 12, 3) := dk_153 0 12 (dk_at dksX0_item_0 4 rfl rfl)
theorem dX0_item_7 : decode cX0_item 7 = .ok (.iload_n 2, 1) := dk_28 (dk_at dksX0_item_0 7 rfl rfl)
theorem dX0_item_8 : decode cX0_item 8 = .ok (.iconst 0, 1) := dk_3 (dk_at dksX0_item_0 8 rfl rfl)
theorem dX0_item_9 : decode cX0_item 9 = .ok (.iconst 3, 1) := dk_6 (dk_at dksX0_item_0 9 rfl rfl)
theorem dX0_item_10 : decode cX0_item 10 = .ok (.invokestatic 112, 3) := dk_184 0 112 (dk_at dksX0_item_0 10 rfl rfl)
theorem dX0_item_13 : decode cX0_item 13 = .ok (.ifCond .ne 5, 3) := dk_154 0 5 (dk_at dksX0_item_0 13 rfl rfl)
theorem dX0_item_16 : decode cX0_item 16 = .ok (.iconst (-1), 1) := dk_2 (dk_at dksX0_item_0 16 rfl rfl)
theorem dX0_item_17 : decode cX0_item 17 = .ok (.ireturn, 1) := dk_172 (dk_at dksX0_item_0 17 rfl rfl)
theorem dX0_item_18 : decode cX0_item 18 = .ok (.aload_n 0, 1) := dk_42 (dk_at dksX0_item_0 18 rfl rfl)
theorem dX0_item_19 : decode cX0_item 19 = .ok (.aload_n 0, 1) := dk_42 (dk_at dksX0_item_0 19 rfl rfl)
theorem dX0_item_20 : decode cX0_item 20 = .ok (.getfield 215, 3) := dk_180 0 215 (dk_at dksX0_item_0 20 rfl rfl)
theorem dX0_item_23 : decode cX0_item 23 = .ok (.iload_n 1, 1) := dk_27 (dk_at dksX0_item_0 23 rfl rfl)
theorem dX0_item_24 : decode cX0_item 24 = .ok (.aaload, 1) := dk_50 (dk_at dksX0_item_1 0 rfl rfl)
theorem dX0_item_25 : decode cX0_item 25 = .ok (.getfield 632, 3) := dk_180 2 120 (dk_at dksX0_item_1 1 rfl rfl)
theorem dX0_item_28 : decode cX0_item 28 = .ok (.iload_n 2, 1) := dk_28 (dk_at dksX0_item_1 4 rfl rfl)
theorem dX0_item_29 : decode cX0_item 29 = .ok (.iload_n 3, 1) := dk_29 (dk_at dksX0_item_1 5 rfl rfl)
theorem dX0_item_30 : decode cX0_item 30 = .ok (.invokevirtual 685, 3) := dk_182 2 173 (dk_at dksX0_item_1 6 rfl rfl)
theorem dX0_item_33 : decode cX0_item 33 = .ok (.ireturn, 1) := dk_172 (dk_at dksX0_item_1 9 rfl rfl)
theorem dX0_item_34 : decode cX0_item 34 = .ok (.astore 4, 2) := dk_58 4 (dk_at dksX0_item_1 10 rfl rfl)
theorem dX0_item_36 : decode cX0_item 36 = .ok (.bipush (-13), 2) := dk_16 243 (dk_at dksX0_item_1 12 rfl rfl)
theorem dX0_item_38 : decode cX0_item 38 = .ok (.ireturn, 1) := dk_172 (dk_at dksX0_item_1 14 rfl rfl)
theorem dX0_item_39 : decode cX0_item 39 = .ok (.astore 4, 2) := dk_58 4 (dk_at dksX0_item_1 15 rfl rfl)
theorem dX0_item_41 : decode cX0_item 41 = .ok (.bipush (-11), 2) := dk_16 245 (dk_at dksX0_item_1 17 rfl rfl)
theorem dX0_item_43 : decode cX0_item 43 = .ok (.ireturn, 1) := dk_172 (dk_at dksX0_item_1 19 rfl rfl)
theorem dX0_item_44 : decode cX0_item 44 = .ok (.astore 4, 2) := dk_58 4 (dk_at dksX0_item_1 20 rfl rfl)
theorem dX0_item_46 : decode cX0_item 46 = .ok (.aload 4, 2) := dk_25 4 (dk_at dksX0_item_1 22 rfl rfl)
theorem dX0_item_48 : decode cX0_item 48 = .ok (.getfield 647, 3) := dk_180 2 135 (dk_at dksX0_item_2 0 rfl rfl)
theorem dX0_item_51 : decode cX0_item 51 = .ok (.ireturn, 1) := dk_172 (dk_at dksX0_item_2 3 rfl rfl)
abbrev cX0_itemOf : ByteArray := prog_1_method_131_code
def yX0_itemOf : MethodName := ⟨RX0, "itemOf", "(Ljava/lang/Object;II)I"⟩
def dkwX0_itemOf_3 : List UInt8 := [192, 2, 160, 29, 47, 136, 172]
abbrev dktX0_itemOf_3 : List UInt8 := dkwX0_itemOf_3 ++ []
def dkwX0_itemOf_2 : List UInt8 := [43, 192, 0, 156, 29, 51, 172, 43, 192, 2, 158, 29, 53, 172, 43, 192, 2, 124, 29, 46, 172, 43]
abbrev dktX0_itemOf_2 : List UInt8 := dkwX0_itemOf_2 ++ dktX0_itemOf_3
def dkwX0_itemOf_1 : List UInt8 := [170, 0, 0, 0, 46, 0, 0, 0, 0, 0, 0, 0, 2, 0, 0, 0, 25, 0, 0, 0, 32, 0, 0, 0, 39]
abbrev dktX0_itemOf_1 : List UInt8 := dkwX0_itemOf_1 ++ dktX0_itemOf_2
def dkwX0_itemOf_0 : List UInt8 := [42, 29, 3, 43, 28, 184, 2, 169, 4, 100, 184, 0, 112, 16, 244, 182, 2, 125, 28]
abbrev dktX0_itemOf_0 : List UInt8 := dkwX0_itemOf_0 ++ dktX0_itemOf_1
theorem dksX0_itemOf_0 : cX0_itemOf.data.toList.drop 0 = dktX0_itemOf_0 := by decide +kernel
theorem dksX0_itemOf_1 : cX0_itemOf.data.toList.drop 19 = dktX0_itemOf_1 := dk_seg dksX0_itemOf_0 19 rfl rfl
theorem dksX0_itemOf_2 : cX0_itemOf.data.toList.drop 44 = dktX0_itemOf_2 := dk_seg dksX0_itemOf_1 25 rfl rfl
theorem dksX0_itemOf_3 : cX0_itemOf.data.toList.drop 66 = dktX0_itemOf_3 := dk_seg dksX0_itemOf_2 22 rfl rfl
theorem dX0_itemOf_0 : decode cX0_itemOf 0 = .ok (.aload_n 0, 1) := dk_42 (dk_at dksX0_itemOf_0 0 rfl rfl)
theorem dX0_itemOf_1 : decode cX0_itemOf 1 = .ok (.iload_n 3, 1) := dk_29 (dk_at dksX0_itemOf_0 1 rfl rfl)
theorem dX0_itemOf_2 : decode cX0_itemOf 2 = .ok (.iconst 0, 1) := dk_3 (dk_at dksX0_itemOf_0 2 rfl rfl)
theorem dX0_itemOf_3 : decode cX0_itemOf 3 = .ok (.aload_n 1, 1) := dk_43 (dk_at dksX0_itemOf_0 3 rfl rfl)
theorem dX0_itemOf_4 : decode cX0_itemOf 4 = .ok (.iload_n 2, 1) := dk_28 (dk_at dksX0_itemOf_0 4 rfl rfl)
theorem dX0_itemOf_5 : decode cX0_itemOf 5 = .ok (.invokestatic 681, 3) := dk_184 2 169 (dk_at dksX0_itemOf_0 5 rfl rfl)
theorem dX0_itemOf_8 : decode cX0_itemOf 8 = .ok (.iconst 1, 1) := dk_4 (dk_at dksX0_itemOf_0 8 rfl rfl)
theorem dX0_itemOf_9 : decode cX0_itemOf 9 = .ok (.isub, 1) := dk_100 (dk_at dksX0_itemOf_0 9 rfl rfl)
theorem dX0_itemOf_10 : decode cX0_itemOf 10 = .ok (.invokestatic 112, 3) := dk_184 0 112 (dk_at dksX0_itemOf_0 10 rfl rfl)
theorem dX0_itemOf_13 : decode cX0_itemOf 13 = .ok (.bipush (-12), 2) := dk_16 244 (dk_at dksX0_itemOf_0 13 rfl rfl)
theorem dX0_itemOf_15 : decode cX0_itemOf 15 = .ok (.invokevirtual 637, 3) := dk_182 2 125 (dk_at dksX0_itemOf_0 15 rfl rfl)
theorem dX0_itemOf_18 : decode cX0_itemOf 18 = .ok (.iload_n 2, 1) := dk_28 (dk_at dksX0_itemOf_0 18 rfl rfl)
theorem dX0_itemOf_19 : decode cX0_itemOf 19 = .ok (.tableswitch 46 0 2 #[25, 32, 39], 25) := by decide +kernel
theorem dX0_itemOf_44 : decode cX0_itemOf 44 = .ok (.aload_n 1, 1) := dk_43 (dk_at dksX0_itemOf_2 0 rfl rfl)
theorem dX0_itemOf_45 : decode cX0_itemOf 45 = .ok (.checkcast 156, 3) := dk_192 0 156 (dk_at dksX0_itemOf_2 1 rfl rfl)
theorem dX0_itemOf_48 : decode cX0_itemOf 48 = .ok (.iload_n 3, 1) := dk_29 (dk_at dksX0_itemOf_2 4 rfl rfl)
theorem dX0_itemOf_49 : decode cX0_itemOf 49 = .ok (.baload, 1) := dk_51 (dk_at dksX0_itemOf_2 5 rfl rfl)
theorem dX0_itemOf_50 : decode cX0_itemOf 50 = .ok (.ireturn, 1) := dk_172 (dk_at dksX0_itemOf_2 6 rfl rfl)
theorem dX0_itemOf_51 : decode cX0_itemOf 51 = .ok (.aload_n 1, 1) := dk_43 (dk_at dksX0_itemOf_2 7 rfl rfl)
theorem dX0_itemOf_52 : decode cX0_itemOf 52 = .ok (.checkcast 670, 3) := dk_192 2 158 (dk_at dksX0_itemOf_2 8 rfl rfl)
theorem dX0_itemOf_55 : decode cX0_itemOf 55 = .ok (.iload_n 3, 1) := dk_29 (dk_at dksX0_itemOf_2 11 rfl rfl)
theorem dX0_itemOf_56 : decode cX0_itemOf 56 = .ok (.saload, 1) := dk_53 (dk_at dksX0_itemOf_2 12 rfl rfl)
theorem dX0_itemOf_57 : decode cX0_itemOf 57 = .ok (.ireturn, 1) := dk_172 (dk_at dksX0_itemOf_2 13 rfl rfl)
theorem dX0_itemOf_58 : decode cX0_itemOf 58 = .ok (.aload_n 1, 1) := dk_43 (dk_at dksX0_itemOf_2 14 rfl rfl)
theorem dX0_itemOf_59 : decode cX0_itemOf 59 = .ok (.checkcast 636, 3) := dk_192 2 124 (dk_at dksX0_itemOf_2 15 rfl rfl)
theorem dX0_itemOf_62 : decode cX0_itemOf 62 = .ok (.iload_n 3, 1) := dk_29 (dk_at dksX0_itemOf_2 18 rfl rfl)
theorem dX0_itemOf_63 : decode cX0_itemOf 63 = .ok (.iaload, 1) := dk_46 (dk_at dksX0_itemOf_2 19 rfl rfl)
theorem dX0_itemOf_64 : decode cX0_itemOf 64 = .ok (.ireturn, 1) := dk_172 (dk_at dksX0_itemOf_2 20 rfl rfl)
theorem dX0_itemOf_65 : decode cX0_itemOf 65 = .ok (.aload_n 1, 1) := dk_43 (dk_at dksX0_itemOf_2 21 rfl rfl)
theorem dX0_itemOf_66 : decode cX0_itemOf 66 = .ok (.checkcast 672, 3) := dk_192 2 160 (dk_at dksX0_itemOf_3 0 rfl rfl)
theorem dX0_itemOf_69 : decode cX0_itemOf 69 = .ok (.iload_n 3, 1) := dk_29 (dk_at dksX0_itemOf_3 3 rfl rfl)
theorem dX0_itemOf_70 : decode cX0_itemOf 70 = .ok (.laload, 1) := dk_47 (dk_at dksX0_itemOf_3 4 rfl rfl)
theorem dX0_itemOf_71 : decode cX0_itemOf 71 = .ok (.l2i, 1) := dk_136 (dk_at dksX0_itemOf_3 5 rfl rfl)
theorem dX0_itemOf_72 : decode cX0_itemOf 72 = .ok (.ireturn, 1) := dk_172 (dk_at dksX0_itemOf_3 6 rfl rfl)
abbrev cX0_manyOf : ByteArray := prog_1_method_130_code
def yX0_manyOf : MethodName := ⟨RX0, "manyOf", "(Ljava/lang/Object;I)I"⟩
def dkwX0_manyOf_2 : List UInt8 := [42, 192, 0, 156, 190, 172, 42, 192, 2, 158, 190, 172, 42, 192, 2, 124, 190, 172, 42, 192, 2, 160, 190, 172]
abbrev dktX0_manyOf_2 : List UInt8 := dkwX0_manyOf_2 ++ []
def dkwX0_manyOf_1 : List UInt8 := [170, 0, 0, 0, 0, 0, 45, 0, 0, 0, 0, 0, 0, 0, 2, 0, 0, 0, 27, 0, 0, 0, 33, 0, 0, 0, 39]
abbrev dktX0_manyOf_1 : List UInt8 := dkwX0_manyOf_1 ++ dktX0_manyOf_2
def dkwX0_manyOf_0 : List UInt8 := [27]
abbrev dktX0_manyOf_0 : List UInt8 := dkwX0_manyOf_0 ++ dktX0_manyOf_1
theorem dksX0_manyOf_0 : cX0_manyOf.data.toList.drop 0 = dktX0_manyOf_0 := by decide +kernel
theorem dksX0_manyOf_1 : cX0_manyOf.data.toList.drop 1 = dktX0_manyOf_1 := dk_seg dksX0_manyOf_0 1 rfl rfl
theorem dksX0_manyOf_2 : cX0_manyOf.data.toList.drop 28 = dktX0_manyOf_2 := dk_seg dksX0_manyOf_1 27 rfl rfl
theorem dX0_manyOf_0 : decode cX0_manyOf 0 = .ok (.iload_n 1, 1) := dk_27 (dk_at dksX0_manyOf_0 0 rfl rfl)
theorem dX0_manyOf_1 : decode cX0_manyOf 1 = .ok (.tableswitch 45 0 2 #[27, 33, 39], 27) := by decide +kernel
theorem dX0_manyOf_28 : decode cX0_manyOf 28 = .ok (.aload_n 0, 1) := dk_42 (dk_at dksX0_manyOf_2 0 rfl rfl)
theorem dX0_manyOf_29 : decode cX0_manyOf 29 = .ok (.checkcast 156, 3) := dk_192 0 156 (dk_at dksX0_manyOf_2 1 rfl rfl)
theorem dX0_manyOf_32 : decode cX0_manyOf 32 = .ok (.arraylength, 1) := dk_190 (dk_at dksX0_manyOf_2 4 rfl rfl)
theorem dX0_manyOf_33 : decode cX0_manyOf 33 = .ok (.ireturn, 1) := dk_172 (dk_at dksX0_manyOf_2 5 rfl rfl)
theorem dX0_manyOf_34 : decode cX0_manyOf 34 = .ok (.aload_n 0, 1) := dk_42 (dk_at dksX0_manyOf_2 6 rfl rfl)
theorem dX0_manyOf_35 : decode cX0_manyOf 35 = .ok (.checkcast 670, 3) := dk_192 2 158 (dk_at dksX0_manyOf_2 7 rfl rfl)
theorem dX0_manyOf_38 : decode cX0_manyOf 38 = .ok (.arraylength, 1) := dk_190 (dk_at dksX0_manyOf_2 10 rfl rfl)
theorem dX0_manyOf_39 : decode cX0_manyOf 39 = .ok (.ireturn, 1) := dk_172 (dk_at dksX0_manyOf_2 11 rfl rfl)
theorem dX0_manyOf_40 : decode cX0_manyOf 40 = .ok (.aload_n 0, 1) := dk_42 (dk_at dksX0_manyOf_2 12 rfl rfl)
theorem dX0_manyOf_41 : decode cX0_manyOf 41 = .ok (.checkcast 636, 3) := dk_192 2 124 (dk_at dksX0_manyOf_2 13 rfl rfl)
theorem dX0_manyOf_44 : decode cX0_manyOf 44 = .ok (.arraylength, 1) := dk_190 (dk_at dksX0_manyOf_2 16 rfl rfl)
theorem dX0_manyOf_45 : decode cX0_manyOf 45 = .ok (.ireturn, 1) := dk_172 (dk_at dksX0_manyOf_2 17 rfl rfl)
theorem dX0_manyOf_46 : decode cX0_manyOf 46 = .ok (.aload_n 0, 1) := dk_42 (dk_at dksX0_manyOf_2 18 rfl rfl)
theorem dX0_manyOf_47 : decode cX0_manyOf 47 = .ok (.checkcast 672, 3) := dk_192 2 160 (dk_at dksX0_manyOf_2 19 rfl rfl)
theorem dX0_manyOf_50 : decode cX0_manyOf 50 = .ok (.arraylength, 1) := dk_190 (dk_at dksX0_manyOf_2 22 rfl rfl)
theorem dX0_manyOf_51 : decode cX0_manyOf 51 = .ok (.ireturn, 1) := dk_172 (dk_at dksX0_manyOf_2 23 rfl rfl)
abbrev cX0_move : ByteArray := prog_1_method_133_code
def yX0_move : MethodName := ⟨RX0, "move", "(IIIII)I"⟩
def dkwX0_move_2 : List UInt8 := [58, 6, 16, 245, 172, 58, 6, 16, 243, 172, 58, 6, 16, 244, 172]
abbrev dktX0_move_2 : List UInt8 := dkwX0_move_2 ++ []
def dkwX0_move_1 : List UInt8 := [180, 2, 120, 28, 42, 180, 0, 215, 29, 50, 180, 2, 120, 21, 4, 21, 5, 184, 0, 240, 21, 5, 172]
abbrev dktX0_move_1 : List UInt8 := dkwX0_move_1 ++ dktX0_move_2
def dkwX0_move_0 : List UInt8 := [27, 184, 2, 117, 153, 0, 10, 29, 184, 2, 117, 154, 0, 5, 2, 172, 42, 180, 0, 215, 27, 50]
abbrev dktX0_move_0 : List UInt8 := dkwX0_move_0 ++ dktX0_move_1
theorem dksX0_move_0 : cX0_move.data.toList.drop 0 = dktX0_move_0 := by decide +kernel
theorem dksX0_move_1 : cX0_move.data.toList.drop 22 = dktX0_move_1 := dk_seg dksX0_move_0 22 rfl rfl
theorem dksX0_move_2 : cX0_move.data.toList.drop 45 = dktX0_move_2 := dk_seg dksX0_move_1 23 rfl rfl
theorem dX0_move_0 : decode cX0_move 0 = .ok (.iload_n 1, 1) := dk_27 (dk_at dksX0_move_0 0 rfl rfl)
theorem dX0_move_1 : decode cX0_move 1 = .ok (.invokestatic 629, 3) := dk_184 2 117 (dk_at dksX0_move_0 1 rfl rfl)
theorem dX0_move_4 : decode cX0_move 4 = .ok (.ifCond .eq 10, 3) := dk_153 0 10 (dk_at dksX0_move_0 4 rfl rfl)
theorem dX0_move_7 : decode cX0_move 7 = .ok (.iload_n 3, 1) := dk_29 (dk_at dksX0_move_0 7 rfl rfl)
theorem dX0_move_8 : decode cX0_move 8 = .ok (.invokestatic 629, 3) := dk_184 2 117 (dk_at dksX0_move_0 8 rfl rfl)
theorem dX0_move_11 : decode cX0_move 11 = .ok (.ifCond .ne 5, 3) := dk_154 0 5 (dk_at dksX0_move_0 11 rfl rfl)
theorem dX0_move_14 : decode cX0_move 14 = .ok (.iconst (-1), 1) := dk_2 (dk_at dksX0_move_0 14 rfl rfl)
theorem dX0_move_15 : decode cX0_move 15 = .ok (.ireturn, 1) := dk_172 (dk_at dksX0_move_0 15 rfl rfl)
theorem dX0_move_16 : decode cX0_move 16 = .ok (.aload_n 0, 1) := dk_42 (dk_at dksX0_move_0 16 rfl rfl)
theorem dX0_move_17 : decode cX0_move 17 = .ok (.getfield 215, 3) := dk_180 0 215 (dk_at dksX0_move_0 17 rfl rfl)
theorem dX0_move_20 : decode cX0_move 20 = .ok (.iload_n 1, 1) := dk_27 (dk_at dksX0_move_0 20 rfl rfl)
theorem dX0_move_21 : decode cX0_move 21 = .ok (.aaload, 1) := dk_50 (dk_at dksX0_move_0 21 rfl rfl)
theorem dX0_move_22 : decode cX0_move 22 = .ok (.getfield 632, 3) := dk_180 2 120 (dk_at dksX0_move_1 0 rfl rfl)
theorem dX0_move_25 : decode cX0_move 25 = .ok (.iload_n 2, 1) := dk_28 (dk_at dksX0_move_1 3 rfl rfl)
theorem dX0_move_26 : decode cX0_move 26 = .ok (.aload_n 0, 1) := dk_42 (dk_at dksX0_move_1 4 rfl rfl)
theorem dX0_move_27 : decode cX0_move 27 = .ok (.getfield 215, 3) := dk_180 0 215 (dk_at dksX0_move_1 5 rfl rfl)
theorem dX0_move_30 : decode cX0_move 30 = .ok (.iload_n 3, 1) := dk_29 (dk_at dksX0_move_1 8 rfl rfl)
theorem dX0_move_31 : decode cX0_move 31 = .ok (.aaload, 1) := dk_50 (dk_at dksX0_move_1 9 rfl rfl)
theorem dX0_move_32 : decode cX0_move 32 = .ok (.getfield 632, 3) := dk_180 2 120 (dk_at dksX0_move_1 10 rfl rfl)
theorem dX0_move_35 : decode cX0_move 35 = .ok (.iload 4, 2) := dk_21 4 (dk_at dksX0_move_1 13 rfl rfl)
theorem dX0_move_37 : decode cX0_move 37 = .ok (.iload 5, 2) := dk_21 5 (dk_at dksX0_move_1 15 rfl rfl)
theorem dX0_move_39 : decode cX0_move 39 = .ok (.invokestatic 240, 3) := dk_184 0 240 (dk_at dksX0_move_1 17 rfl rfl)
theorem dX0_move_42 : decode cX0_move 42 = .ok (.iload 5, 2) := dk_21 5 (dk_at dksX0_move_1 20 rfl rfl)
theorem dX0_move_44 : decode cX0_move 44 = .ok (.ireturn, 1) := dk_172 (dk_at dksX0_move_1 22 rfl rfl)
theorem dX0_move_45 : decode cX0_move 45 = .ok (.astore 6, 2) := dk_58 6 (dk_at dksX0_move_2 0 rfl rfl)
theorem dX0_move_47 : decode cX0_move 47 = .ok (.bipush (-11), 2) := dk_16 245 (dk_at dksX0_move_2 2 rfl rfl)
theorem dX0_move_49 : decode cX0_move 49 = .ok (.ireturn, 1) := dk_172 (dk_at dksX0_move_2 4 rfl rfl)
theorem dX0_move_50 : decode cX0_move 50 = .ok (.astore 6, 2) := dk_58 6 (dk_at dksX0_move_2 5 rfl rfl)
theorem dX0_move_52 : decode cX0_move 52 = .ok (.bipush (-13), 2) := dk_16 243 (dk_at dksX0_move_2 7 rfl rfl)
theorem dX0_move_54 : decode cX0_move 54 = .ok (.ireturn, 1) := dk_172 (dk_at dksX0_move_2 9 rfl rfl)
theorem dX0_move_55 : decode cX0_move 55 = .ok (.astore 6, 2) := dk_58 6 (dk_at dksX0_move_2 10 rfl rfl)
theorem dX0_move_57 : decode cX0_move 57 = .ok (.bipush (-12), 2) := dk_16 244 (dk_at dksX0_move_2 12 rfl rfl)
theorem dX0_move_59 : decode cX0_move 59 = .ok (.ireturn, 1) := dk_172 (dk_at dksX0_move_2 14 rfl rfl)
abbrev cX0_rowFrom : ByteArray := prog_1_method_134_code
def yX0_rowFrom : MethodName := ⟨RX0, "rowFrom", "(II)I"⟩
def dkwX0_rowFrom_2 : List UInt8 := [78, 16, 243, 172, 78, 16, 245, 172, 78, 16, 244, 172]
abbrev dktX0_rowFrom_2 : List UInt8 := dkwX0_rowFrom_2 ++ []
def dkwX0_rowFrom_1 : List UInt8 := [42, 180, 0, 137, 3, 42, 180, 0, 34, 180, 0, 38, 184, 0, 240, 42, 42, 180, 0, 137, 182, 2, 181, 172]
abbrev dktX0_rowFrom_1 : List UInt8 := dkwX0_rowFrom_1 ++ dktX0_rowFrom_2
def dkwX0_rowFrom_0 : List UInt8 := [27, 184, 2, 117, 154, 0, 5, 2, 172, 42, 180, 0, 215, 27, 50, 180, 2, 120, 192, 0, 156, 78, 45, 28]
abbrev dktX0_rowFrom_0 : List UInt8 := dkwX0_rowFrom_0 ++ dktX0_rowFrom_1
theorem dksX0_rowFrom_0 : cX0_rowFrom.data.toList.drop 0 = dktX0_rowFrom_0 := by decide +kernel
theorem dksX0_rowFrom_1 : cX0_rowFrom.data.toList.drop 24 = dktX0_rowFrom_1 := dk_seg dksX0_rowFrom_0 24 rfl rfl
theorem dksX0_rowFrom_2 : cX0_rowFrom.data.toList.drop 48 = dktX0_rowFrom_2 := dk_seg dksX0_rowFrom_1 24 rfl rfl
theorem dX0_rowFrom_0 : decode cX0_rowFrom 0 = .ok (.iload_n 1, 1) := dk_27 (dk_at dksX0_rowFrom_0 0 rfl rfl)
theorem dX0_rowFrom_1 : decode cX0_rowFrom 1 = .ok (.invokestatic 629, 3) := dk_184 2 117 (dk_at dksX0_rowFrom_0 1 rfl rfl)
theorem dX0_rowFrom_4 : decode cX0_rowFrom 4 = .ok (.ifCond .ne 5, 3) := dk_154 0 5 (dk_at dksX0_rowFrom_0 4 rfl rfl)
theorem dX0_rowFrom_7 : decode cX0_rowFrom 7 = .ok (.iconst (-1), 1) := dk_2 (dk_at dksX0_rowFrom_0 7 rfl rfl)
theorem dX0_rowFrom_8 : decode cX0_rowFrom 8 = .ok (.ireturn, 1) := dk_172 (dk_at dksX0_rowFrom_0 8 rfl rfl)
theorem dX0_rowFrom_9 : decode cX0_rowFrom 9 = .ok (.aload_n 0, 1) := dk_42 (dk_at dksX0_rowFrom_0 9 rfl rfl)
theorem dX0_rowFrom_10 : decode cX0_rowFrom 10 = .ok (.getfield 215, 3) := dk_180 0 215 (dk_at dksX0_rowFrom_0 10 rfl rfl)
theorem dX0_rowFrom_13 : decode cX0_rowFrom 13 = .ok (.iload_n 1, 1) := dk_27 (dk_at dksX0_rowFrom_0 13 rfl rfl)
theorem dX0_rowFrom_14 : decode cX0_rowFrom 14 = .ok (.aaload, 1) := dk_50 (dk_at dksX0_rowFrom_0 14 rfl rfl)
theorem dX0_rowFrom_15 : decode cX0_rowFrom 15 = .ok (.getfield 632, 3) := dk_180 2 120 (dk_at dksX0_rowFrom_0 15 rfl rfl)
theorem dX0_rowFrom_18 : decode cX0_rowFrom 18 = .ok (.checkcast 156, 3) := dk_192 0 156 (dk_at dksX0_rowFrom_0 18 rfl rfl)
theorem dX0_rowFrom_21 : decode cX0_rowFrom 21 = .ok (.astore_n 3, 1) := dk_78 (dk_at dksX0_rowFrom_0 21 rfl rfl)
theorem dX0_rowFrom_22 : decode cX0_rowFrom 22 = .ok (.aload_n 3, 1) := dk_45 (dk_at dksX0_rowFrom_0 22 rfl rfl)
theorem dX0_rowFrom_23 : decode cX0_rowFrom 23 = .ok (.iload_n 2, 1) := dk_28 (dk_at dksX0_rowFrom_0 23 rfl rfl)
theorem dX0_rowFrom_24 : decode cX0_rowFrom 24 = .ok (.aload_n 0, 1) := dk_42 (dk_at dksX0_rowFrom_1 0 rfl rfl)
theorem dX0_rowFrom_25 : decode cX0_rowFrom 25 = .ok (.getfield 137, 3) := dk_180 0 137 (dk_at dksX0_rowFrom_1 1 rfl rfl)
theorem dX0_rowFrom_28 : decode cX0_rowFrom 28 = .ok (.iconst 0, 1) := dk_3 (dk_at dksX0_rowFrom_1 4 rfl rfl)
theorem dX0_rowFrom_29 : decode cX0_rowFrom 29 = .ok (.aload_n 0, 1) := dk_42 (dk_at dksX0_rowFrom_1 5 rfl rfl)
theorem dX0_rowFrom_30 : decode cX0_rowFrom 30 = .ok (.getfield 34, 3) := dk_180 0 34 (dk_at dksX0_rowFrom_1 6 rfl rfl)
theorem dX0_rowFrom_33 : decode cX0_rowFrom 33 = .ok (.getfield 38, 3) := dk_180 0 38 (dk_at dksX0_rowFrom_1 9 rfl rfl)
theorem dX0_rowFrom_36 : decode cX0_rowFrom 36 = .ok (.invokestatic 240, 3) := dk_184 0 240 (dk_at dksX0_rowFrom_1 12 rfl rfl)
theorem dX0_rowFrom_39 : decode cX0_rowFrom 39 = .ok (.aload_n 0, 1) := dk_42 (dk_at dksX0_rowFrom_1 15 rfl rfl)
theorem dX0_rowFrom_40 : decode cX0_rowFrom 40 = .ok (.aload_n 0, 1) := dk_42 (dk_at dksX0_rowFrom_1 16 rfl rfl)
theorem dX0_rowFrom_41 : decode cX0_rowFrom 41 = .ok (.getfield 137, 3) := dk_180 0 137 (dk_at dksX0_rowFrom_1 17 rfl rfl)
theorem dX0_rowFrom_44 : decode cX0_rowFrom 44 = .ok (.invokevirtual 693, 3) := dk_182 2 181 (dk_at dksX0_rowFrom_1 20 rfl rfl)
theorem dX0_rowFrom_47 : decode cX0_rowFrom 47 = .ok (.ireturn, 1) := dk_172 (dk_at dksX0_rowFrom_1 23 rfl rfl)
theorem dX0_rowFrom_48 : decode cX0_rowFrom 48 = .ok (.astore_n 3, 1) := dk_78 (dk_at dksX0_rowFrom_2 0 rfl rfl)
theorem dX0_rowFrom_49 : decode cX0_rowFrom 49 = .ok (.bipush (-13), 2) := dk_16 243 (dk_at dksX0_rowFrom_2 1 rfl rfl)
theorem dX0_rowFrom_51 : decode cX0_rowFrom 51 = .ok (.ireturn, 1) := dk_172 (dk_at dksX0_rowFrom_2 3 rfl rfl)
theorem dX0_rowFrom_52 : decode cX0_rowFrom 52 = .ok (.astore_n 3, 1) := dk_78 (dk_at dksX0_rowFrom_2 4 rfl rfl)
theorem dX0_rowFrom_53 : decode cX0_rowFrom 53 = .ok (.bipush (-11), 2) := dk_16 245 (dk_at dksX0_rowFrom_2 5 rfl rfl)
theorem dX0_rowFrom_55 : decode cX0_rowFrom 55 = .ok (.ireturn, 1) := dk_172 (dk_at dksX0_rowFrom_2 7 rfl rfl)
theorem dX0_rowFrom_56 : decode cX0_rowFrom 56 = .ok (.astore_n 3, 1) := dk_78 (dk_at dksX0_rowFrom_2 8 rfl rfl)
theorem dX0_rowFrom_57 : decode cX0_rowFrom 57 = .ok (.bipush (-12), 2) := dk_16 244 (dk_at dksX0_rowFrom_2 9 rfl rfl)
theorem dX0_rowFrom_59 : decode cX0_rowFrom 59 = .ok (.ireturn, 1) := dk_172 (dk_at dksX0_rowFrom_2 11 rfl rfl)
abbrev cX0_rowTold : ByteArray := prog_1_method_135_code
def yX0_rowTold : MethodName := ⟨RX0, "rowTold", "([B)I"⟩
def dkwX0_rowTold_3 : List UInt8 := [167, 0, 5, 16, 253, 172]
abbrev dktX0_rowTold_3 : List UInt8 := dkwX0_rowTold_3 ++ []
def dkwX0_rowTold_2 : List UInt8 := [167, 255, 213, 28, 184, 2, 184, 42, 180, 0, 34, 180, 0, 38, 160, 0, 11, 42, 43, 182, 1, 40]
abbrev dktX0_rowTold_2 : List UInt8 := dkwX0_rowTold_2 ++ dktX0_rowTold_3
def dkwX0_rowTold_1 : List UInt8 := [180, 0, 38, 184, 0, 112, 153, 0, 11, 4, 43, 29, 51, 120, 167, 0, 4, 3, 128, 61, 132, 3, 1]
abbrev dktX0_rowTold_1 : List UInt8 := dkwX0_rowTold_1 ++ dktX0_rowTold_2
def dkwX0_rowTold_0 : List UInt8 := [3, 61, 3, 62, 29, 42, 180, 0, 34, 180, 0, 38, 162, 0, 38, 28, 43, 29, 51, 4, 42, 180, 0, 34]
abbrev dktX0_rowTold_0 : List UInt8 := dkwX0_rowTold_0 ++ dktX0_rowTold_1
theorem dksX0_rowTold_0 : cX0_rowTold.data.toList.drop 0 = dktX0_rowTold_0 := by decide +kernel
theorem dksX0_rowTold_1 : cX0_rowTold.data.toList.drop 24 = dktX0_rowTold_1 := dk_seg dksX0_rowTold_0 24 rfl rfl
theorem dksX0_rowTold_2 : cX0_rowTold.data.toList.drop 47 = dktX0_rowTold_2 := dk_seg dksX0_rowTold_1 23 rfl rfl
theorem dksX0_rowTold_3 : cX0_rowTold.data.toList.drop 69 = dktX0_rowTold_3 := dk_seg dksX0_rowTold_2 22 rfl rfl
theorem dX0_rowTold_0 : decode cX0_rowTold 0 = .ok (.iconst 0, 1) := dk_3 (dk_at dksX0_rowTold_0 0 rfl rfl)
theorem dX0_rowTold_1 : decode cX0_rowTold 1 = .ok (.istore_n 2, 1) := dk_61 (dk_at dksX0_rowTold_0 1 rfl rfl)
theorem dX0_rowTold_2 : decode cX0_rowTold 2 = .ok (.iconst 0, 1) := dk_3 (dk_at dksX0_rowTold_0 2 rfl rfl)
theorem dX0_rowTold_3 : decode cX0_rowTold 3 = .ok (.istore_n 3, 1) := dk_62 (dk_at dksX0_rowTold_0 3 rfl rfl)
theorem dX0_rowTold_4 : decode cX0_rowTold 4 = .ok (.iload_n 3, 1) := dk_29 (dk_at dksX0_rowTold_0 4 rfl rfl)
theorem dX0_rowTold_5 : decode cX0_rowTold 5 = .ok (.aload_n 0, 1) := dk_42 (dk_at dksX0_rowTold_0 5 rfl rfl)
theorem dX0_rowTold_6 : decode cX0_rowTold 6 = .ok (.getfield 34, 3) := dk_180 0 34 (dk_at dksX0_rowTold_0 6 rfl rfl)
theorem dX0_rowTold_9 : decode cX0_rowTold 9 = .ok (.getfield 38, 3) := dk_180 0 38 (dk_at dksX0_rowTold_0 9 rfl rfl)
theorem dX0_rowTold_12 : decode cX0_rowTold 12 = .ok (.if_icmp .ge 38, 3) := dk_162 0 38 (dk_at dksX0_rowTold_0 12 rfl rfl)
theorem dX0_rowTold_15 : decode cX0_rowTold 15 = .ok (.iload_n 2, 1) := dk_28 (dk_at dksX0_rowTold_0 15 rfl rfl)
theorem dX0_rowTold_16 : decode cX0_rowTold 16 = .ok (.aload_n 1, 1) := dk_43 (dk_at dksX0_rowTold_0 16 rfl rfl)
theorem dX0_rowTold_17 : decode cX0_rowTold 17 = .ok (.iload_n 3, 1) := dk_29 (dk_at dksX0_rowTold_0 17 rfl rfl)
theorem dX0_rowTold_18 : decode cX0_rowTold 18 = .ok (.baload, 1) := dk_51 (dk_at dksX0_rowTold_0 18 rfl rfl)
theorem dX0_rowTold_19 : decode cX0_rowTold 19 = .ok (.iconst 1, 1) := dk_4 (dk_at dksX0_rowTold_0 19 rfl rfl)
theorem dX0_rowTold_20 : decode cX0_rowTold 20 = .ok (.aload_n 0, 1) := dk_42 (dk_at dksX0_rowTold_0 20 rfl rfl)
theorem dX0_rowTold_21 : decode cX0_rowTold 21 = .ok (.getfield 34, 3) := dk_180 0 34 (dk_at dksX0_rowTold_0 21 rfl rfl)
theorem dX0_rowTold_24 : decode cX0_rowTold 24 = .ok (.getfield 38, 3) := dk_180 0 38 (dk_at dksX0_rowTold_1 0 rfl rfl)
theorem dX0_rowTold_27 : decode cX0_rowTold 27 = .ok (.invokestatic 112, 3) := dk_184 0 112 (dk_at dksX0_rowTold_1 3 rfl rfl)
theorem dX0_rowTold_30 : decode cX0_rowTold 30 = .ok (.ifCond .eq 11, 3) := dk_153 0 11 (dk_at dksX0_rowTold_1 6 rfl rfl)
theorem dX0_rowTold_33 : decode cX0_rowTold 33 = .ok (.iconst 1, 1) := dk_4 (dk_at dksX0_rowTold_1 9 rfl rfl)
theorem dX0_rowTold_34 : decode cX0_rowTold 34 = .ok (.aload_n 1, 1) := dk_43 (dk_at dksX0_rowTold_1 10 rfl rfl)
theorem dX0_rowTold_35 : decode cX0_rowTold 35 = .ok (.iload_n 3, 1) := dk_29 (dk_at dksX0_rowTold_1 11 rfl rfl)
theorem dX0_rowTold_36 : decode cX0_rowTold 36 = .ok (.baload, 1) := dk_51 (dk_at dksX0_rowTold_1 12 rfl rfl)
theorem dX0_rowTold_37 : decode cX0_rowTold 37 = .ok (.ishl, 1) := dk_120 (dk_at dksX0_rowTold_1 13 rfl rfl)
theorem dX0_rowTold_38 : decode cX0_rowTold 38 = .ok (.goto 4, 3) := dk_167 0 4 (dk_at dksX0_rowTold_1 14 rfl rfl)
theorem dX0_rowTold_41 : decode cX0_rowTold 41 = .ok (.iconst 0, 1) := dk_3 (dk_at dksX0_rowTold_1 17 rfl rfl)
theorem dX0_rowTold_42 : decode cX0_rowTold 42 = .ok (.ior, 1) := dk_128 (dk_at dksX0_rowTold_1 18 rfl rfl)
theorem dX0_rowTold_43 : decode cX0_rowTold 43 = .ok (.istore_n 2, 1) := dk_61 (dk_at dksX0_rowTold_1 19 rfl rfl)
theorem dX0_rowTold_44 : decode cX0_rowTold 44 = .ok (.iinc 3 1, 3) := dk_132 3 1 (dk_at dksX0_rowTold_1 20 rfl rfl)
theorem dX0_rowTold_47 : decode cX0_rowTold 47 = .ok (.goto (-43), 3) := dk_167 255 213 (dk_at dksX0_rowTold_2 0 rfl rfl)
theorem dX0_rowTold_50 : decode cX0_rowTold 50 = .ok (.iload_n 2, 1) := dk_28 (dk_at dksX0_rowTold_2 3 rfl rfl)
theorem dX0_rowTold_51 : decode cX0_rowTold 51 = .ok (.invokestatic 696, 3) := dk_184 2 184 (dk_at dksX0_rowTold_2 4 rfl rfl)
theorem dX0_rowTold_54 : decode cX0_rowTold 54 = .ok (.aload_n 0, 1) := dk_42 (dk_at dksX0_rowTold_2 7 rfl rfl)
theorem dX0_rowTold_55 : decode cX0_rowTold 55 = .ok (.getfield 34, 3) := dk_180 0 34 (dk_at dksX0_rowTold_2 8 rfl rfl)
theorem dX0_rowTold_58 : decode cX0_rowTold 58 = .ok (.getfield 38, 3) := dk_180 0 38 (dk_at dksX0_rowTold_2 11 rfl rfl)
theorem dX0_rowTold_61 : decode cX0_rowTold 61 = .ok (.if_icmp .ne 11, 3) := dk_160 0 11 (dk_at dksX0_rowTold_2 14 rfl rfl)
theorem dX0_rowTold_64 : decode cX0_rowTold 64 = .ok (.aload_n 0, 1) := dk_42 (dk_at dksX0_rowTold_2 17 rfl rfl)
theorem dX0_rowTold_65 : decode cX0_rowTold 65 = .ok (.aload_n 1, 1) := dk_43 (dk_at dksX0_rowTold_2 18 rfl rfl)
theorem dX0_rowTold_66 : decode cX0_rowTold 66 = .ok (.invokevirtual 296, 3) := dk_182 1 40 (dk_at dksX0_rowTold_2 19 rfl rfl)
theorem dX0_rowTold_69 : decode cX0_rowTold 69 = .ok (.goto 5, 3) := dk_167 0 5 (dk_at dksX0_rowTold_3 0 rfl rfl)
theorem dX0_rowTold_72 : decode cX0_rowTold 72 = .ok (.bipush (-3), 2) := dk_16 253 (dk_at dksX0_rowTold_3 3 rfl rfl)
theorem dX0_rowTold_74 : decode cX0_rowTold 74 = .ok (.ireturn, 1) := dk_172 (dk_at dksX0_rowTold_3 5 rfl rfl)
abbrev cX0_shelf : ByteArray := prog_1_method_137_code
def yX0_shelf : MethodName := ⟨RX0, "shelf", "(III)I"⟩
def dkwX0_shelf_3 : List UInt8 := [180, 0, 215, 29, 50, 180, 2, 120, 167, 0, 4, 1, 181, 2, 120, 4, 172]
abbrev dktX0_shelf_3 : List UInt8 := dkwX0_shelf_3 ++ []
def dkwX0_shelf_2 : List UInt8 := [27, 50, 28, 154, 0, 14, 187, 2, 189, 89, 29, 183, 2, 191, 167, 0, 21, 28, 4, 160, 0, 15, 42]
abbrev dktX0_shelf_2 : List UInt8 := dkwX0_shelf_2 ++ dktX0_shelf_3
def dkwX0_shelf_1 : List UInt8 := [184, 2, 117, 153, 0, 15, 28, 154, 0, 13, 42, 29, 182, 1, 150, 154, 0, 5, 2, 172, 42, 180, 0, 211]
abbrev dktX0_shelf_1 : List UInt8 := dkwX0_shelf_1 ++ dktX0_shelf_2
def dkwX0_shelf_0 : List UInt8 := [27, 184, 2, 117, 153, 0, 36, 28, 3, 5, 184, 0, 112, 153, 0, 27, 28, 4, 160, 0, 10, 29]
abbrev dktX0_shelf_0 : List UInt8 := dkwX0_shelf_0 ++ dktX0_shelf_1
theorem dksX0_shelf_0 : cX0_shelf.data.toList.drop 0 = dktX0_shelf_0 := by decide +kernel
theorem dksX0_shelf_1 : cX0_shelf.data.toList.drop 22 = dktX0_shelf_1 := dk_seg dksX0_shelf_0 22 rfl rfl
theorem dksX0_shelf_2 : cX0_shelf.data.toList.drop 46 = dktX0_shelf_2 := dk_seg dksX0_shelf_1 24 rfl rfl
theorem dksX0_shelf_3 : cX0_shelf.data.toList.drop 69 = dktX0_shelf_3 := dk_seg dksX0_shelf_2 23 rfl rfl
theorem dX0_shelf_0 : decode cX0_shelf 0 = .ok (.iload_n 1, 1) := dk_27 (dk_at dksX0_shelf_0 0 rfl rfl)
theorem dX0_shelf_1 : decode cX0_shelf 1 = .ok (.invokestatic 629, 3) := dk_184 2 117 (dk_at dksX0_shelf_0 1 rfl rfl)
theorem dX0_shelf_4 : decode cX0_shelf 4 = .ok (.ifCond .eq 36, 3) := dk_153 0 36 (dk_at dksX0_shelf_0 4 rfl rfl)
theorem dX0_shelf_7 : decode cX0_shelf 7 = .ok (.iload_n 2, 1) := dk_28 (dk_at dksX0_shelf_0 7 rfl rfl)
theorem dX0_shelf_8 : decode cX0_shelf 8 = .ok (.iconst 0, 1) := dk_3 (dk_at dksX0_shelf_0 8 rfl rfl)
theorem dX0_shelf_9 : decode cX0_shelf 9 = .ok (.iconst 2, 1) := dk_5 (dk_at dksX0_shelf_0 9 rfl rfl)
theorem dX0_shelf_10 : decode cX0_shelf 10 = .ok (.invokestatic 112, 3) := dk_184 0 112 (dk_at dksX0_shelf_0 10 rfl rfl)
theorem dX0_shelf_13 : decode cX0_shelf 13 = .ok (.ifCond .eq 27, 3) := dk_153 0 27 (dk_at dksX0_shelf_0 13 rfl rfl)
theorem dX0_shelf_16 : decode cX0_shelf 16 = .ok (.iload_n 2, 1) := dk_28 (dk_at dksX0_shelf_0 16 rfl rfl)
theorem dX0_shelf_17 : decode cX0_shelf 17 = .ok (.iconst 1, 1) := dk_4 (dk_at dksX0_shelf_0 17 rfl rfl)
theorem dX0_shelf_18 : decode cX0_shelf 18 = .ok (.if_icmp .ne 10, 3) := dk_160 0 10 (dk_at dksX0_shelf_0 18 rfl rfl)
theorem dX0_shelf_21 : decode cX0_shelf 21 = .ok (.iload_n 3, 1) := dk_29 (dk_at dksX0_shelf_0 21 rfl rfl)
theorem dX0_shelf_22 : decode cX0_shelf 22 = .ok (.invokestatic 629, 3) := dk_184 2 117 (dk_at dksX0_shelf_1 0 rfl rfl)
theorem dX0_shelf_25 : decode cX0_shelf 25 = .ok (.ifCond .eq 15, 3) := dk_153 0 15 (dk_at dksX0_shelf_1 3 rfl rfl)
theorem dX0_shelf_28 : decode cX0_shelf 28 = .ok (.iload_n 2, 1) := dk_28 (dk_at dksX0_shelf_1 6 rfl rfl)
theorem dX0_shelf_29 : decode cX0_shelf 29 = .ok (.ifCond .ne 13, 3) := dk_154 0 13 (dk_at dksX0_shelf_1 7 rfl rfl)
theorem dX0_shelf_32 : decode cX0_shelf 32 = .ok (.aload_n 0, 1) := dk_42 (dk_at dksX0_shelf_1 10 rfl rfl)
theorem dX0_shelf_33 : decode cX0_shelf 33 = .ok (.iload_n 3, 1) := dk_29 (dk_at dksX0_shelf_1 11 rfl rfl)
theorem dX0_shelf_34 : decode cX0_shelf 34 = .ok (.invokevirtual 406, 3) := dk_182 1 150 (dk_at dksX0_shelf_1 12 rfl rfl)
theorem dX0_shelf_37 : decode cX0_shelf 37 = .ok (.ifCond .ne 5, 3) := dk_154 0 5 (dk_at dksX0_shelf_1 15 rfl rfl)
theorem dX0_shelf_40 : decode cX0_shelf 40 = .ok (.iconst (-1), 1) := dk_2 (dk_at dksX0_shelf_1 18 rfl rfl)
theorem dX0_shelf_41 : decode cX0_shelf 41 = .ok (.ireturn, 1) := dk_172 (dk_at dksX0_shelf_1 19 rfl rfl)
theorem dX0_shelf_42 : decode cX0_shelf 42 = .ok (.aload_n 0, 1) := dk_42 (dk_at dksX0_shelf_1 20 rfl rfl)
theorem dX0_shelf_43 : decode cX0_shelf 43 = .ok (.getfield 211, 3) := dk_180 0 211 (dk_at dksX0_shelf_1 21 rfl rfl)
theorem dX0_shelf_46 : decode cX0_shelf 46 = .ok (.iload_n 1, 1) := dk_27 (dk_at dksX0_shelf_2 0 rfl rfl)
theorem dX0_shelf_47 : decode cX0_shelf 47 = .ok (.aaload, 1) := dk_50 (dk_at dksX0_shelf_2 1 rfl rfl)
theorem dX0_shelf_48 : decode cX0_shelf 48 = .ok (.iload_n 2, 1) := dk_28 (dk_at dksX0_shelf_2 2 rfl rfl)
theorem dX0_shelf_49 : decode cX0_shelf 49 = .ok (.ifCond .ne 14, 3) := dk_154 0 14 (dk_at dksX0_shelf_2 3 rfl rfl)
theorem dX0_shelf_52 : decode cX0_shelf 52 = .ok (.new 701, 3) := dk_187 2 189 (dk_at dksX0_shelf_2 6 rfl rfl)
theorem dX0_shelf_55 : decode cX0_shelf 55 = .ok (.dup, 1) := dk_89 (dk_at dksX0_shelf_2 9 rfl rfl)
theorem dX0_shelf_56 : decode cX0_shelf 56 = .ok (.iload_n 3, 1) := dk_29 (dk_at dksX0_shelf_2 10 rfl rfl)
theorem dX0_shelf_57 : decode cX0_shelf 57 = .ok (.invokespecial 703, 3) := dk_183 2 191 (dk_at dksX0_shelf_2 11 rfl rfl)
theorem dX0_shelf_60 : decode cX0_shelf 60 = .ok (.goto 21, 3) := dk_167 0 21 (dk_at dksX0_shelf_2 14 rfl rfl)
theorem dX0_shelf_63 : decode cX0_shelf 63 = .ok (.iload_n 2, 1) := dk_28 (dk_at dksX0_shelf_2 17 rfl rfl)
theorem dX0_shelf_64 : decode cX0_shelf 64 = .ok (.iconst 1, 1) := dk_4 (dk_at dksX0_shelf_2 18 rfl rfl)
theorem dX0_shelf_65 : decode cX0_shelf 65 = .ok (.if_icmp .ne 15, 3) := dk_160 0 15 (dk_at dksX0_shelf_2 19 rfl rfl)
theorem dX0_shelf_68 : decode cX0_shelf 68 = .ok (.aload_n 0, 1) := dk_42 (dk_at dksX0_shelf_2 22 rfl rfl)
theorem dX0_shelf_69 : decode cX0_shelf 69 = .ok (.getfield 215, 3) := dk_180 0 215 (dk_at dksX0_shelf_3 0 rfl rfl)
theorem dX0_shelf_72 : decode cX0_shelf 72 = .ok (.iload_n 3, 1) := dk_29 (dk_at dksX0_shelf_3 3 rfl rfl)
theorem dX0_shelf_73 : decode cX0_shelf 73 = .ok (.aaload, 1) := dk_50 (dk_at dksX0_shelf_3 4 rfl rfl)
theorem dX0_shelf_74 : decode cX0_shelf 74 = .ok (.getfield 632, 3) := dk_180 2 120 (dk_at dksX0_shelf_3 5 rfl rfl)
theorem dX0_shelf_77 : decode cX0_shelf 77 = .ok (.goto 4, 3) := dk_167 0 4 (dk_at dksX0_shelf_3 8 rfl rfl)
theorem dX0_shelf_80 : decode cX0_shelf 80 = .ok (.aconst_null, 1) := dk_1 (dk_at dksX0_shelf_3 11 rfl rfl)
theorem dX0_shelf_81 : decode cX0_shelf 81 = .ok (.putfield 632, 3) := dk_181 2 120 (dk_at dksX0_shelf_3 12 rfl rfl)
theorem dX0_shelf_84 : decode cX0_shelf 84 = .ok (.iconst 1, 1) := dk_4 (dk_at dksX0_shelf_3 15 rfl rfl)
theorem dX0_shelf_85 : decode cX0_shelf 85 = .ok (.ireturn, 1) := dk_172 (dk_at dksX0_shelf_3 16 rfl rfl)
abbrev cX0_taken : ByteArray := prog_1_method_141_code
def yX0_taken : MethodName := ⟨RX0, "taken", "(II)I"⟩
def dkwX0_taken_1 : List UInt8 := [154, 0, 5, 2, 172, 42, 27, 182, 2, 205, 28, 184, 2, 208, 172, 78, 16, 243, 172, 78, 16, 245, 172]
abbrev dktX0_taken_1 : List UInt8 := dkwX0_taken_1 ++ []
def dkwX0_taken_0 : List UInt8 := [27, 184, 2, 117, 153, 0, 23, 28, 3, 8, 184, 0, 112, 154, 0, 16, 28, 16, 10, 16, 13, 184, 0, 112]
abbrev dktX0_taken_0 : List UInt8 := dkwX0_taken_0 ++ dktX0_taken_1
theorem dksX0_taken_0 : cX0_taken.data.toList.drop 0 = dktX0_taken_0 := by decide +kernel
theorem dksX0_taken_1 : cX0_taken.data.toList.drop 24 = dktX0_taken_1 := dk_seg dksX0_taken_0 24 rfl rfl
theorem dX0_taken_0 : decode cX0_taken 0 = .ok (.iload_n 1, 1) := dk_27 (dk_at dksX0_taken_0 0 rfl rfl)
theorem dX0_taken_1 : decode cX0_taken 1 = .ok (.invokestatic 629, 3) := dk_184 2 117 (dk_at dksX0_taken_0 1 rfl rfl)
theorem dX0_taken_4 : decode cX0_taken 4 = .ok (.ifCond .eq 23, 3) := dk_153 0 23 (dk_at dksX0_taken_0 4 rfl rfl)
theorem dX0_taken_7 : decode cX0_taken 7 = .ok (.iload_n 2, 1) := dk_28 (dk_at dksX0_taken_0 7 rfl rfl)
theorem dX0_taken_8 : decode cX0_taken 8 = .ok (.iconst 0, 1) := dk_3 (dk_at dksX0_taken_0 8 rfl rfl)
theorem dX0_taken_9 : decode cX0_taken 9 = .ok (.iconst 5, 1) := dk_8 (dk_at dksX0_taken_0 9 rfl rfl)
theorem dX0_taken_10 : decode cX0_taken 10 = .ok (.invokestatic 112, 3) := dk_184 0 112 (dk_at dksX0_taken_0 10 rfl rfl)
theorem dX0_taken_13 : decode cX0_taken 13 = .ok (.ifCond .ne 16, 3) := dk_154 0 16 (dk_at dksX0_taken_0 13 rfl rfl)
theorem dX0_taken_16 : decode cX0_taken 16 = .ok (.iload_n 2, 1) := dk_28 (dk_at dksX0_taken_0 16 rfl rfl)
theorem dX0_taken_17 : decode cX0_taken 17 = .ok (.bipush 10, 2) := dk_16 10 (dk_at dksX0_taken_0 17 rfl rfl)
theorem dX0_taken_19 : decode cX0_taken 19 = .ok (.bipush 13, 2) := dk_16 13 (dk_at dksX0_taken_0 19 rfl rfl)
theorem dX0_taken_21 : decode cX0_taken 21 = .ok (.invokestatic 112, 3) := dk_184 0 112 (dk_at dksX0_taken_0 21 rfl rfl)
theorem dX0_taken_24 : decode cX0_taken 24 = .ok (.ifCond .ne 5, 3) := dk_154 0 5 (dk_at dksX0_taken_1 0 rfl rfl)
theorem dX0_taken_27 : decode cX0_taken 27 = .ok (.iconst (-1), 1) := dk_2 (dk_at dksX0_taken_1 3 rfl rfl)
theorem dX0_taken_28 : decode cX0_taken 28 = .ok (.ireturn, 1) := dk_172 (dk_at dksX0_taken_1 4 rfl rfl)
theorem dX0_taken_29 : decode cX0_taken 29 = .ok (.aload_n 0, 1) := dk_42 (dk_at dksX0_taken_1 5 rfl rfl)
theorem dX0_taken_30 : decode cX0_taken 30 = .ok (.iload_n 1, 1) := dk_27 (dk_at dksX0_taken_1 6 rfl rfl)
theorem dX0_taken_31 : decode cX0_taken 31 = .ok (.invokevirtual 717, 3) := dk_182 2 205 (dk_at dksX0_taken_1 7 rfl rfl)
theorem dX0_taken_34 : decode cX0_taken 34 = .ok (.iload_n 2, 1) := dk_28 (dk_at dksX0_taken_1 10 rfl rfl)
theorem dX0_taken_35 : decode cX0_taken 35 = .ok (.invokestatic 720, 3) := dk_184 2 208 (dk_at dksX0_taken_1 11 rfl rfl)
theorem dX0_taken_38 : decode cX0_taken 38 = .ok (.ireturn, 1) := dk_172 (dk_at dksX0_taken_1 14 rfl rfl)
theorem dX0_taken_39 : decode cX0_taken 39 = .ok (.astore_n 3, 1) := dk_78 (dk_at dksX0_taken_1 15 rfl rfl)
theorem dX0_taken_40 : decode cX0_taken 40 = .ok (.bipush (-13), 2) := dk_16 243 (dk_at dksX0_taken_1 16 rfl rfl)
theorem dX0_taken_42 : decode cX0_taken 42 = .ok (.ireturn, 1) := dk_172 (dk_at dksX0_taken_1 18 rfl rfl)
theorem dX0_taken_43 : decode cX0_taken 43 = .ok (.astore_n 3, 1) := dk_78 (dk_at dksX0_taken_1 19 rfl rfl)
theorem dX0_taken_44 : decode cX0_taken 44 = .ok (.bipush (-11), 2) := dk_16 245 (dk_at dksX0_taken_1 20 rfl rfl)
theorem dX0_taken_46 : decode cX0_taken 46 = .ok (.ireturn, 1) := dk_172 (dk_at dksX0_taken_1 22 rfl rfl)
abbrev cX0_held : ByteArray := prog_1_method_138_code
def yX0_held : MethodName := ⟨RX0, "held", "(I)Ljava/lang/Object;"⟩
def dkwX0_held_1 : List UInt8 := [42, 45, 180, 2, 193, 182, 1, 150, 153, 0, 14, 42, 45, 180, 2, 193, 182, 2, 196, 167, 0, 4, 1, 176]
abbrev dktX0_held_1 : List UInt8 := dkwX0_held_1 ++ []
def dkwX0_held_0 : List UInt8 := [42, 180, 0, 211, 27, 50, 180, 2, 120, 77, 44, 193, 2, 189, 154, 0, 5, 44, 176, 44, 192, 2, 189, 78]
abbrev dktX0_held_0 : List UInt8 := dkwX0_held_0 ++ dktX0_held_1
theorem dksX0_held_0 : cX0_held.data.toList.drop 0 = dktX0_held_0 := by decide +kernel
theorem dksX0_held_1 : cX0_held.data.toList.drop 24 = dktX0_held_1 := dk_seg dksX0_held_0 24 rfl rfl
theorem dX0_held_0 : decode cX0_held 0 = .ok (.aload_n 0, 1) := dk_42 (dk_at dksX0_held_0 0 rfl rfl)
theorem dX0_held_1 : decode cX0_held 1 = .ok (.getfield 211, 3) := dk_180 0 211 (dk_at dksX0_held_0 1 rfl rfl)
theorem dX0_held_4 : decode cX0_held 4 = .ok (.iload_n 1, 1) := dk_27 (dk_at dksX0_held_0 4 rfl rfl)
theorem dX0_held_5 : decode cX0_held 5 = .ok (.aaload, 1) := dk_50 (dk_at dksX0_held_0 5 rfl rfl)
theorem dX0_held_6 : decode cX0_held 6 = .ok (.getfield 632, 3) := dk_180 2 120 (dk_at dksX0_held_0 6 rfl rfl)
theorem dX0_held_9 : decode cX0_held 9 = .ok (.astore_n 2, 1) := dk_77 (dk_at dksX0_held_0 9 rfl rfl)
theorem dX0_held_10 : decode cX0_held 10 = .ok (.aload_n 2, 1) := dk_44 (dk_at dksX0_held_0 10 rfl rfl)
theorem dX0_held_11 : decode cX0_held 11 = .ok (.instanceof 701, 3) := dk_193 2 189 (dk_at dksX0_held_0 11 rfl rfl)
theorem dX0_held_14 : decode cX0_held 14 = .ok (.ifCond .ne 5, 3) := dk_154 0 5 (dk_at dksX0_held_0 14 rfl rfl)
theorem dX0_held_17 : decode cX0_held 17 = .ok (.aload_n 2, 1) := dk_44 (dk_at dksX0_held_0 17 rfl rfl)
theorem dX0_held_18 : decode cX0_held 18 = .ok (.areturn, 1) := dk_176 (dk_at dksX0_held_0 18 rfl rfl)
theorem dX0_held_19 : decode cX0_held 19 = .ok (.aload_n 2, 1) := dk_44 (dk_at dksX0_held_0 19 rfl rfl)
theorem dX0_held_20 : decode cX0_held 20 = .ok (.checkcast 701, 3) := dk_192 2 189 (dk_at dksX0_held_0 20 rfl rfl)
theorem dX0_held_23 : decode cX0_held 23 = .ok (.astore_n 3, 1) := dk_78 (dk_at dksX0_held_0 23 rfl rfl)
theorem dX0_held_24 : decode cX0_held 24 = .ok (.aload_n 0, 1) := dk_42 (dk_at dksX0_held_1 0 rfl rfl)
theorem dX0_held_25 : decode cX0_held 25 = .ok (.aload_n 3, 1) := dk_45 (dk_at dksX0_held_1 1 rfl rfl)
theorem dX0_held_26 : decode cX0_held 26 = .ok (.getfield 705, 3) := dk_180 2 193 (dk_at dksX0_held_1 2 rfl rfl)
theorem dX0_held_29 : decode cX0_held 29 = .ok (.invokevirtual 406, 3) := dk_182 1 150 (dk_at dksX0_held_1 5 rfl rfl)
theorem dX0_held_32 : decode cX0_held 32 = .ok (.ifCond .eq 14, 3) := dk_153 0 14 (dk_at dksX0_held_1 8 rfl rfl)
theorem dX0_held_35 : decode cX0_held 35 = .ok (.aload_n 0, 1) := dk_42 (dk_at dksX0_held_1 11 rfl rfl)
theorem dX0_held_36 : decode cX0_held 36 = .ok (.aload_n 3, 1) := dk_45 (dk_at dksX0_held_1 12 rfl rfl)
theorem dX0_held_37 : decode cX0_held 37 = .ok (.getfield 705, 3) := dk_180 2 193 (dk_at dksX0_held_1 13 rfl rfl)
theorem dX0_held_40 : decode cX0_held 40 = .ok (.invokevirtual 708, 3) := dk_182 2 196 (dk_at dksX0_held_1 16 rfl rfl)
theorem dX0_held_43 : decode cX0_held 43 = .ok (.goto 4, 3) := dk_167 0 4 (dk_at dksX0_held_1 19 rfl rfl)
theorem dX0_held_46 : decode cX0_held 46 = .ok (.aconst_null, 1) := dk_1 (dk_at dksX0_held_1 22 rfl rfl)
theorem dX0_held_47 : decode cX0_held 47 = .ok (.areturn, 1) := dk_176 (dk_at dksX0_held_1 23 rfl rfl)
abbrev cX0_makerOf : ByteArray := prog_1_method_136_code
def yX0_makerOf : MethodName := ⟨RX0, "makerOf", "(I)LCoarserOrders$Plain;"⟩
def dkwX0_makerOf_0 : List UInt8 := [42, 180, 0, 133, 27, 50, 176]
abbrev dktX0_makerOf_0 : List UInt8 := dkwX0_makerOf_0 ++ []
theorem dksX0_makerOf_0 : cX0_makerOf.data.toList.drop 0 = dktX0_makerOf_0 := by decide +kernel
theorem dX0_makerOf_0 : decode cX0_makerOf 0 = .ok (.aload_n 0, 1) := dk_42 (dk_at dksX0_makerOf_0 0 rfl rfl)
theorem dX0_makerOf_1 : decode cX0_makerOf 1 = .ok (.getfield 133, 3) := dk_180 0 133 (dk_at dksX0_makerOf_0 1 rfl rfl)
theorem dX0_makerOf_4 : decode cX0_makerOf 4 = .ok (.iload_n 1, 1) := dk_27 (dk_at dksX0_makerOf_0 4 rfl rfl)
theorem dX0_makerOf_5 : decode cX0_makerOf 5 = .ok (.aaload, 1) := dk_50 (dk_at dksX0_makerOf_0 5 rfl rfl)
theorem dX0_makerOf_6 : decode cX0_makerOf 6 = .ok (.areturn, 1) := dk_176 (dk_at dksX0_makerOf_0 6 rfl rfl)
abbrev cX0_takenAs : ByteArray := prog_1_method_140_code
def yX0_takenAs : MethodName := ⟨RX0, "takenAs", "(Ljava/lang/Object;I)I"⟩
def dkwX0_takenAs_1 : List UInt8 := [182, 2, 203, 172]
abbrev dktX0_takenAs_1 : List UInt8 := dkwX0_takenAs_1 ++ []
def dkwX0_takenAs_0 : List UInt8 := [27, 16, 10, 161, 0, 14, 42, 27, 16, 10, 100, 184, 2, 169, 167, 0, 11, 42, 27, 184, 2, 199]
abbrev dktX0_takenAs_0 : List UInt8 := dkwX0_takenAs_0 ++ dktX0_takenAs_1
theorem dksX0_takenAs_0 : cX0_takenAs.data.toList.drop 0 = dktX0_takenAs_0 := by decide +kernel
theorem dksX0_takenAs_1 : cX0_takenAs.data.toList.drop 22 = dktX0_takenAs_1 := dk_seg dksX0_takenAs_0 22 rfl rfl
theorem dX0_takenAs_0 : decode cX0_takenAs 0 = .ok (.iload_n 1, 1) := dk_27 (dk_at dksX0_takenAs_0 0 rfl rfl)
theorem dX0_takenAs_1 : decode cX0_takenAs 1 = .ok (.bipush 10, 2) := dk_16 10 (dk_at dksX0_takenAs_0 1 rfl rfl)
theorem dX0_takenAs_3 : decode cX0_takenAs 3 = .ok (.if_icmp .lt 14, 3) := dk_161 0 14 (dk_at dksX0_takenAs_0 3 rfl rfl)
theorem dX0_takenAs_6 : decode cX0_takenAs 6 = .ok (.aload_n 0, 1) := dk_42 (dk_at dksX0_takenAs_0 6 rfl rfl)
theorem dX0_takenAs_7 : decode cX0_takenAs 7 = .ok (.iload_n 1, 1) := dk_27 (dk_at dksX0_takenAs_0 7 rfl rfl)
theorem dX0_takenAs_8 : decode cX0_takenAs 8 = .ok (.bipush 10, 2) := dk_16 10 (dk_at dksX0_takenAs_0 8 rfl rfl)
theorem dX0_takenAs_10 : decode cX0_takenAs 10 = .ok (.isub, 1) := dk_100 (dk_at dksX0_takenAs_0 10 rfl rfl)
theorem dX0_takenAs_11 : decode cX0_takenAs 11 = .ok (.invokestatic 681, 3) := dk_184 2 169 (dk_at dksX0_takenAs_0 11 rfl rfl)
theorem dX0_takenAs_14 : decode cX0_takenAs 14 = .ok (.goto 11, 3) := dk_167 0 11 (dk_at dksX0_takenAs_0 14 rfl rfl)
theorem dX0_takenAs_17 : decode cX0_takenAs 17 = .ok (.aload_n 0, 1) := dk_42 (dk_at dksX0_takenAs_0 17 rfl rfl)
theorem dX0_takenAs_18 : decode cX0_takenAs 18 = .ok (.iload_n 1, 1) := dk_27 (dk_at dksX0_takenAs_0 18 rfl rfl)
theorem dX0_takenAs_19 : decode cX0_takenAs 19 = .ok (.invokestatic 711, 3) := dk_184 2 199 (dk_at dksX0_takenAs_0 19 rfl rfl)
theorem dX0_takenAs_22 : decode cX0_takenAs 22 = .ok (.invokevirtual 715, 3) := dk_182 2 203 (dk_at dksX0_takenAs_1 0 rfl rfl)
theorem dX0_takenAs_25 : decode cX0_takenAs 25 = .ok (.ireturn, 1) := dk_172 (dk_at dksX0_takenAs_1 3 rfl rfl)
abbrev cX0_takenFor : ByteArray := prog_1_method_139_code
def yX0_takenFor : MethodName := ⟨RX0, "takenFor", "(Ljava/lang/Object;I)LCoarserOrders$Plain;"⟩
def dkwX0_takenFor_3 : List UInt8 := [176, 42, 192, 0, 28, 176]
abbrev dktX0_takenFor_3 : List UInt8 := dkwX0_takenFor_3 ++ []
def dkwX0_takenFor_2 : List UInt8 := [42, 192, 0, 31, 176, 42, 192, 0, 13, 176, 42, 192, 0, 19, 176, 42, 192, 0, 22, 176, 42, 192, 0, 25]
abbrev dktX0_takenFor_2 : List UInt8 := dkwX0_takenFor_2 ++ dktX0_takenFor_3
def dkwX0_takenFor_1 : List UInt8 := [170, 0, 0, 0, 0, 0, 60, 0, 0, 0, 0, 0, 0, 0, 4, 0, 0, 0, 35, 0, 0, 0, 40, 0, 0, 0, 45, 0, 0, 0, 50, 0, 0, 0, 55]
abbrev dktX0_takenFor_1 : List UInt8 := dkwX0_takenFor_1 ++ dktX0_takenFor_2
def dkwX0_takenFor_0 : List UInt8 := [27]
abbrev dktX0_takenFor_0 : List UInt8 := dkwX0_takenFor_0 ++ dktX0_takenFor_1
theorem dksX0_takenFor_0 : cX0_takenFor.data.toList.drop 0 = dktX0_takenFor_0 := by decide +kernel
theorem dksX0_takenFor_1 : cX0_takenFor.data.toList.drop 1 = dktX0_takenFor_1 := dk_seg dksX0_takenFor_0 1 rfl rfl
theorem dksX0_takenFor_2 : cX0_takenFor.data.toList.drop 36 = dktX0_takenFor_2 := dk_seg dksX0_takenFor_1 35 rfl rfl
theorem dksX0_takenFor_3 : cX0_takenFor.data.toList.drop 60 = dktX0_takenFor_3 := dk_seg dksX0_takenFor_2 24 rfl rfl
theorem dX0_takenFor_0 : decode cX0_takenFor 0 = .ok (.iload_n 1, 1) := dk_27 (dk_at dksX0_takenFor_0 0 rfl rfl)
theorem dX0_takenFor_1 : decode cX0_takenFor 1 = .ok (.tableswitch 60 0 4 #[35, 40, 45, 50, 55], 35) := by decide +kernel
theorem dX0_takenFor_36 : decode cX0_takenFor 36 = .ok (.aload_n 0, 1) := dk_42 (dk_at dksX0_takenFor_2 0 rfl rfl)
theorem dX0_takenFor_37 : decode cX0_takenFor 37 = .ok (.checkcast 31, 3) := dk_192 0 31 (dk_at dksX0_takenFor_2 1 rfl rfl)
theorem dX0_takenFor_40 : decode cX0_takenFor 40 = .ok (.areturn, 1) := dk_176 (dk_at dksX0_takenFor_2 4 rfl rfl)
theorem dX0_takenFor_41 : decode cX0_takenFor 41 = .ok (.aload_n 0, 1) := dk_42 (dk_at dksX0_takenFor_2 5 rfl rfl)
theorem dX0_takenFor_42 : decode cX0_takenFor 42 = .ok (.checkcast 13, 3) := dk_192 0 13 (dk_at dksX0_takenFor_2 6 rfl rfl)
theorem dX0_takenFor_45 : decode cX0_takenFor 45 = .ok (.areturn, 1) := dk_176 (dk_at dksX0_takenFor_2 9 rfl rfl)
theorem dX0_takenFor_46 : decode cX0_takenFor 46 = .ok (.aload_n 0, 1) := dk_42 (dk_at dksX0_takenFor_2 10 rfl rfl)
theorem dX0_takenFor_47 : decode cX0_takenFor 47 = .ok (.checkcast 19, 3) := dk_192 0 19 (dk_at dksX0_takenFor_2 11 rfl rfl)
theorem dX0_takenFor_50 : decode cX0_takenFor 50 = .ok (.areturn, 1) := dk_176 (dk_at dksX0_takenFor_2 14 rfl rfl)
theorem dX0_takenFor_51 : decode cX0_takenFor 51 = .ok (.aload_n 0, 1) := dk_42 (dk_at dksX0_takenFor_2 15 rfl rfl)
theorem dX0_takenFor_52 : decode cX0_takenFor 52 = .ok (.checkcast 22, 3) := dk_192 0 22 (dk_at dksX0_takenFor_2 16 rfl rfl)
theorem dX0_takenFor_55 : decode cX0_takenFor 55 = .ok (.areturn, 1) := dk_176 (dk_at dksX0_takenFor_2 19 rfl rfl)
theorem dX0_takenFor_56 : decode cX0_takenFor 56 = .ok (.aload_n 0, 1) := dk_42 (dk_at dksX0_takenFor_2 20 rfl rfl)
theorem dX0_takenFor_57 : decode cX0_takenFor 57 = .ok (.checkcast 25, 3) := dk_192 0 25 (dk_at dksX0_takenFor_2 21 rfl rfl)
theorem dX0_takenFor_60 : decode cX0_takenFor 60 = .ok (.areturn, 1) := dk_176 (dk_at dksX0_takenFor_3 0 rfl rfl)
theorem dX0_takenFor_61 : decode cX0_takenFor 61 = .ok (.aload_n 0, 1) := dk_42 (dk_at dksX0_takenFor_3 1 rfl rfl)
theorem dX0_takenFor_62 : decode cX0_takenFor 62 = .ok (.checkcast 28, 3) := dk_192 0 28 (dk_at dksX0_takenFor_3 2 rfl rfl)
theorem dX0_takenFor_65 : decode cX0_takenFor 65 = .ok (.areturn, 1) := dk_176 (dk_at dksX0_takenFor_3 5 rfl rfl)
abbrev cX0_act : ByteArray := prog_1_method_142_code
def yX0_act : MethodName := ⟨RX0, "act", "(III)I"⟩
def dkwX0_act_6 : List UInt8 := [180, 0, 221, 185, 2, 226, 3, 0, 172, 58, 6, 16, 241, 172]
abbrev dktX0_act_6 : List UInt8 := dkwX0_act_6 ++ []
def dkwX0_act_5 : List UInt8 := [185, 2, 220, 3, 0, 172, 25, 5, 29, 42, 180, 0, 221, 185, 2, 223, 3, 0, 172, 25, 5, 29, 42]
abbrev dktX0_act_5 : List UInt8 := dkwX0_act_5 ++ dktX0_act_6
def dkwX0_act_4 : List UInt8 := [25, 5, 29, 42, 180, 0, 221, 185, 2, 216, 3, 0, 172, 25, 5, 29, 42, 180, 0, 221]
abbrev dktX0_act_4 : List UInt8 := dkwX0_act_4 ++ dktX0_act_5
def dkwX0_act_3 : List UInt8 := [170, 0, 0, 0, 0, 0, 66, 0, 0, 0, 0, 0, 0, 0, 2, 0, 0, 0, 27, 0, 0, 0, 40, 0, 0, 0, 53]
abbrev dktX0_act_3 : List UInt8 := dkwX0_act_3 ++ dktX0_act_4
def dkwX0_act_2 : List UInt8 := [192, 2, 214, 58, 5, 28]
abbrev dktX0_act_2 : List UInt8 := dkwX0_act_2 ++ dktX0_act_3
def dkwX0_act_1 : List UInt8 := [42, 27, 182, 2, 205, 167, 0, 4, 1, 58, 4, 25, 4, 193, 2, 214, 154, 0, 5, 3, 172, 25, 4]
abbrev dktX0_act_1 : List UInt8 := dkwX0_act_1 ++ dktX0_act_2
def dkwX0_act_0 : List UInt8 := [42, 180, 0, 221, 3, 181, 2, 211, 27, 184, 2, 117, 153, 0, 20, 28, 3, 6, 184, 0, 112, 153, 0, 11]
abbrev dktX0_act_0 : List UInt8 := dkwX0_act_0 ++ dktX0_act_1
theorem dksX0_act_0 : cX0_act.data.toList.drop 0 = dktX0_act_0 := by decide +kernel
theorem dksX0_act_1 : cX0_act.data.toList.drop 24 = dktX0_act_1 := dk_seg dksX0_act_0 24 rfl rfl
theorem dksX0_act_2 : cX0_act.data.toList.drop 47 = dktX0_act_2 := dk_seg dksX0_act_1 23 rfl rfl
theorem dksX0_act_3 : cX0_act.data.toList.drop 53 = dktX0_act_3 := dk_seg dksX0_act_2 6 rfl rfl
theorem dksX0_act_4 : cX0_act.data.toList.drop 80 = dktX0_act_4 := dk_seg dksX0_act_3 27 rfl rfl
theorem dksX0_act_5 : cX0_act.data.toList.drop 100 = dktX0_act_5 := dk_seg dksX0_act_4 20 rfl rfl
theorem dksX0_act_6 : cX0_act.data.toList.drop 123 = dktX0_act_6 := dk_seg dksX0_act_5 23 rfl rfl
theorem dX0_act_0 : decode cX0_act 0 = .ok (.aload_n 0, 1) := dk_42 (dk_at dksX0_act_0 0 rfl rfl)
theorem dX0_act_1 : decode cX0_act 1 = .ok (.getfield 221, 3) := dk_180 0 221 (dk_at dksX0_act_0 1 rfl rfl)
theorem dX0_act_4 : decode cX0_act 4 = .ok (.iconst 0, 1) := dk_3 (dk_at dksX0_act_0 4 rfl rfl)
theorem dX0_act_5 : decode cX0_act 5 = .ok (.putfield 723, 3) := dk_181 2 211 (dk_at dksX0_act_0 5 rfl rfl)
theorem dX0_act_8 : decode cX0_act 8 = .ok (.iload_n 1, 1) := dk_27 (dk_at dksX0_act_0 8 rfl rfl)
theorem dX0_act_9 : decode cX0_act 9 = .ok (.invokestatic 629, 3) := dk_184 2 117 (dk_at dksX0_act_0 9 rfl rfl)
theorem dX0_act_12 : decode cX0_act 12 = .ok (.ifCond .eq 20, 3) := dk_153 0 20 (dk_at dksX0_act_0 12 rfl rfl)
theorem dX0_act_15 : decode cX0_act 15 = .ok (.iload_n 2, 1) := dk_28 (dk_at dksX0_act_0 15 rfl rfl)
theorem dX0_act_16 : decode cX0_act 16 = .ok (.iconst 0, 1) := dk_3 (dk_at dksX0_act_0 16 rfl rfl)
theorem dX0_act_17 : decode cX0_act 17 = .ok (.iconst 3, 1) := dk_6 (dk_at dksX0_act_0 17 rfl rfl)
theorem dX0_act_18 : decode cX0_act 18 = .ok (.invokestatic 112, 3) := dk_184 0 112 (dk_at dksX0_act_0 18 rfl rfl)
theorem dX0_act_21 : decode cX0_act 21 = .ok (.ifCond .eq 11, 3) := dk_153 0 11 (dk_at dksX0_act_0 21 rfl rfl)
theorem dX0_act_24 : decode cX0_act 24 = .ok (.aload_n 0, 1) := dk_42 (dk_at dksX0_act_1 0 rfl rfl)
theorem dX0_act_25 : decode cX0_act 25 = .ok (.iload_n 1, 1) := dk_27 (dk_at dksX0_act_1 1 rfl rfl)
theorem dX0_act_26 : decode cX0_act 26 = .ok (.invokevirtual 717, 3) := dk_182 2 205 (dk_at dksX0_act_1 2 rfl rfl)
theorem dX0_act_29 : decode cX0_act 29 = .ok (.goto 4, 3) := dk_167 0 4 (dk_at dksX0_act_1 5 rfl rfl)
theorem dX0_act_32 : decode cX0_act 32 = .ok (.aconst_null, 1) := dk_1 (dk_at dksX0_act_1 8 rfl rfl)
theorem dX0_act_33 : decode cX0_act 33 = .ok (.astore 4, 2) := dk_58 4 (dk_at dksX0_act_1 9 rfl rfl)
theorem dX0_act_35 : decode cX0_act 35 = .ok (.aload 4, 2) := dk_25 4 (dk_at dksX0_act_1 11 rfl rfl)
theorem dX0_act_37 : decode cX0_act 37 = .ok (.instanceof 726, 3) := dk_193 2 214 (dk_at dksX0_act_1 13 rfl rfl)
theorem dX0_act_40 : decode cX0_act 40 = .ok (.ifCond .ne 5, 3) := dk_154 0 5 (dk_at dksX0_act_1 16 rfl rfl)
theorem dX0_act_43 : decode cX0_act 43 = .ok (.iconst 0, 1) := dk_3 (dk_at dksX0_act_1 19 rfl rfl)
theorem dX0_act_44 : decode cX0_act 44 = .ok (.ireturn, 1) := dk_172 (dk_at dksX0_act_1 20 rfl rfl)
theorem dX0_act_45 : decode cX0_act 45 = .ok (.aload 4, 2) := dk_25 4 (dk_at dksX0_act_1 21 rfl rfl)
theorem dX0_act_47 : decode cX0_act 47 = .ok (.checkcast 726, 3) := dk_192 2 214 (dk_at dksX0_act_2 0 rfl rfl)
theorem dX0_act_50 : decode cX0_act 50 = .ok (.astore 5, 2) := dk_58 5 (dk_at dksX0_act_2 3 rfl rfl)
theorem dX0_act_52 : decode cX0_act 52 = .ok (.iload_n 2, 1) := dk_28 (dk_at dksX0_act_2 5 rfl rfl)
theorem dX0_act_53 : decode cX0_act 53 = .ok (.tableswitch 66 0 2 #[27, 40, 53], 27) := by decide +kernel
theorem dX0_act_80 : decode cX0_act 80 = .ok (.aload 5, 2) := dk_25 5 (dk_at dksX0_act_4 0 rfl rfl)
theorem dX0_act_82 : decode cX0_act 82 = .ok (.iload_n 3, 1) := dk_29 (dk_at dksX0_act_4 2 rfl rfl)
theorem dX0_act_83 : decode cX0_act 83 = .ok (.aload_n 0, 1) := dk_42 (dk_at dksX0_act_4 3 rfl rfl)
theorem dX0_act_84 : decode cX0_act 84 = .ok (.getfield 221, 3) := dk_180 0 221 (dk_at dksX0_act_4 4 rfl rfl)
theorem dX0_act_87 : decode cX0_act 87 = .ok (.invokeinterface 728 3, 5) := by decide +kernel
theorem dX0_act_92 : decode cX0_act 92 = .ok (.ireturn, 1) := dk_172 (dk_at dksX0_act_4 12 rfl rfl)
theorem dX0_act_93 : decode cX0_act 93 = .ok (.aload 5, 2) := dk_25 5 (dk_at dksX0_act_4 13 rfl rfl)
theorem dX0_act_95 : decode cX0_act 95 = .ok (.iload_n 3, 1) := dk_29 (dk_at dksX0_act_4 15 rfl rfl)
theorem dX0_act_96 : decode cX0_act 96 = .ok (.aload_n 0, 1) := dk_42 (dk_at dksX0_act_4 16 rfl rfl)
theorem dX0_act_97 : decode cX0_act 97 = .ok (.getfield 221, 3) := dk_180 0 221 (dk_at dksX0_act_4 17 rfl rfl)
theorem dX0_act_100 : decode cX0_act 100 = .ok (.invokeinterface 732 3, 5) := by decide +kernel
theorem dX0_act_105 : decode cX0_act 105 = .ok (.ireturn, 1) := dk_172 (dk_at dksX0_act_5 5 rfl rfl)
theorem dX0_act_106 : decode cX0_act 106 = .ok (.aload 5, 2) := dk_25 5 (dk_at dksX0_act_5 6 rfl rfl)
theorem dX0_act_108 : decode cX0_act 108 = .ok (.iload_n 3, 1) := dk_29 (dk_at dksX0_act_5 8 rfl rfl)
theorem dX0_act_109 : decode cX0_act 109 = .ok (.aload_n 0, 1) := dk_42 (dk_at dksX0_act_5 9 rfl rfl)
theorem dX0_act_110 : decode cX0_act 110 = .ok (.getfield 221, 3) := dk_180 0 221 (dk_at dksX0_act_5 10 rfl rfl)
theorem dX0_act_113 : decode cX0_act 113 = .ok (.invokeinterface 735 3, 5) := by decide +kernel
theorem dX0_act_118 : decode cX0_act 118 = .ok (.ireturn, 1) := dk_172 (dk_at dksX0_act_5 18 rfl rfl)
theorem dX0_act_119 : decode cX0_act 119 = .ok (.aload 5, 2) := dk_25 5 (dk_at dksX0_act_5 19 rfl rfl)
theorem dX0_act_121 : decode cX0_act 121 = .ok (.iload_n 3, 1) := dk_29 (dk_at dksX0_act_5 21 rfl rfl)
theorem dX0_act_122 : decode cX0_act 122 = .ok (.aload_n 0, 1) := dk_42 (dk_at dksX0_act_5 22 rfl rfl)
theorem dX0_act_123 : decode cX0_act 123 = .ok (.getfield 221, 3) := dk_180 0 221 (dk_at dksX0_act_6 0 rfl rfl)
theorem dX0_act_126 : decode cX0_act 126 = .ok (.invokeinterface 738 3, 5) := by decide +kernel
theorem dX0_act_131 : decode cX0_act 131 = .ok (.ireturn, 1) := dk_172 (dk_at dksX0_act_6 8 rfl rfl)
theorem dX0_act_132 : decode cX0_act 132 = .ok (.astore 6, 2) := dk_58 6 (dk_at dksX0_act_6 9 rfl rfl)
theorem dX0_act_134 : decode cX0_act 134 = .ok (.bipush (-15), 2) := dk_16 241 (dk_at dksX0_act_6 11 rfl rfl)
theorem dX0_act_136 : decode cX0_act 136 = .ok (.ireturn, 1) := dk_172 (dk_at dksX0_act_6 13 rfl rfl)
abbrev cX0_trace : ByteArray := prog_1_method_143_code
def yX0_trace : MethodName := ⟨RX0, "trace", "(I)I"⟩
def dkwX0_trace_1 : List UInt8 := [27, 46, 167, 0, 5, 16, 253, 172]
abbrev dktX0_trace_1 : List UInt8 := dkwX0_trace_1 ++ []
def dkwX0_trace_0 : List UInt8 := [27, 3, 42, 180, 0, 221, 180, 2, 211, 4, 100, 184, 0, 112, 153, 0, 15, 42, 180, 0, 221, 180, 2, 231]
abbrev dktX0_trace_0 : List UInt8 := dkwX0_trace_0 ++ dktX0_trace_1
theorem dksX0_trace_0 : cX0_trace.data.toList.drop 0 = dktX0_trace_0 := by decide +kernel
theorem dksX0_trace_1 : cX0_trace.data.toList.drop 24 = dktX0_trace_1 := dk_seg dksX0_trace_0 24 rfl rfl
theorem dX0_trace_0 : decode cX0_trace 0 = .ok (.iload_n 1, 1) := dk_27 (dk_at dksX0_trace_0 0 rfl rfl)
theorem dX0_trace_1 : decode cX0_trace 1 = .ok (.iconst 0, 1) := dk_3 (dk_at dksX0_trace_0 1 rfl rfl)
theorem dX0_trace_2 : decode cX0_trace 2 = .ok (.aload_n 0, 1) := dk_42 (dk_at dksX0_trace_0 2 rfl rfl)
theorem dX0_trace_3 : decode cX0_trace 3 = .ok (.getfield 221, 3) := dk_180 0 221 (dk_at dksX0_trace_0 3 rfl rfl)
theorem dX0_trace_6 : decode cX0_trace 6 = .ok (.getfield 723, 3) := dk_180 2 211 (dk_at dksX0_trace_0 6 rfl rfl)
theorem dX0_trace_9 : decode cX0_trace 9 = .ok (.iconst 1, 1) := dk_4 (dk_at dksX0_trace_0 9 rfl rfl)
theorem dX0_trace_10 : decode cX0_trace 10 = .ok (.isub, 1) := dk_100 (dk_at dksX0_trace_0 10 rfl rfl)
theorem dX0_trace_11 : decode cX0_trace 11 = .ok (.invokestatic 112, 3) := dk_184 0 112 (dk_at dksX0_trace_0 11 rfl rfl)
theorem dX0_trace_14 : decode cX0_trace 14 = .ok (.ifCond .eq 15, 3) := dk_153 0 15 (dk_at dksX0_trace_0 14 rfl rfl)
theorem dX0_trace_17 : decode cX0_trace 17 = .ok (.aload_n 0, 1) := dk_42 (dk_at dksX0_trace_0 17 rfl rfl)
theorem dX0_trace_18 : decode cX0_trace 18 = .ok (.getfield 221, 3) := dk_180 0 221 (dk_at dksX0_trace_0 18 rfl rfl)
theorem dX0_trace_21 : decode cX0_trace 21 = .ok (.getfield 743, 3) := dk_180 2 231 (dk_at dksX0_trace_0 21 rfl rfl)
theorem dX0_trace_24 : decode cX0_trace 24 = .ok (.iload_n 1, 1) := dk_27 (dk_at dksX0_trace_1 0 rfl rfl)
theorem dX0_trace_25 : decode cX0_trace 25 = .ok (.iaload, 1) := dk_46 (dk_at dksX0_trace_1 1 rfl rfl)
theorem dX0_trace_26 : decode cX0_trace 26 = .ok (.goto 5, 3) := dk_167 0 5 (dk_at dksX0_trace_1 2 rfl rfl)
theorem dX0_trace_29 : decode cX0_trace 29 = .ok (.bipush (-3), 2) := dk_16 253 (dk_at dksX0_trace_1 5 rfl rfl)
theorem dX0_trace_31 : decode cX0_trace 31 = .ok (.ireturn, 1) := dk_172 (dk_at dksX0_trace_1 7 rfl rfl)
abbrev cX0_many : ByteArray := prog_1_method_146_code
def yX0_many : MethodName := ⟨RX0, "many", "(I)I"⟩
def dkwX0_many_4 : List UInt8 := [180, 0, 221, 180, 2, 211, 172, 2, 172]
abbrev dktX0_many_4 : List UInt8 := dkwX0_many_4 ++ []
def dkwX0_many_3 : List UInt8 := [42, 182, 2, 245, 172, 42, 180, 0, 34, 180, 1, 131, 172, 42, 180, 2, 143, 172, 42, 180, 1, 171, 172, 42]
abbrev dktX0_many_3 : List UInt8 := dkwX0_many_3 ++ dktX0_many_4
def dkwX0_many_2 : List UInt8 := [42, 180, 0, 34, 180, 0, 38, 172, 42, 180, 0, 44, 190, 172, 42, 182, 1, 121, 172, 42, 182, 2, 242, 172]
abbrev dktX0_many_2 : List UInt8 := dkwX0_many_2 ++ dktX0_many_3
def dkwX0_many_1 : List UInt8 := [170, 0, 0, 0, 0, 0, 106, 0, 0, 0, 0, 0, 0, 0, 8, 0, 0, 0, 51, 0, 0, 0, 59, 0, 0, 0, 65, 0, 0, 0, 70, 0, 0, 0, 75, 0, 0, 0, 80, 0, 0, 0, 88, 0, 0, 0, 93, 0, 0, 0, 98]
abbrev dktX0_many_1 : List UInt8 := dkwX0_many_1 ++ dktX0_many_2
def dkwX0_many_0 : List UInt8 := [27]
abbrev dktX0_many_0 : List UInt8 := dkwX0_many_0 ++ dktX0_many_1
theorem dksX0_many_0 : cX0_many.data.toList.drop 0 = dktX0_many_0 := by decide +kernel
theorem dksX0_many_1 : cX0_many.data.toList.drop 1 = dktX0_many_1 := dk_seg dksX0_many_0 1 rfl rfl
theorem dksX0_many_2 : cX0_many.data.toList.drop 52 = dktX0_many_2 := dk_seg dksX0_many_1 51 rfl rfl
theorem dksX0_many_3 : cX0_many.data.toList.drop 76 = dktX0_many_3 := dk_seg dksX0_many_2 24 rfl rfl
theorem dksX0_many_4 : cX0_many.data.toList.drop 100 = dktX0_many_4 := dk_seg dksX0_many_3 24 rfl rfl
theorem dX0_many_0 : decode cX0_many 0 = .ok (.iload_n 1, 1) := dk_27 (dk_at dksX0_many_0 0 rfl rfl)
theorem dX0_many_1 : decode cX0_many 1 = .ok (.tableswitch 106 0 8 #[51, 59, 65, 70, 75, 80, 88, 93, 98], 51) := by decide +kernel
theorem dX0_many_52 : decode cX0_many 52 = .ok (.aload_n 0, 1) := dk_42 (dk_at dksX0_many_2 0 rfl rfl)
theorem dX0_many_53 : decode cX0_many 53 = .ok (.getfield 34, 3) := dk_180 0 34 (dk_at dksX0_many_2 1 rfl rfl)
theorem dX0_many_56 : decode cX0_many 56 = .ok (.getfield 38, 3) := dk_180 0 38 (dk_at dksX0_many_2 4 rfl rfl)
theorem dX0_many_59 : decode cX0_many 59 = .ok (.ireturn, 1) := dk_172 (dk_at dksX0_many_2 7 rfl rfl)
theorem dX0_many_60 : decode cX0_many 60 = .ok (.aload_n 0, 1) := dk_42 (dk_at dksX0_many_2 8 rfl rfl)
theorem dX0_many_61 : decode cX0_many 61 = .ok (.getfield 44, 3) := dk_180 0 44 (dk_at dksX0_many_2 9 rfl rfl)
theorem dX0_many_64 : decode cX0_many 64 = .ok (.arraylength, 1) := dk_190 (dk_at dksX0_many_2 12 rfl rfl)
theorem dX0_many_65 : decode cX0_many 65 = .ok (.ireturn, 1) := dk_172 (dk_at dksX0_many_2 13 rfl rfl)
theorem dX0_many_66 : decode cX0_many 66 = .ok (.aload_n 0, 1) := dk_42 (dk_at dksX0_many_2 14 rfl rfl)
theorem dX0_many_67 : decode cX0_many 67 = .ok (.invokevirtual 377, 3) := dk_182 1 121 (dk_at dksX0_many_2 15 rfl rfl)
theorem dX0_many_70 : decode cX0_many 70 = .ok (.ireturn, 1) := dk_172 (dk_at dksX0_many_2 18 rfl rfl)
theorem dX0_many_71 : decode cX0_many 71 = .ok (.aload_n 0, 1) := dk_42 (dk_at dksX0_many_2 19 rfl rfl)
theorem dX0_many_72 : decode cX0_many 72 = .ok (.invokevirtual 754, 3) := dk_182 2 242 (dk_at dksX0_many_2 20 rfl rfl)
theorem dX0_many_75 : decode cX0_many 75 = .ok (.ireturn, 1) := dk_172 (dk_at dksX0_many_2 23 rfl rfl)
theorem dX0_many_76 : decode cX0_many 76 = .ok (.aload_n 0, 1) := dk_42 (dk_at dksX0_many_3 0 rfl rfl)
theorem dX0_many_77 : decode cX0_many 77 = .ok (.invokevirtual 757, 3) := dk_182 2 245 (dk_at dksX0_many_3 1 rfl rfl)
theorem dX0_many_80 : decode cX0_many 80 = .ok (.ireturn, 1) := dk_172 (dk_at dksX0_many_3 4 rfl rfl)
theorem dX0_many_81 : decode cX0_many 81 = .ok (.aload_n 0, 1) := dk_42 (dk_at dksX0_many_3 5 rfl rfl)
theorem dX0_many_82 : decode cX0_many 82 = .ok (.getfield 34, 3) := dk_180 0 34 (dk_at dksX0_many_3 6 rfl rfl)
theorem dX0_many_85 : decode cX0_many 85 = .ok (.getfield 387, 3) := dk_180 1 131 (dk_at dksX0_many_3 9 rfl rfl)
theorem dX0_many_88 : decode cX0_many 88 = .ok (.ireturn, 1) := dk_172 (dk_at dksX0_many_3 12 rfl rfl)
theorem dX0_many_89 : decode cX0_many 89 = .ok (.aload_n 0, 1) := dk_42 (dk_at dksX0_many_3 13 rfl rfl)
theorem dX0_many_90 : decode cX0_many 90 = .ok (.getfield 655, 3) := dk_180 2 143 (dk_at dksX0_many_3 14 rfl rfl)
theorem dX0_many_93 : decode cX0_many 93 = .ok (.ireturn, 1) := dk_172 (dk_at dksX0_many_3 17 rfl rfl)
theorem dX0_many_94 : decode cX0_many 94 = .ok (.aload_n 0, 1) := dk_42 (dk_at dksX0_many_3 18 rfl rfl)
theorem dX0_many_95 : decode cX0_many 95 = .ok (.getfield 427, 3) := dk_180 1 171 (dk_at dksX0_many_3 19 rfl rfl)
theorem dX0_many_98 : decode cX0_many 98 = .ok (.ireturn, 1) := dk_172 (dk_at dksX0_many_3 22 rfl rfl)
theorem dX0_many_99 : decode cX0_many 99 = .ok (.aload_n 0, 1) := dk_42 (dk_at dksX0_many_3 23 rfl rfl)
theorem dX0_many_100 : decode cX0_many 100 = .ok (.getfield 221, 3) := dk_180 0 221 (dk_at dksX0_many_4 0 rfl rfl)
theorem dX0_many_103 : decode cX0_many 103 = .ok (.getfield 723, 3) := dk_180 2 211 (dk_at dksX0_many_4 3 rfl rfl)
theorem dX0_many_106 : decode cX0_many 106 = .ok (.ireturn, 1) := dk_172 (dk_at dksX0_many_4 6 rfl rfl)
theorem dX0_many_107 : decode cX0_many 107 = .ok (.iconst (-1), 1) := dk_2 (dk_at dksX0_many_4 7 rfl rfl)
theorem dX0_many_108 : decode cX0_many 108 = .ok (.ireturn, 1) := dk_172 (dk_at dksX0_many_4 8 rfl rfl)
abbrev cX0_manyClasses : ByteArray := prog_1_method_144_code
def yX0_manyClasses : MethodName := ⟨RX0, "manyClasses", "()I"⟩
def dkwX0_manyClasses_0 : List UInt8 := [187, 2, 234, 89, 42, 183, 2, 236, 182, 2, 237, 172]
abbrev dktX0_manyClasses_0 : List UInt8 := dkwX0_manyClasses_0 ++ []
theorem dksX0_manyClasses_0 : cX0_manyClasses.data.toList.drop 0 = dktX0_manyClasses_0 := by decide +kernel
theorem dX0_manyClasses_0 : decode cX0_manyClasses 0 = .ok (.new 746, 3) := dk_187 2 234 (dk_at dksX0_manyClasses_0 0 rfl rfl)
theorem dX0_manyClasses_3 : decode cX0_manyClasses 3 = .ok (.dup, 1) := dk_89 (dk_at dksX0_manyClasses_0 3 rfl rfl)
theorem dX0_manyClasses_4 : decode cX0_manyClasses 4 = .ok (.aload_n 0, 1) := dk_42 (dk_at dksX0_manyClasses_0 4 rfl rfl)
theorem dX0_manyClasses_5 : decode cX0_manyClasses 5 = .ok (.invokespecial 748, 3) := dk_183 2 236 (dk_at dksX0_manyClasses_0 5 rfl rfl)
theorem dX0_manyClasses_8 : decode cX0_manyClasses 8 = .ok (.invokevirtual 749, 3) := dk_182 2 237 (dk_at dksX0_manyClasses_0 8 rfl rfl)
theorem dX0_manyClasses_11 : decode cX0_manyClasses 11 = .ok (.ireturn, 1) := dk_172 (dk_at dksX0_manyClasses_0 11 rfl rfl)
abbrev cX0_manyRotations : ByteArray := prog_1_method_145_code
def yX0_manyRotations : MethodName := ⟨RX0, "manyRotations", "()I"⟩
def dkwX0_manyRotations_0 : List UInt8 := [187, 2, 238, 89, 42, 183, 2, 240, 182, 2, 241, 172]
abbrev dktX0_manyRotations_0 : List UInt8 := dkwX0_manyRotations_0 ++ []
theorem dksX0_manyRotations_0 : cX0_manyRotations.data.toList.drop 0 = dktX0_manyRotations_0 := by decide +kernel
theorem dX0_manyRotations_0 : decode cX0_manyRotations 0 = .ok (.new 750, 3) := dk_187 2 238 (dk_at dksX0_manyRotations_0 0 rfl rfl)
theorem dX0_manyRotations_3 : decode cX0_manyRotations 3 = .ok (.dup, 1) := dk_89 (dk_at dksX0_manyRotations_0 3 rfl rfl)
theorem dX0_manyRotations_4 : decode cX0_manyRotations 4 = .ok (.aload_n 0, 1) := dk_42 (dk_at dksX0_manyRotations_0 4 rfl rfl)
theorem dX0_manyRotations_5 : decode cX0_manyRotations 5 = .ok (.invokespecial 752, 3) := dk_183 2 240 (dk_at dksX0_manyRotations_0 5 rfl rfl)
theorem dX0_manyRotations_8 : decode cX0_manyRotations 8 = .ok (.invokevirtual 753, 3) := dk_182 2 241 (dk_at dksX0_manyRotations_0 8 rfl rfl)
theorem dX0_manyRotations_11 : decode cX0_manyRotations 11 = .ok (.ireturn, 1) := dk_172 (dk_at dksX0_manyRotations_0 11 rfl rfl)
abbrev cX0_keep : ByteArray := prog_1_method_147_code
def yX0_keep : MethodName := ⟨RX0, "keep", "()I"⟩
def dkwX0_keep_0 : List UInt8 := [42, 180, 0, 130, 42, 180, 0, 34, 182, 2, 248, 42, 4, 181, 2, 252, 4, 172]
abbrev dktX0_keep_0 : List UInt8 := dkwX0_keep_0 ++ []
theorem dksX0_keep_0 : cX0_keep.data.toList.drop 0 = dktX0_keep_0 := by decide +kernel
theorem dX0_keep_0 : decode cX0_keep 0 = .ok (.aload_n 0, 1) := dk_42 (dk_at dksX0_keep_0 0 rfl rfl)
theorem dX0_keep_1 : decode cX0_keep 1 = .ok (.getfield 130, 3) := dk_180 0 130 (dk_at dksX0_keep_0 1 rfl rfl)
theorem dX0_keep_4 : decode cX0_keep 4 = .ok (.aload_n 0, 1) := dk_42 (dk_at dksX0_keep_0 4 rfl rfl)
theorem dX0_keep_5 : decode cX0_keep 5 = .ok (.getfield 34, 3) := dk_180 0 34 (dk_at dksX0_keep_0 5 rfl rfl)
theorem dX0_keep_8 : decode cX0_keep 8 = .ok (.invokevirtual 760, 3) := dk_182 2 248 (dk_at dksX0_keep_0 8 rfl rfl)
theorem dX0_keep_11 : decode cX0_keep 11 = .ok (.aload_n 0, 1) := dk_42 (dk_at dksX0_keep_0 11 rfl rfl)
theorem dX0_keep_12 : decode cX0_keep 12 = .ok (.iconst 1, 1) := dk_4 (dk_at dksX0_keep_0 12 rfl rfl)
theorem dX0_keep_13 : decode cX0_keep 13 = .ok (.putfield 764, 3) := dk_181 2 252 (dk_at dksX0_keep_0 13 rfl rfl)
theorem dX0_keep_16 : decode cX0_keep 16 = .ok (.iconst 1, 1) := dk_4 (dk_at dksX0_keep_0 16 rfl rfl)
theorem dX0_keep_17 : decode cX0_keep 17 = .ok (.ireturn, 1) := dk_172 (dk_at dksX0_keep_0 17 rfl rfl)
abbrev cX0_again : ByteArray := prog_1_method_148_code
def yX0_again : MethodName := ⟨RX0, "again", "()I"⟩
def dkwX0_again_3 : List UInt8 := [132, 1, 1, 167, 255, 214, 42, 182, 1, 121, 172]
abbrev dktX0_again_3 : List UInt8 := dkwX0_again_3 ++ []
def dkwX0_again_2 : List UInt8 := [180, 0, 34, 180, 1, 136, 27, 46, 27, 42, 180, 0, 34, 180, 1, 139, 27, 46, 184, 1, 142, 83]
abbrev dktX0_again_2 : List UInt8 := dkwX0_again_2 ++ dktX0_again_3
def dkwX0_again_1 : List UInt8 := [182, 0, 226, 3, 60, 27, 42, 180, 0, 34, 180, 1, 131, 162, 0, 37, 42, 180, 0, 133, 27, 42]
abbrev dktX0_again_1 : List UInt8 := dkwX0_again_1 ++ dktX0_again_2
def dkwX0_again_0 : List UInt8 := [42, 180, 2, 252, 154, 0, 6, 16, 253, 172, 42, 180, 0, 34, 42, 180, 0, 130, 182, 2, 248, 42]
abbrev dktX0_again_0 : List UInt8 := dkwX0_again_0 ++ dktX0_again_1
theorem dksX0_again_0 : cX0_again.data.toList.drop 0 = dktX0_again_0 := by decide +kernel
theorem dksX0_again_1 : cX0_again.data.toList.drop 22 = dktX0_again_1 := dk_seg dksX0_again_0 22 rfl rfl
theorem dksX0_again_2 : cX0_again.data.toList.drop 44 = dktX0_again_2 := dk_seg dksX0_again_1 22 rfl rfl
theorem dksX0_again_3 : cX0_again.data.toList.drop 66 = dktX0_again_3 := dk_seg dksX0_again_2 22 rfl rfl
theorem dX0_again_0 : decode cX0_again 0 = .ok (.aload_n 0, 1) := dk_42 (dk_at dksX0_again_0 0 rfl rfl)
theorem dX0_again_1 : decode cX0_again 1 = .ok (.getfield 764, 3) := dk_180 2 252 (dk_at dksX0_again_0 1 rfl rfl)
theorem dX0_again_4 : decode cX0_again 4 = .ok (.ifCond .ne 6, 3) := dk_154 0 6 (dk_at dksX0_again_0 4 rfl rfl)
theorem dX0_again_7 : decode cX0_again 7 = .ok (.bipush (-3), 2) := dk_16 253 (dk_at dksX0_again_0 7 rfl rfl)
theorem dX0_again_9 : decode cX0_again 9 = .ok (.ireturn, 1) := dk_172 (dk_at dksX0_again_0 9 rfl rfl)
theorem dX0_again_10 : decode cX0_again 10 = .ok (.aload_n 0, 1) := dk_42 (dk_at dksX0_again_0 10 rfl rfl)
theorem dX0_again_11 : decode cX0_again 11 = .ok (.getfield 34, 3) := dk_180 0 34 (dk_at dksX0_again_0 11 rfl rfl)
theorem dX0_again_14 : decode cX0_again 14 = .ok (.aload_n 0, 1) := dk_42 (dk_at dksX0_again_0 14 rfl rfl)
theorem dX0_again_15 : decode cX0_again 15 = .ok (.getfield 130, 3) := dk_180 0 130 (dk_at dksX0_again_0 15 rfl rfl)
theorem dX0_again_18 : decode cX0_again 18 = .ok (.invokevirtual 760, 3) := dk_182 2 248 (dk_at dksX0_again_0 18 rfl rfl)
theorem dX0_again_21 : decode cX0_again 21 = .ok (.aload_n 0, 1) := dk_42 (dk_at dksX0_again_0 21 rfl rfl)
theorem dX0_again_22 : decode cX0_again 22 = .ok (.invokevirtual 226, 3) := dk_182 0 226 (dk_at dksX0_again_1 0 rfl rfl)
theorem dX0_again_25 : decode cX0_again 25 = .ok (.iconst 0, 1) := dk_3 (dk_at dksX0_again_1 3 rfl rfl)
theorem dX0_again_26 : decode cX0_again 26 = .ok (.istore_n 1, 1) := dk_60 (dk_at dksX0_again_1 4 rfl rfl)
theorem dX0_again_27 : decode cX0_again 27 = .ok (.iload_n 1, 1) := dk_27 (dk_at dksX0_again_1 5 rfl rfl)
theorem dX0_again_28 : decode cX0_again 28 = .ok (.aload_n 0, 1) := dk_42 (dk_at dksX0_again_1 6 rfl rfl)
theorem dX0_again_29 : decode cX0_again 29 = .ok (.getfield 34, 3) := dk_180 0 34 (dk_at dksX0_again_1 7 rfl rfl)
theorem dX0_again_32 : decode cX0_again 32 = .ok (.getfield 387, 3) := dk_180 1 131 (dk_at dksX0_again_1 10 rfl rfl)
theorem dX0_again_35 : decode cX0_again 35 = .ok (.if_icmp .ge 37, 3) := dk_162 0 37 (dk_at dksX0_again_1 13 rfl rfl)
theorem dX0_again_38 : decode cX0_again 38 = .ok (.aload_n 0, 1) := dk_42 (dk_at dksX0_again_1 16 rfl rfl)
theorem dX0_again_39 : decode cX0_again 39 = .ok (.getfield 133, 3) := dk_180 0 133 (dk_at dksX0_again_1 17 rfl rfl)
theorem dX0_again_42 : decode cX0_again 42 = .ok (.iload_n 1, 1) := dk_27 (dk_at dksX0_again_1 20 rfl rfl)
theorem dX0_again_43 : decode cX0_again 43 = .ok (.aload_n 0, 1) := dk_42 (dk_at dksX0_again_1 21 rfl rfl)
theorem dX0_again_44 : decode cX0_again 44 = .ok (.getfield 34, 3) := dk_180 0 34 (dk_at dksX0_again_2 0 rfl rfl)
theorem dX0_again_47 : decode cX0_again 47 = .ok (.getfield 392, 3) := dk_180 1 136 (dk_at dksX0_again_2 3 rfl rfl)
theorem dX0_again_50 : decode cX0_again 50 = .ok (.iload_n 1, 1) := dk_27 (dk_at dksX0_again_2 6 rfl rfl)
theorem dX0_again_51 : decode cX0_again 51 = .ok (.iaload, 1) := dk_46 (dk_at dksX0_again_2 7 rfl rfl)
theorem dX0_again_52 : decode cX0_again 52 = .ok (.iload_n 1, 1) := dk_27 (dk_at dksX0_again_2 8 rfl rfl)
theorem dX0_again_53 : decode cX0_again 53 = .ok (.aload_n 0, 1) := dk_42 (dk_at dksX0_again_2 9 rfl rfl)
theorem dX0_again_54 : decode cX0_again 54 = .ok (.getfield 34, 3) := dk_180 0 34 (dk_at dksX0_again_2 10 rfl rfl)
theorem dX0_again_57 : decode cX0_again 57 = .ok (.getfield 395, 3) := dk_180 1 139 (dk_at dksX0_again_2 13 rfl rfl)
theorem dX0_again_60 : decode cX0_again 60 = .ok (.iload_n 1, 1) := dk_27 (dk_at dksX0_again_2 16 rfl rfl)
theorem dX0_again_61 : decode cX0_again 61 = .ok (.iaload, 1) := dk_46 (dk_at dksX0_again_2 17 rfl rfl)
theorem dX0_again_62 : decode cX0_again 62 = .ok (.invokestatic 398, 3) := dk_184 1 142 (dk_at dksX0_again_2 18 rfl rfl)
theorem dX0_again_65 : decode cX0_again 65 = .ok (.aastore, 1) := dk_83 (dk_at dksX0_again_2 21 rfl rfl)
theorem dX0_again_66 : decode cX0_again 66 = .ok (.iinc 1 1, 3) := dk_132 1 1 (dk_at dksX0_again_3 0 rfl rfl)
theorem dX0_again_69 : decode cX0_again 69 = .ok (.goto (-42), 3) := dk_167 255 214 (dk_at dksX0_again_3 3 rfl rfl)
theorem dX0_again_72 : decode cX0_again 72 = .ok (.aload_n 0, 1) := dk_42 (dk_at dksX0_again_3 6 rfl rfl)
theorem dX0_again_73 : decode cX0_again 73 = .ok (.invokevirtual 377, 3) := dk_182 1 121 (dk_at dksX0_again_3 7 rfl rfl)
theorem dX0_again_76 : decode cX0_again 76 = .ok (.ireturn, 1) := dk_172 (dk_at dksX0_again_3 10 rfl rfl)
theorem q151 : (Jvm.Cond.initialized "CoarserOrders") ∈ lw_all := lw_g (lw_at lw_m1 1 rfl) rfl
theorem q196 : (Jvm.Cond.instantiable "CoarserOrders" (36 : Nat)) ∈ lw_all := lw_g (lw_at lw_m1 46 rfl) rfl
theorem q198 : (Jvm.Cond.instanceMethod ({ cls := "CoarserOrders", name := "<init>", desc := "()V" } : Jvm.MethodName)) ∈ lw_all := lw_g (lw_at lw_m1 48 rfl) rfl
theorem q199 : (Jvm.Cond.code ({ cls := "CoarserOrders", name := "<init>", desc := "()V" } : Jvm.MethodName) prog_1_method_11_code (2 : Nat) (Option.none : Option Jvm.ClassFile.FieldType)) ∈ lw_all := lw_g (lw_at lw_m1 49 rfl) rfl
theorem q200 : (Jvm.Cond.methodLink "CoarserOrders" (116 : Nat) ({ cls := "java/lang/Object", name := "<init>", desc := "()V" } : Jvm.MethodName)) ∈ lw_all := lw_g (lw_at lw_m1 50 rfl) rfl
theorem q203 : (Jvm.Cond.classLink "CoarserOrders" (8 : Nat) "CoarserOrders$Refusal") ∈ lw_all := lw_g (lw_at lw_m1 53 rfl) rfl
theorem q262 : (Jvm.Cond.methodLink "CoarserOrders" (120 : Nat) ({ cls := "CoarserOrders$Refusal", name := "<init>", desc := "()V" } : Jvm.MethodName)) ∈ lw_all := lw_g (lw_at lw_m1 112 rfl) rfl
theorem q275 : (Jvm.Cond.fieldLink "CoarserOrders" (540 : Nat) "CoarserOrders$Fault" "answer" "I") ∈ lw_all := lw_g (lw_at lw_m1 125 rfl) rfl
theorem q277 : (Jvm.Cond.fieldLink "CoarserOrders" (647 : Nat) "CoarserOrders$Refusal" "answer" "I") ∈ lw_all := lw_g (lw_at lw_m1 127 rfl) rfl
theorem q293 : (Jvm.Cond.classLink "CoarserOrders" (121 : Nat) "CoarserOrders$Fault") ∈ lw_all := lw_g (lw_at lw_m1 143 rfl) rfl
theorem q303 : (Jvm.Cond.methodLinkNest "CoarserOrders" (123 : Nat) ({ cls := "CoarserOrders$Fault", name := "<init>", desc := "()V" } : Jvm.MethodName) "CoarserOrders") ∈ lw_tbl := lw_at lw_m1 153 rfl
theorem q310 : (Jvm.Cond.classLink "CoarserOrders" (128 : Nat) "[LCoarserOrders$Arc;") ∈ lw_all := lw_g (lw_at lw_m1 160 rfl) rfl
theorem q313 : (Jvm.Cond.classLink "CoarserOrders" (39 : Nat) "CoarserOrders$Order") ∈ lw_all := lw_g (lw_at lw_m1 163 rfl) rfl
theorem q315 : (Jvm.Cond.methodLinkNest "CoarserOrders" (129 : Nat) ({ cls := "CoarserOrders$Order", name := "<init>", desc := "()V" } : Jvm.MethodName) "CoarserOrders") ∈ lw_tbl := lw_at lw_m1 165 rfl
theorem q321 : (Jvm.Cond.fieldLinkNest "CoarserOrders" (38 : Nat) "CoarserOrders$Order" "n" "I" "CoarserOrders") ∈ lw_tbl := lw_at lw_m1 171 rfl
theorem q323 : (Jvm.Cond.fieldLinkNest "CoarserOrders" (387 : Nat) "CoarserOrders$Order" "makers" "I" "CoarserOrders") ∈ lw_tbl := lw_at lw_m1 173 rfl
theorem q325 : (Jvm.Cond.fieldLinkNest "CoarserOrders" (648 : Nat) "CoarserOrders$Order" "z" "I" "CoarserOrders") ∈ lw_tbl := lw_at lw_m1 175 rfl
theorem q327 : (Jvm.Cond.fieldLinkNest "CoarserOrders" (229 : Nat) "CoarserOrders$Order" "gone" "J" "CoarserOrders") ∈ lw_tbl := lw_at lw_m1 177 rfl
theorem q329 : (Jvm.Cond.fieldLinkNest "CoarserOrders" (392 : Nat) "CoarserOrders$Order" "kind" "[I" "CoarserOrders") ∈ lw_tbl := lw_at lw_m1 179 rfl
theorem q331 : (Jvm.Cond.fieldLinkNest "CoarserOrders" (395 : Nat) "CoarserOrders$Order" "mark" "[I" "CoarserOrders") ∈ lw_tbl := lw_at lw_m1 181 rfl
theorem q346 : (Jvm.Cond.classLink "CoarserOrders" (31 : Nat) "CoarserOrders$Plain") ∈ lw_all := lw_g (lw_at lw_m1 196 rfl) rfl
theorem q348 : (Jvm.Cond.classLink "CoarserOrders" (156 : Nat) "[B") ∈ lw_all := lw_g (lw_at lw_m1 198 rfl) rfl
theorem q350 : (Jvm.Cond.classLink "CoarserOrders" (161 : Nat) "java/lang/String") ∈ lw_all := lw_g (lw_at lw_m1 200 rfl) rfl
theorem q352 : (Jvm.Cond.stringRef "CoarserOrders" (163 : Nat) "low") ∈ lw_tbl := lw_at lw_m1 202 rfl
theorem q353 : (Jvm.Cond.stringRef "CoarserOrders" (164 : Nat) "high") ∈ lw_tbl := lw_at lw_m1 203 rfl
theorem q354 : (Jvm.Cond.stringRef "CoarserOrders" (165 : Nat) "left") ∈ lw_tbl := lw_at lw_m1 204 rfl
theorem q355 : (Jvm.Cond.stringRef "CoarserOrders" (166 : Nat) "right") ∈ lw_tbl := lw_at lw_m1 205 rfl
theorem q356 : (Jvm.Cond.stringRef "CoarserOrders" (168 : Nat) "last") ∈ lw_tbl := lw_at lw_m1 206 rfl
theorem q357 : (Jvm.Cond.classLink "CoarserOrders" (209 : Nat) "CoarserOrders$Shelf") ∈ lw_all := lw_g (lw_at lw_m1 207 rfl) rfl
theorem q359 : (Jvm.Cond.classLink "CoarserOrders" (218 : Nat) "CoarserOrders$Trace") ∈ lw_all := lw_g (lw_at lw_m1 209 rfl) rfl
theorem q361 : (Jvm.Cond.methodLinkNest "CoarserOrders" (220 : Nat) ({ cls := "CoarserOrders$Trace", name := "<init>", desc := "()V" } : Jvm.MethodName) "CoarserOrders") ∈ lw_tbl := lw_at lw_m1 211 rfl
theorem q366 : (Jvm.Cond.fieldLinkNest "CoarserOrders" (743 : Nat) "CoarserOrders$Trace" "bodies" "[I" "CoarserOrders") ∈ lw_tbl := lw_at lw_m1 216 rfl
theorem q368 : (Jvm.Cond.fieldLinkNest "CoarserOrders" (723 : Nat) "CoarserOrders$Trace" "many" "I" "CoarserOrders") ∈ lw_tbl := lw_at lw_m1 218 rfl
theorem q377 : (Jvm.Cond.methodLinkNest "CoarserOrders" (225 : Nat) ({ cls := "CoarserOrders$Shelf", name := "<init>", desc := "()V" } : Jvm.MethodName) "CoarserOrders") ∈ lw_tbl := lw_at lw_m1 227 rfl
theorem q381 : (Jvm.Cond.fieldLinkNest "CoarserOrders" (632 : Nat) "CoarserOrders$Shelf" "held" "Ljava/lang/Object;" "CoarserOrders") ∈ lw_tbl := lw_at lw_m1 231 rfl
theorem q385 : (Jvm.Cond.methodLink "CoarserOrders" (226 : Nat) ({ cls := "CoarserOrders", name := "takeArcs", desc := "()V" } : Jvm.MethodName)) ∈ lw_all := lw_g (lw_at lw_m1 235 rfl) rfl
theorem q386 : (Jvm.Cond.privateMethod ({ cls := "CoarserOrders", name := "takeArcs", desc := "()V" } : Jvm.MethodName)) ∈ lw_tbl := lw_at lw_m1 236 rfl
theorem q387 : (Jvm.Cond.instanceMethod ({ cls := "CoarserOrders", name := "takeArcs", desc := "()V" } : Jvm.MethodName)) ∈ lw_all := lw_g (lw_at lw_m1 237 rfl) rfl
theorem q388 : (Jvm.Cond.code ({ cls := "CoarserOrders", name := "takeArcs", desc := "()V" } : Jvm.MethodName) prog_1_method_6_code (1 : Nat) (Option.none : Option Jvm.ClassFile.FieldType)) ∈ lw_all := lw_g (lw_at lw_m1 238 rfl) rfl
theorem q389 : (Jvm.Cond.classLink "CoarserOrders" (56 : Nat) "CoarserOrders$Arc") ∈ lw_all := lw_g (lw_at lw_m1 239 rfl) rfl
theorem q390 : (Jvm.Cond.methodLink "CoarserOrders" (58 : Nat) ({ cls := "CoarserOrders", name := "makeArcs", desc := "()V" } : Jvm.MethodName)) ∈ lw_all := lw_g (lw_at lw_m2 0 rfl) rfl
theorem q391 : (Jvm.Cond.privateMethod ({ cls := "CoarserOrders", name := "makeArcs", desc := "()V" } : Jvm.MethodName)) ∈ lw_tbl := lw_at lw_m2 1 rfl
theorem q392 : (Jvm.Cond.instanceMethod ({ cls := "CoarserOrders", name := "makeArcs", desc := "()V" } : Jvm.MethodName)) ∈ lw_all := lw_g (lw_at lw_m2 2 rfl) rfl
theorem q393 : (Jvm.Cond.code ({ cls := "CoarserOrders", name := "makeArcs", desc := "()V" } : Jvm.MethodName) prog_1_method_7_code (5 : Nat) (Option.none : Option Jvm.ClassFile.FieldType)) ∈ lw_all := lw_g (lw_at lw_m2 3 rfl) rfl
theorem q394 : (Jvm.Cond.methodLink "CoarserOrders" (48 : Nat) ({ cls := "CoarserOrders", name := "firstOf", desc := "(III)I" } : Jvm.MethodName)) ∈ lw_all := lw_g (lw_at lw_m2 4 rfl) rfl
theorem q395 : (Jvm.Cond.static ({ cls := "CoarserOrders", name := "firstOf", desc := "(III)I" } : Jvm.MethodName)) ∈ lw_all := lw_g (lw_at lw_m2 5 rfl) rfl
theorem q396 : (Jvm.Cond.code ({ cls := "CoarserOrders", name := "firstOf", desc := "(III)I" } : Jvm.MethodName) prog_1_method_4_code (5 : Nat) (Option.some Jvm.ClassFile.FieldType.int)) ∈ lw_all := lw_g (lw_at lw_m2 6 rfl) rfl
theorem q398 : (Jvm.Cond.methodLink "CoarserOrders" (62 : Nat) ({ cls := "CoarserOrders$Arc", name := "<init>", desc := "(IIII)V" } : Jvm.MethodName)) ∈ lw_all := lw_g (lw_at lw_m2 8 rfl) rfl
theorem q406 : (Jvm.Cond.fieldLinkNest "CoarserOrders" (83 : Nat) "CoarserOrders$Arc" "low" "I" "CoarserOrders") ∈ lw_tbl := lw_at lw_m2 16 rfl
theorem q410 : (Jvm.Cond.fieldLinkNest "CoarserOrders" (80 : Nat) "CoarserOrders$Arc" "high" "I" "CoarserOrders") ∈ lw_tbl := lw_at lw_m2 20 rfl
theorem q412 : (Jvm.Cond.fieldLinkNest "CoarserOrders" (86 : Nat) "CoarserOrders$Arc" "left" "I" "CoarserOrders") ∈ lw_tbl := lw_at lw_m2 22 rfl
theorem q414 : (Jvm.Cond.fieldLinkNest "CoarserOrders" (93 : Nat) "CoarserOrders$Arc" "lowerFree" "LCoarserOrders$Arc;" "CoarserOrders") ∈ lw_tbl := lw_at lw_m2 24 rfl
theorem q416 : (Jvm.Cond.fieldLinkNest "CoarserOrders" (97 : Nat) "CoarserOrders$Arc" "lowerLeft" "LCoarserOrders$Arc;" "CoarserOrders") ∈ lw_tbl := lw_at lw_m2 26 rfl
theorem q418 : (Jvm.Cond.fieldLinkNest "CoarserOrders" (100 : Nat) "CoarserOrders$Arc" "higherFree" "LCoarserOrders$Arc;" "CoarserOrders") ∈ lw_tbl := lw_at lw_m2 28 rfl
theorem q420 : (Jvm.Cond.fieldLinkNest "CoarserOrders" (103 : Nat) "CoarserOrders$Arc" "higherLeft" "LCoarserOrders$Arc;" "CoarserOrders") ∈ lw_tbl := lw_at lw_m2 30 rfl
theorem q422 : (Jvm.Cond.fieldLinkNest "CoarserOrders" (106 : Nat) "CoarserOrders$Arc" "without" "LCoarserOrders$Arc;" "CoarserOrders") ∈ lw_tbl := lw_at lw_m2 32 rfl
theorem q424 : (Jvm.Cond.fieldLinkNest "CoarserOrders" (109 : Nat) "CoarserOrders$Arc" "within" "LCoarserOrders$Arc;" "CoarserOrders") ∈ lw_tbl := lw_at lw_m2 34 rfl
theorem q425 : (Jvm.Cond.fieldLinkNest "CoarserOrders" (73 : Nat) "CoarserOrders$Arc" "forced" "J" "CoarserOrders") ∈ lw_tbl := lw_at lw_m2 35 rfl
theorem q426 : (Jvm.Cond.fieldLinkNest "CoarserOrders" (77 : Nat) "CoarserOrders$Arc" "forcing" "J" "CoarserOrders") ∈ lw_tbl := lw_at lw_m2 36 rfl
theorem q452 : (Jvm.Cond.methodLink "CoarserOrders" (65 : Nat) ({ cls := "CoarserOrders", name := "link", desc := "(LCoarserOrders$Arc;)V" } : Jvm.MethodName)) ∈ lw_all := lw_g (lw_at lw_m2 62 rfl) rfl
theorem q453 : (Jvm.Cond.privateMethod ({ cls := "CoarserOrders", name := "link", desc := "(LCoarserOrders$Arc;)V" } : Jvm.MethodName)) ∈ lw_tbl := lw_at lw_m2 63 rfl
theorem q454 : (Jvm.Cond.instanceMethod ({ cls := "CoarserOrders", name := "link", desc := "(LCoarserOrders$Arc;)V" } : Jvm.MethodName)) ∈ lw_all := lw_g (lw_at lw_m2 64 rfl) rfl
theorem q455 : (Jvm.Cond.code ({ cls := "CoarserOrders", name := "link", desc := "(LCoarserOrders$Arc;)V" } : Jvm.MethodName) prog_1_method_8_code (3 : Nat) (Option.none : Option Jvm.ClassFile.FieldType)) ∈ lw_all := lw_g (lw_at lw_m2 65 rfl) rfl
theorem q456 : (Jvm.Cond.methodLink "CoarserOrders" (89 : Nat) ({ cls := "CoarserOrders", name := "arcOf", desc := "(III)LCoarserOrders$Arc;" } : Jvm.MethodName)) ∈ lw_all := lw_g (lw_at lw_m2 66 rfl) rfl
theorem q457 : (Jvm.Cond.privateMethod ({ cls := "CoarserOrders", name := "arcOf", desc := "(III)LCoarserOrders$Arc;" } : Jvm.MethodName)) ∈ lw_tbl := lw_at lw_m2 67 rfl
theorem q458 : (Jvm.Cond.instanceMethod ({ cls := "CoarserOrders", name := "arcOf", desc := "(III)LCoarserOrders$Arc;" } : Jvm.MethodName)) ∈ lw_all := lw_g (lw_at lw_m2 68 rfl) rfl
theorem q459 : (Jvm.Cond.code ({ cls := "CoarserOrders", name := "arcOf", desc := "(III)LCoarserOrders$Arc;" } : Jvm.MethodName) prog_1_method_5_code (4 : Nat) (Option.some (Jvm.ClassFile.FieldType.object "CoarserOrders$Arc"))) ∈ lw_all := lw_g (lw_at lw_m2 69 rfl) rfl
theorem q460 : (Jvm.Cond.methodLink "CoarserOrders" (69 : Nat) ({ cls := "CoarserOrders$Arc", name := "with", desc := "(JZ)J" } : Jvm.MethodName)) ∈ lw_all := lw_g (lw_at lw_m2 70 rfl) rfl
theorem q468 : (Jvm.Cond.fieldLink "CoarserOrders" (1 : Nat) "CoarserOrders" "refusal" "LCoarserOrders$Refusal;") ∈ lw_all := lw_g (lw_at lw_m2 78 rfl) rfl
theorem q469 : (Jvm.Cond.fieldLink "CoarserOrders" (124 : Nat) "CoarserOrders" "fault" "LCoarserOrders$Fault;") ∈ lw_all := lw_g (lw_at lw_m2 79 rfl) rfl
theorem q470 : (Jvm.Cond.fieldLink "CoarserOrders" (52 : Nat) "CoarserOrders" "arcsBy" "[[LCoarserOrders$Arc;") ∈ lw_all := lw_g (lw_at lw_m2 80 rfl) rfl
theorem q471 : (Jvm.Cond.fieldLink "CoarserOrders" (44 : Nat) "CoarserOrders" "arcs" "[LCoarserOrders$Arc;") ∈ lw_all := lw_g (lw_at lw_m2 81 rfl) rfl
theorem q473 : (Jvm.Cond.fieldLink "CoarserOrders" (34 : Nat) "CoarserOrders" "now" "LCoarserOrders$Order;") ∈ lw_all := lw_g (lw_at lw_m2 83 rfl) rfl
theorem q474 : (Jvm.Cond.fieldLink "CoarserOrders" (130 : Nat) "CoarserOrders" "kept" "LCoarserOrders$Order;") ∈ lw_all := lw_g (lw_at lw_m2 84 rfl) rfl
theorem q475 : (Jvm.Cond.fieldLink "CoarserOrders" (133 : Nat) "CoarserOrders" "makers" "[LCoarserOrders$Plain;") ∈ lw_all := lw_g (lw_at lw_m2 85 rfl) rfl
theorem q476 : (Jvm.Cond.fieldLink "CoarserOrders" (764 : Nat) "CoarserOrders" "isKept" "Z") ∈ lw_all := lw_g (lw_at lw_m2 86 rfl) rfl
theorem q477 : (Jvm.Cond.fieldLink "CoarserOrders" (137 : Nat) "CoarserOrders" "one" "[B") ∈ lw_all := lw_g (lw_at lw_m2 87 rfl) rfl
theorem q478 : (Jvm.Cond.fieldLink "CoarserOrders" (141 : Nat) "CoarserOrders" "two" "[B") ∈ lw_all := lw_g (lw_at lw_m2 88 rfl) rfl
theorem q479 : (Jvm.Cond.fieldLink "CoarserOrders" (144 : Nat) "CoarserOrders" "three" "[B") ∈ lw_all := lw_g (lw_at lw_m2 89 rfl) rfl
theorem q480 : (Jvm.Cond.fieldLink "CoarserOrders" (147 : Nat) "CoarserOrders" "four" "[B") ∈ lw_all := lw_g (lw_at lw_m2 90 rfl) rfl
theorem q481 : (Jvm.Cond.fieldLink "CoarserOrders" (150 : Nat) "CoarserOrders" "here" "[B") ∈ lw_all := lw_g (lw_at lw_m2 91 rfl) rfl
theorem q482 : (Jvm.Cond.fieldLink "CoarserOrders" (153 : Nat) "CoarserOrders" "there" "[B") ∈ lw_all := lw_g (lw_at lw_m2 92 rfl) rfl
theorem q483 : (Jvm.Cond.fieldLink "CoarserOrders" (157 : Nat) "CoarserOrders" "exact" "[[B") ∈ lw_all := lw_g (lw_at lw_m2 93 rfl) rfl
theorem q484 : (Jvm.Cond.fieldLink "CoarserOrders" (170 : Nat) "CoarserOrders" "names" "[Ljava/lang/String;") ∈ lw_all := lw_g (lw_at lw_m2 94 rfl) rfl
theorem q485 : (Jvm.Cond.fieldLink "CoarserOrders" (174 : Nat) "CoarserOrders" "tape" "[B") ∈ lw_all := lw_g (lw_at lw_m2 95 rfl) rfl
theorem q486 : (Jvm.Cond.fieldLink "CoarserOrders" (427 : Nat) "CoarserOrders" "tapeMany" "I") ∈ lw_all := lw_g (lw_at lw_m2 96 rfl) rfl
theorem q487 : (Jvm.Cond.fieldLink "CoarserOrders" (433 : Nat) "CoarserOrders" "at" "I") ∈ lw_all := lw_g (lw_at lw_m2 97 rfl) rfl
theorem q488 : (Jvm.Cond.fieldLink "CoarserOrders" (430 : Nat) "CoarserOrders" "end" "I") ∈ lw_all := lw_g (lw_at lw_m2 98 rfl) rfl
theorem q489 : (Jvm.Cond.fieldLink "CoarserOrders" (177 : Nat) "CoarserOrders" "facts" "[I") ∈ lw_all := lw_g (lw_at lw_m2 99 rfl) rfl
theorem q490 : (Jvm.Cond.fieldLink "CoarserOrders" (181 : Nat) "CoarserOrders" "found" "[I") ∈ lw_all := lw_g (lw_at lw_m2 100 rfl) rfl
theorem q491 : (Jvm.Cond.fieldLink "CoarserOrders" (584 : Nat) "CoarserOrders" "foundMany" "I") ∈ lw_all := lw_g (lw_at lw_m2 101 rfl) rfl
theorem q492 : (Jvm.Cond.fieldLink "CoarserOrders" (184 : Nat) "CoarserOrders" "far" "[I") ∈ lw_all := lw_g (lw_at lw_m2 102 rfl) rfl
theorem q493 : (Jvm.Cond.fieldLink "CoarserOrders" (187 : Nat) "CoarserOrders" "shortest" "[I") ∈ lw_all := lw_g (lw_at lw_m2 103 rfl) rfl
theorem q494 : (Jvm.Cond.fieldLink "CoarserOrders" (190 : Nat) "CoarserOrders" "waiting" "[I") ∈ lw_all := lw_g (lw_at lw_m2 104 rfl) rfl
theorem q496 : (Jvm.Cond.fieldLink "CoarserOrders" (193 : Nat) "CoarserOrders" "list" "[I") ∈ lw_all := lw_g (lw_at lw_m2 106 rfl) rfl
theorem q498 : (Jvm.Cond.fieldLink "CoarserOrders" (196 : Nat) "CoarserOrders" "isListed" "[Z") ∈ lw_all := lw_g (lw_at lw_m2 108 rfl) rfl
theorem q500 : (Jvm.Cond.fieldLink "CoarserOrders" (615 : Nat) "CoarserOrders" "listMany" "I") ∈ lw_all := lw_g (lw_at lw_m2 110 rfl) rfl
theorem q501 : (Jvm.Cond.fieldLink "CoarserOrders" (200 : Nat) "CoarserOrders" "strangers" "[LCoarserOrders$Plain;") ∈ lw_all := lw_g (lw_at lw_m2 111 rfl) rfl
theorem q502 : (Jvm.Cond.fieldLink "CoarserOrders" (203 : Nat) "CoarserOrders" "stepRows" "[I") ∈ lw_all := lw_g (lw_at lw_m2 112 rfl) rfl
theorem q503 : (Jvm.Cond.fieldLink "CoarserOrders" (206 : Nat) "CoarserOrders" "stepArcs" "[I") ∈ lw_all := lw_g (lw_at lw_m2 113 rfl) rfl
theorem q504 : (Jvm.Cond.fieldLink "CoarserOrders" (655 : Nat) "CoarserOrders" "stepMany" "I") ∈ lw_all := lw_g (lw_at lw_m2 114 rfl) rfl
theorem q505 : (Jvm.Cond.fieldLink "CoarserOrders" (211 : Nat) "CoarserOrders" "shelves" "[LCoarserOrders$Shelf;") ∈ lw_all := lw_g (lw_at lw_m2 115 rfl) rfl
theorem q506 : (Jvm.Cond.fieldLink "CoarserOrders" (215 : Nat) "CoarserOrders" "sheets" "[LCoarserOrders$Shelf;") ∈ lw_all := lw_g (lw_at lw_m2 116 rfl) rfl
theorem q507 : (Jvm.Cond.fieldLink "CoarserOrders" (221 : Nat) "CoarserOrders" "trace" "LCoarserOrders$Trace;") ∈ lw_all := lw_g (lw_at lw_m2 117 rfl) rfl
theorem q508 : (Jvm.Cond.laysFinal "CoarserOrders" "CoarserOrders" "refusal" "LCoarserOrders$Refusal;") ∈ lw_all := lw_g (lw_at lw_m2 118 rfl) rfl
theorem q509 : (Jvm.Cond.soleField "CoarserOrders" "refusal") ∈ lw_all := lw_g (lw_at lw_m2 119 rfl) rfl
theorem q510 : (Jvm.Cond.laysFinal "CoarserOrders" "CoarserOrders" "fault" "LCoarserOrders$Fault;") ∈ lw_all := lw_g (lw_at lw_m2 120 rfl) rfl
theorem q511 : (Jvm.Cond.soleField "CoarserOrders" "fault") ∈ lw_all := lw_g (lw_at lw_m2 121 rfl) rfl
theorem q512 : (Jvm.Cond.laysFinal "CoarserOrders" "CoarserOrders" "arcsBy" "[[LCoarserOrders$Arc;") ∈ lw_all := lw_g (lw_at lw_m2 122 rfl) rfl
theorem q513 : (Jvm.Cond.soleField "CoarserOrders" "arcsBy") ∈ lw_all := lw_g (lw_at lw_m2 123 rfl) rfl
theorem q514 : (Jvm.Cond.lays "CoarserOrders" "CoarserOrders" "arcs" "[LCoarserOrders$Arc;") ∈ lw_all := lw_g (lw_at lw_m2 124 rfl) rfl
theorem q515 : (Jvm.Cond.soleField "CoarserOrders" "arcs") ∈ lw_all := lw_g (lw_at lw_m2 125 rfl) rfl
theorem q516 : (Jvm.Cond.laysFinal "CoarserOrders" "CoarserOrders" "now" "LCoarserOrders$Order;") ∈ lw_all := lw_g (lw_at lw_m2 126 rfl) rfl
theorem q517 : (Jvm.Cond.soleField "CoarserOrders" "now") ∈ lw_all := lw_g (lw_at lw_m2 127 rfl) rfl
theorem q518 : (Jvm.Cond.laysFinal "CoarserOrders" "CoarserOrders" "kept" "LCoarserOrders$Order;") ∈ lw_all := lw_g (lw_at lw_m2 128 rfl) rfl
theorem q519 : (Jvm.Cond.soleField "CoarserOrders" "kept") ∈ lw_all := lw_g (lw_at lw_m2 129 rfl) rfl
theorem q520 : (Jvm.Cond.laysFinal "CoarserOrders" "CoarserOrders" "makers" "[LCoarserOrders$Plain;") ∈ lw_all := lw_g (lw_at lw_m2 130 rfl) rfl
theorem q521 : (Jvm.Cond.soleField "CoarserOrders" "makers") ∈ lw_all := lw_g (lw_at lw_m2 131 rfl) rfl
theorem q522 : (Jvm.Cond.lays "CoarserOrders" "CoarserOrders" "isKept" "Z") ∈ lw_all := lw_g (lw_at lw_m2 132 rfl) rfl
theorem q523 : (Jvm.Cond.soleField "CoarserOrders" "isKept") ∈ lw_all := lw_g (lw_at lw_m2 133 rfl) rfl
theorem q524 : (Jvm.Cond.laysFinal "CoarserOrders" "CoarserOrders" "one" "[B") ∈ lw_all := lw_g (lw_at lw_m2 134 rfl) rfl
theorem q525 : (Jvm.Cond.soleField "CoarserOrders" "one") ∈ lw_all := lw_g (lw_at lw_m2 135 rfl) rfl
theorem q526 : (Jvm.Cond.laysFinal "CoarserOrders" "CoarserOrders" "two" "[B") ∈ lw_all := lw_g (lw_at lw_m2 136 rfl) rfl
theorem q527 : (Jvm.Cond.soleField "CoarserOrders" "two") ∈ lw_all := lw_g (lw_at lw_m2 137 rfl) rfl
theorem q528 : (Jvm.Cond.laysFinal "CoarserOrders" "CoarserOrders" "three" "[B") ∈ lw_all := lw_g (lw_at lw_m2 138 rfl) rfl
theorem q529 : (Jvm.Cond.soleField "CoarserOrders" "three") ∈ lw_all := lw_g (lw_at lw_m2 139 rfl) rfl
theorem q530 : (Jvm.Cond.laysFinal "CoarserOrders" "CoarserOrders" "four" "[B") ∈ lw_all := lw_g (lw_at lw_m2 140 rfl) rfl
theorem q531 : (Jvm.Cond.soleField "CoarserOrders" "four") ∈ lw_all := lw_g (lw_at lw_m2 141 rfl) rfl
theorem q532 : (Jvm.Cond.laysFinal "CoarserOrders" "CoarserOrders" "here" "[B") ∈ lw_all := lw_g (lw_at lw_m2 142 rfl) rfl
theorem q533 : (Jvm.Cond.soleField "CoarserOrders" "here") ∈ lw_all := lw_g (lw_at lw_m2 143 rfl) rfl
theorem q534 : (Jvm.Cond.laysFinal "CoarserOrders" "CoarserOrders" "there" "[B") ∈ lw_all := lw_g (lw_at lw_m2 144 rfl) rfl
theorem q535 : (Jvm.Cond.soleField "CoarserOrders" "there") ∈ lw_all := lw_g (lw_at lw_m2 145 rfl) rfl
theorem q536 : (Jvm.Cond.laysFinal "CoarserOrders" "CoarserOrders" "exact" "[[B") ∈ lw_all := lw_g (lw_at lw_m2 146 rfl) rfl
theorem q537 : (Jvm.Cond.soleField "CoarserOrders" "exact") ∈ lw_all := lw_g (lw_at lw_m2 147 rfl) rfl
theorem q538 : (Jvm.Cond.laysFinal "CoarserOrders" "CoarserOrders" "names" "[Ljava/lang/String;") ∈ lw_all := lw_g (lw_at lw_m2 148 rfl) rfl
theorem q539 : (Jvm.Cond.soleField "CoarserOrders" "names") ∈ lw_all := lw_g (lw_at lw_m2 149 rfl) rfl
theorem q540 : (Jvm.Cond.laysFinal "CoarserOrders" "CoarserOrders" "tape" "[B") ∈ lw_all := lw_g (lw_at lw_m2 150 rfl) rfl
theorem q541 : (Jvm.Cond.soleField "CoarserOrders" "tape") ∈ lw_all := lw_g (lw_at lw_m2 151 rfl) rfl
theorem q542 : (Jvm.Cond.lays "CoarserOrders" "CoarserOrders" "tapeMany" "I") ∈ lw_all := lw_g (lw_at lw_m2 152 rfl) rfl
theorem q543 : (Jvm.Cond.soleField "CoarserOrders" "tapeMany") ∈ lw_all := lw_g (lw_at lw_m2 153 rfl) rfl
theorem q544 : (Jvm.Cond.lays "CoarserOrders" "CoarserOrders" "at" "I") ∈ lw_all := lw_g (lw_at lw_m2 154 rfl) rfl
theorem q545 : (Jvm.Cond.soleField "CoarserOrders" "at") ∈ lw_all := lw_g (lw_at lw_m2 155 rfl) rfl
theorem q546 : (Jvm.Cond.lays "CoarserOrders" "CoarserOrders" "end" "I") ∈ lw_all := lw_g (lw_at lw_m2 156 rfl) rfl
theorem q547 : (Jvm.Cond.soleField "CoarserOrders" "end") ∈ lw_all := lw_g (lw_at lw_m2 157 rfl) rfl
theorem q548 : (Jvm.Cond.laysFinal "CoarserOrders" "CoarserOrders" "facts" "[I") ∈ lw_all := lw_g (lw_at lw_m2 158 rfl) rfl
theorem q549 : (Jvm.Cond.soleField "CoarserOrders" "facts") ∈ lw_all := lw_g (lw_at lw_m2 159 rfl) rfl
theorem q550 : (Jvm.Cond.laysFinal "CoarserOrders" "CoarserOrders" "found" "[I") ∈ lw_all := lw_g (lw_at lw_m2 160 rfl) rfl
theorem q551 : (Jvm.Cond.soleField "CoarserOrders" "found") ∈ lw_all := lw_g (lw_at lw_m2 161 rfl) rfl
theorem q552 : (Jvm.Cond.lays "CoarserOrders" "CoarserOrders" "foundMany" "I") ∈ lw_all := lw_g (lw_at lw_m2 162 rfl) rfl
theorem q553 : (Jvm.Cond.soleField "CoarserOrders" "foundMany") ∈ lw_all := lw_g (lw_at lw_m2 163 rfl) rfl
theorem q554 : (Jvm.Cond.laysFinal "CoarserOrders" "CoarserOrders" "far" "[I") ∈ lw_all := lw_g (lw_at lw_m2 164 rfl) rfl
theorem q555 : (Jvm.Cond.soleField "CoarserOrders" "far") ∈ lw_all := lw_g (lw_at lw_m2 165 rfl) rfl
theorem q556 : (Jvm.Cond.laysFinal "CoarserOrders" "CoarserOrders" "shortest" "[I") ∈ lw_all := lw_g (lw_at lw_m2 166 rfl) rfl
theorem q557 : (Jvm.Cond.soleField "CoarserOrders" "shortest") ∈ lw_all := lw_g (lw_at lw_m2 167 rfl) rfl
theorem q558 : (Jvm.Cond.laysFinal "CoarserOrders" "CoarserOrders" "waiting" "[I") ∈ lw_all := lw_g (lw_at lw_m2 168 rfl) rfl
theorem q559 : (Jvm.Cond.soleField "CoarserOrders" "waiting") ∈ lw_all := lw_g (lw_at lw_m2 169 rfl) rfl
theorem q560 : (Jvm.Cond.laysFinal "CoarserOrders" "CoarserOrders" "list" "[I") ∈ lw_all := lw_g (lw_at lw_m2 170 rfl) rfl
theorem q561 : (Jvm.Cond.soleField "CoarserOrders" "list") ∈ lw_all := lw_g (lw_at lw_m2 171 rfl) rfl
theorem q562 : (Jvm.Cond.laysFinal "CoarserOrders" "CoarserOrders" "isListed" "[Z") ∈ lw_all := lw_g (lw_at lw_m2 172 rfl) rfl
theorem q563 : (Jvm.Cond.soleField "CoarserOrders" "isListed") ∈ lw_all := lw_g (lw_at lw_m2 173 rfl) rfl
theorem q564 : (Jvm.Cond.lays "CoarserOrders" "CoarserOrders" "listMany" "I") ∈ lw_all := lw_g (lw_at lw_m2 174 rfl) rfl
theorem q565 : (Jvm.Cond.soleField "CoarserOrders" "listMany") ∈ lw_all := lw_g (lw_at lw_m2 175 rfl) rfl
theorem q566 : (Jvm.Cond.laysFinal "CoarserOrders" "CoarserOrders" "strangers" "[LCoarserOrders$Plain;") ∈ lw_all := lw_g (lw_at lw_m2 176 rfl) rfl
theorem q567 : (Jvm.Cond.soleField "CoarserOrders" "strangers") ∈ lw_all := lw_g (lw_at lw_m2 177 rfl) rfl
theorem q568 : (Jvm.Cond.laysFinal "CoarserOrders" "CoarserOrders" "stepRows" "[I") ∈ lw_all := lw_g (lw_at lw_m2 178 rfl) rfl
theorem q569 : (Jvm.Cond.soleField "CoarserOrders" "stepRows") ∈ lw_all := lw_g (lw_at lw_m2 179 rfl) rfl
theorem q570 : (Jvm.Cond.laysFinal "CoarserOrders" "CoarserOrders" "stepArcs" "[I") ∈ lw_all := lw_g (lw_at lw_m2 180 rfl) rfl
theorem q571 : (Jvm.Cond.soleField "CoarserOrders" "stepArcs") ∈ lw_all := lw_g (lw_at lw_m2 181 rfl) rfl
theorem q572 : (Jvm.Cond.lays "CoarserOrders" "CoarserOrders" "stepMany" "I") ∈ lw_all := lw_g (lw_at lw_m2 182 rfl) rfl
theorem q573 : (Jvm.Cond.soleField "CoarserOrders" "stepMany") ∈ lw_all := lw_g (lw_at lw_m2 183 rfl) rfl
theorem q574 : (Jvm.Cond.laysFinal "CoarserOrders" "CoarserOrders" "shelves" "[LCoarserOrders$Shelf;") ∈ lw_all := lw_g (lw_at lw_m2 184 rfl) rfl
theorem q575 : (Jvm.Cond.soleField "CoarserOrders" "shelves") ∈ lw_all := lw_g (lw_at lw_m2 185 rfl) rfl
theorem q576 : (Jvm.Cond.laysFinal "CoarserOrders" "CoarserOrders" "sheets" "[LCoarserOrders$Shelf;") ∈ lw_all := lw_g (lw_at lw_m2 186 rfl) rfl
theorem q577 : (Jvm.Cond.soleField "CoarserOrders" "sheets") ∈ lw_all := lw_g (lw_at lw_m2 187 rfl) rfl
theorem q578 : (Jvm.Cond.laysFinal "CoarserOrders" "CoarserOrders" "trace" "LCoarserOrders$Trace;") ∈ lw_all := lw_g (lw_at lw_m2 188 rfl) rfl
theorem q579 : (Jvm.Cond.soleField "CoarserOrders" "trace") ∈ lw_all := lw_g (lw_at lw_m2 189 rfl) rfl
theorem q580 : (Jvm.Cond.superclass "CoarserOrders" "java/lang/Object") ∈ lw_all := lw_g (lw_at lw_m2 190 rfl) rfl
theorem q582 : (Jvm.Cond.instanceMethod ({ cls := "CoarserOrders", name := "size", desc := "(I)I" } : Jvm.MethodName)) ∈ lw_all := lw_g (lw_at lw_m2 192 rfl) rfl
theorem q583 : (Jvm.Cond.selects "CoarserOrders" ({ cls := "CoarserOrders", name := "size", desc := "(I)I" } : Jvm.MethodName) ({ cls := "CoarserOrders", name := "size", desc := "(I)I" } : Jvm.MethodName)) ∈ lw_all := lw_g (lw_at lw_m2 193 rfl) rfl
theorem q584 : (Jvm.Cond.code ({ cls := "CoarserOrders", name := "size", desc := "(I)I" } : Jvm.MethodName) prog_1_method_37_code (3 : Nat) (Option.some Jvm.ClassFile.FieldType.int)) ∈ lw_all := lw_g (lw_at lw_m2 194 rfl) rfl
theorem q585 : (Jvm.Cond.methodLink "CoarserOrders" (112 : Nat) ({ cls := "CoarserOrders", name := "isIn", desc := "(III)Z" } : Jvm.MethodName)) ∈ lw_all := lw_g (lw_at lw_m2 195 rfl) rfl
theorem q586 : (Jvm.Cond.static ({ cls := "CoarserOrders", name := "isIn", desc := "(III)Z" } : Jvm.MethodName)) ∈ lw_all := lw_g (lw_at lw_m2 196 rfl) rfl
theorem q587 : (Jvm.Cond.code ({ cls := "CoarserOrders", name := "isIn", desc := "(III)Z" } : Jvm.MethodName) prog_1_method_1_code (3 : Nat) (Option.some Jvm.ClassFile.FieldType.boolean)) ∈ lw_all := lw_g (lw_at lw_m2 197 rfl) rfl
theorem q589 : (Jvm.Cond.instanceMethod ({ cls := "CoarserOrders", name := "below", desc := "(II)I" } : Jvm.MethodName)) ∈ lw_all := lw_g (lw_at lw_m2 199 rfl) rfl
theorem q590 : (Jvm.Cond.selects "CoarserOrders" ({ cls := "CoarserOrders", name := "below", desc := "(II)I" } : Jvm.MethodName) ({ cls := "CoarserOrders", name := "below", desc := "(II)I" } : Jvm.MethodName)) ∈ lw_all := lw_g (lw_at lw_m2 200 rfl) rfl
theorem q591 : (Jvm.Cond.code ({ cls := "CoarserOrders", name := "below", desc := "(II)I" } : Jvm.MethodName) prog_1_method_38_code (3 : Nat) (Option.some Jvm.ClassFile.FieldType.int)) ∈ lw_all := lw_g (lw_at lw_m2 201 rfl) rfl
theorem q592 : (Jvm.Cond.methodLink "CoarserOrders" (284 : Nat) ({ cls := "CoarserOrders", name := "areRows", desc := "(II)Z" } : Jvm.MethodName)) ∈ lw_all := lw_g (lw_at lw_m2 202 rfl) rfl
theorem q593 : (Jvm.Cond.privateMethod ({ cls := "CoarserOrders", name := "areRows", desc := "(II)Z" } : Jvm.MethodName)) ∈ lw_tbl := lw_at lw_m2 203 rfl
theorem q594 : (Jvm.Cond.instanceMethod ({ cls := "CoarserOrders", name := "areRows", desc := "(II)Z" } : Jvm.MethodName)) ∈ lw_all := lw_g (lw_at lw_m2 204 rfl) rfl
theorem q595 : (Jvm.Cond.code ({ cls := "CoarserOrders", name := "areRows", desc := "(II)Z" } : Jvm.MethodName) prog_1_method_17_code (3 : Nat) (Option.some Jvm.ClassFile.FieldType.boolean)) ∈ lw_all := lw_g (lw_at lw_m2 205 rfl) rfl
theorem q596 : (Jvm.Cond.methodLink "CoarserOrders" (236 : Nat) ({ cls := "CoarserOrders", name := "read", desc := "(I[B)Z" } : Jvm.MethodName)) ∈ lw_all := lw_g (lw_at lw_m2 206 rfl) rfl
theorem q597 : (Jvm.Cond.privateMethod ({ cls := "CoarserOrders", name := "read", desc := "(I[B)Z" } : Jvm.MethodName)) ∈ lw_tbl := lw_at lw_m2 207 rfl
theorem q598 : (Jvm.Cond.instanceMethod ({ cls := "CoarserOrders", name := "read", desc := "(I[B)Z" } : Jvm.MethodName)) ∈ lw_all := lw_g (lw_at lw_m2 208 rfl) rfl
theorem q599 : (Jvm.Cond.code ({ cls := "CoarserOrders", name := "read", desc := "(I[B)Z" } : Jvm.MethodName) prog_1_method_16_code (6 : Nat) (Option.some Jvm.ClassFile.FieldType.boolean)) ∈ lw_all := lw_g (lw_at lw_m2 209 rfl) rfl
theorem q600 : (Jvm.Cond.methodLink "CoarserOrders" (288 : Nat) ({ cls := "CoarserOrders", name := "isBelow", desc := "([B[B)Z" } : Jvm.MethodName)) ∈ lw_all := lw_g (lw_at lw_m2 210 rfl) rfl
theorem q601 : (Jvm.Cond.privateMethod ({ cls := "CoarserOrders", name := "isBelow", desc := "([B[B)Z" } : Jvm.MethodName)) ∈ lw_tbl := lw_at lw_m2 211 rfl
theorem q602 : (Jvm.Cond.instanceMethod ({ cls := "CoarserOrders", name := "isBelow", desc := "([B[B)Z" } : Jvm.MethodName)) ∈ lw_all := lw_g (lw_at lw_m2 212 rfl) rfl
theorem q603 : (Jvm.Cond.code ({ cls := "CoarserOrders", name := "isBelow", desc := "([B[B)Z" } : Jvm.MethodName) prog_1_method_36_code (3 : Nat) (Option.some Jvm.ClassFile.FieldType.boolean)) ∈ lw_all := lw_g (lw_at lw_m2 213 rfl) rfl
theorem q604 : (Jvm.Cond.methodLink "CoarserOrders" (266 : Nat) ({ cls := "CoarserOrders", name := "swapped", desc := "([B)J" } : Jvm.MethodName)) ∈ lw_all := lw_g (lw_at lw_m2 214 rfl) rfl
theorem q605 : (Jvm.Cond.privateMethod ({ cls := "CoarserOrders", name := "swapped", desc := "([B)J" } : Jvm.MethodName)) ∈ lw_tbl := lw_at lw_m2 215 rfl
theorem q606 : (Jvm.Cond.instanceMethod ({ cls := "CoarserOrders", name := "swapped", desc := "([B)J" } : Jvm.MethodName)) ∈ lw_all := lw_g (lw_at lw_m2 216 rfl) rfl
theorem q607 : (Jvm.Cond.code ({ cls := "CoarserOrders", name := "swapped", desc := "([B)J" } : Jvm.MethodName) prog_1_method_30_code (6 : Nat) (Option.some Jvm.ClassFile.FieldType.long)) ∈ lw_all := lw_g (lw_at lw_m2 217 rfl) rfl
theorem q608 : (Jvm.Cond.methodLink "CoarserOrders" (262 : Nat) ({ cls := "CoarserOrders", name := "pair", desc := "(II)J" } : Jvm.MethodName)) ∈ lw_all := lw_g (lw_at lw_m2 218 rfl) rfl
theorem q609 : (Jvm.Cond.static ({ cls := "CoarserOrders", name := "pair", desc := "(II)J" } : Jvm.MethodName)) ∈ lw_all := lw_g (lw_at lw_m2 219 rfl) rfl
theorem q610 : (Jvm.Cond.code ({ cls := "CoarserOrders", name := "pair", desc := "(II)J" } : Jvm.MethodName) prog_1_method_29_code (2 : Nat) (Option.some Jvm.ClassFile.FieldType.long)) ∈ lw_all := lw_g (lw_at lw_m2 220 rfl) rfl
theorem q611 : (Jvm.Cond.constantLong "CoarserOrders" (282 : Nat) (-1 : Int64)) ∈ lw_all := lw_g (lw_at lw_m2 221 rfl) rfl
theorem q613 : (Jvm.Cond.instanceMethod ({ cls := "CoarserOrders", name := "meet", desc := "(II)I" } : Jvm.MethodName)) ∈ lw_all := lw_g (lw_at lw_m2 223 rfl) rfl
theorem q614 : (Jvm.Cond.selects "CoarserOrders" ({ cls := "CoarserOrders", name := "meet", desc := "(II)I" } : Jvm.MethodName) ({ cls := "CoarserOrders", name := "meet", desc := "(II)I" } : Jvm.MethodName)) ∈ lw_all := lw_g (lw_at lw_m2 224 rfl) rfl
theorem q615 : (Jvm.Cond.code ({ cls := "CoarserOrders", name := "meet", desc := "(II)I" } : Jvm.MethodName) prog_1_method_39_code (3 : Nat) (Option.some Jvm.ClassFile.FieldType.int)) ∈ lw_all := lw_g (lw_at lw_m2 225 rfl) rfl
theorem q616 : (Jvm.Cond.methodLink "CoarserOrders" (292 : Nat) ({ cls := "CoarserOrders", name := "met", desc := "([B[B[B)V" } : Jvm.MethodName)) ∈ lw_all := lw_g (lw_at lw_m2 226 rfl) rfl
theorem q617 : (Jvm.Cond.privateMethod ({ cls := "CoarserOrders", name := "met", desc := "([B[B[B)V" } : Jvm.MethodName)) ∈ lw_tbl := lw_at lw_m2 227 rfl
theorem q618 : (Jvm.Cond.instanceMethod ({ cls := "CoarserOrders", name := "met", desc := "([B[B[B)V" } : Jvm.MethodName)) ∈ lw_all := lw_g (lw_at lw_m2 228 rfl) rfl
theorem q619 : (Jvm.Cond.code ({ cls := "CoarserOrders", name := "met", desc := "([B[B[B)V" } : Jvm.MethodName) prog_1_method_35_code (6 : Nat) (Option.none : Option Jvm.ClassFile.FieldType)) ∈ lw_all := lw_g (lw_at lw_m2 229 rfl) rfl
theorem q620 : (Jvm.Cond.methodLink "CoarserOrders" (278 : Nat) ({ cls := "CoarserOrders", name := "allPairs", desc := "()J" } : Jvm.MethodName)) ∈ lw_all := lw_g (lw_at lw_m2 230 rfl) rfl
theorem q621 : (Jvm.Cond.privateMethod ({ cls := "CoarserOrders", name := "allPairs", desc := "()J" } : Jvm.MethodName)) ∈ lw_tbl := lw_at lw_m2 231 rfl
theorem q622 : (Jvm.Cond.instanceMethod ({ cls := "CoarserOrders", name := "allPairs", desc := "()J" } : Jvm.MethodName)) ∈ lw_all := lw_g (lw_at lw_m2 232 rfl) rfl
theorem q623 : (Jvm.Cond.code ({ cls := "CoarserOrders", name := "allPairs", desc := "()J" } : Jvm.MethodName) prog_1_method_31_code (5 : Nat) (Option.some Jvm.ClassFile.FieldType.long)) ∈ lw_all := lw_g (lw_at lw_m2 233 rfl) rfl
theorem q624 : (Jvm.Cond.methodLink "CoarserOrders" (270 : Nat) ({ cls := "CoarserOrders", name := "closedPairs", desc := "(J)J" } : Jvm.MethodName)) ∈ lw_all := lw_g (lw_at lw_m2 234 rfl) rfl
theorem q625 : (Jvm.Cond.privateMethod ({ cls := "CoarserOrders", name := "closedPairs", desc := "(J)J" } : Jvm.MethodName)) ∈ lw_tbl := lw_at lw_m2 235 rfl
theorem q626 : (Jvm.Cond.instanceMethod ({ cls := "CoarserOrders", name := "closedPairs", desc := "(J)J" } : Jvm.MethodName)) ∈ lw_all := lw_g (lw_at lw_m2 236 rfl) rfl
theorem q627 : (Jvm.Cond.code ({ cls := "CoarserOrders", name := "closedPairs", desc := "(J)J" } : Jvm.MethodName) prog_1_method_32_code (9 : Nat) (Option.some Jvm.ClassFile.FieldType.long)) ∈ lw_all := lw_g (lw_at lw_m2 237 rfl) rfl
theorem q628 : (Jvm.Cond.methodLink "CoarserOrders" (274 : Nat) ({ cls := "CoarserOrders", name := "rowBy", desc := "(J[B)V" } : Jvm.MethodName)) ∈ lw_all := lw_g (lw_at lw_m2 238 rfl) rfl
theorem q629 : (Jvm.Cond.privateMethod ({ cls := "CoarserOrders", name := "rowBy", desc := "(J[B)V" } : Jvm.MethodName)) ∈ lw_tbl := lw_at lw_m2 239 rfl
theorem q630 : (Jvm.Cond.instanceMethod ({ cls := "CoarserOrders", name := "rowBy", desc := "(J[B)V" } : Jvm.MethodName)) ∈ lw_all := lw_g (lw_at lw_m3 0 rfl) rfl
theorem q631 : (Jvm.Cond.code ({ cls := "CoarserOrders", name := "rowBy", desc := "(J[B)V" } : Jvm.MethodName) prog_1_method_33_code (8 : Nat) (Option.none : Option Jvm.ClassFile.FieldType)) ∈ lw_all := lw_g (lw_at lw_m3 1 rfl) rfl
theorem q632 : (Jvm.Cond.methodLink "CoarserOrders" (296 : Nat) ({ cls := "CoarserOrders", name := "told", desc := "([B)I" } : Jvm.MethodName)) ∈ lw_all := lw_g (lw_at lw_m3 2 rfl) rfl
theorem q633 : (Jvm.Cond.privateMethod ({ cls := "CoarserOrders", name := "told", desc := "([B)I" } : Jvm.MethodName)) ∈ lw_tbl := lw_at lw_m3 3 rfl
theorem q634 : (Jvm.Cond.instanceMethod ({ cls := "CoarserOrders", name := "told", desc := "([B)I" } : Jvm.MethodName)) ∈ lw_all := lw_g (lw_at lw_m3 4 rfl) rfl
theorem q635 : (Jvm.Cond.code ({ cls := "CoarserOrders", name := "told", desc := "([B)I" } : Jvm.MethodName) prog_1_method_18_code (4 : Nat) (Option.some Jvm.ClassFile.FieldType.int)) ∈ lw_all := lw_g (lw_at lw_m3 5 rfl) rfl
theorem q637 : (Jvm.Cond.instanceMethod ({ cls := "CoarserOrders", name := "join", desc := "(II)I" } : Jvm.MethodName)) ∈ lw_all := lw_g (lw_at lw_m3 7 rfl) rfl
theorem q638 : (Jvm.Cond.selects "CoarserOrders" ({ cls := "CoarserOrders", name := "join", desc := "(II)I" } : Jvm.MethodName) ({ cls := "CoarserOrders", name := "join", desc := "(II)I" } : Jvm.MethodName)) ∈ lw_all := lw_g (lw_at lw_m3 8 rfl) rfl
theorem q639 : (Jvm.Cond.code ({ cls := "CoarserOrders", name := "join", desc := "(II)I" } : Jvm.MethodName) prog_1_method_40_code (3 : Nat) (Option.some Jvm.ClassFile.FieldType.int)) ∈ lw_all := lw_g (lw_at lw_m3 9 rfl) rfl
theorem q640 : (Jvm.Cond.methodLink "CoarserOrders" (300 : Nat) ({ cls := "CoarserOrders", name := "joined", desc := "([B[B[B)V" } : Jvm.MethodName)) ∈ lw_all := lw_g (lw_at lw_m3 10 rfl) rfl
theorem q641 : (Jvm.Cond.privateMethod ({ cls := "CoarserOrders", name := "joined", desc := "([B[B[B)V" } : Jvm.MethodName)) ∈ lw_tbl := lw_at lw_m3 11 rfl
theorem q642 : (Jvm.Cond.instanceMethod ({ cls := "CoarserOrders", name := "joined", desc := "([B[B[B)V" } : Jvm.MethodName)) ∈ lw_all := lw_g (lw_at lw_m3 12 rfl) rfl
theorem q643 : (Jvm.Cond.code ({ cls := "CoarserOrders", name := "joined", desc := "([B[B[B)V" } : Jvm.MethodName) prog_1_method_34_code (4 : Nat) (Option.none : Option Jvm.ClassFile.FieldType)) ∈ lw_all := lw_g (lw_at lw_m3 13 rfl) rfl
theorem q645 : (Jvm.Cond.instanceMethod ({ cls := "CoarserOrders", name := "of", desc := "(II)I" } : Jvm.MethodName)) ∈ lw_all := lw_g (lw_at lw_m3 15 rfl) rfl
theorem q646 : (Jvm.Cond.selects "CoarserOrders" ({ cls := "CoarserOrders", name := "of", desc := "(II)I" } : Jvm.MethodName) ({ cls := "CoarserOrders", name := "of", desc := "(II)I" } : Jvm.MethodName)) ∈ lw_all := lw_g (lw_at lw_m3 16 rfl) rfl
theorem q647 : (Jvm.Cond.code ({ cls := "CoarserOrders", name := "of", desc := "(II)I" } : Jvm.MethodName) prog_1_method_43_code (3 : Nat) (Option.some Jvm.ClassFile.FieldType.int)) ∈ lw_all := lw_g (lw_at lw_m3 17 rfl) rfl
theorem q648 : (Jvm.Cond.methodLink "CoarserOrders" (232 : Nat) ({ cls := "CoarserOrders", name := "ones", desc := "(J)I" } : Jvm.MethodName)) ∈ lw_all := lw_g (lw_at lw_m3 18 rfl) rfl
theorem q649 : (Jvm.Cond.static ({ cls := "CoarserOrders", name := "ones", desc := "(J)I" } : Jvm.MethodName)) ∈ lw_all := lw_g (lw_at lw_m3 19 rfl) rfl
theorem q650 : (Jvm.Cond.code ({ cls := "CoarserOrders", name := "ones", desc := "(J)I" } : Jvm.MethodName) prog_1_method_12_code (5 : Nat) (Option.some Jvm.ClassFile.FieldType.int)) ∈ lw_all := lw_g (lw_at lw_m3 20 rfl) rfl
theorem q651 : (Jvm.Cond.methodLink "CoarserOrders" (303 : Nat) ({ cls := "CoarserOrders", name := "dropSet", desc := "([B)I" } : Jvm.MethodName)) ∈ lw_all := lw_g (lw_at lw_m3 21 rfl) rfl
theorem q652 : (Jvm.Cond.privateMethod ({ cls := "CoarserOrders", name := "dropSet", desc := "([B)I" } : Jvm.MethodName)) ∈ lw_tbl := lw_at lw_m3 22 rfl
theorem q653 : (Jvm.Cond.instanceMethod ({ cls := "CoarserOrders", name := "dropSet", desc := "([B)I" } : Jvm.MethodName)) ∈ lw_all := lw_g (lw_at lw_m3 23 rfl) rfl
theorem q654 : (Jvm.Cond.code ({ cls := "CoarserOrders", name := "dropSet", desc := "([B)I" } : Jvm.MethodName) prog_1_method_41_code (4 : Nat) (Option.some Jvm.ClassFile.FieldType.int)) ∈ lw_all := lw_g (lw_at lw_m3 24 rfl) rfl
theorem q655 : (Jvm.Cond.methodLink "CoarserOrders" (250 : Nat) ({ cls := "CoarserOrders", name := "isDrop", desc := "([BI)Z" } : Jvm.MethodName)) ∈ lw_all := lw_g (lw_at lw_m3 25 rfl) rfl
theorem q656 : (Jvm.Cond.static ({ cls := "CoarserOrders", name := "isDrop", desc := "([BI)Z" } : Jvm.MethodName)) ∈ lw_all := lw_g (lw_at lw_m3 26 rfl) rfl
theorem q657 : (Jvm.Cond.code ({ cls := "CoarserOrders", name := "isDrop", desc := "([BI)Z" } : Jvm.MethodName) prog_1_method_23_code (2 : Nat) (Option.some Jvm.ClassFile.FieldType.boolean)) ∈ lw_all := lw_g (lw_at lw_m3 27 rfl) rfl
theorem q658 : (Jvm.Cond.methodLink "CoarserOrders" (306 : Nat) ({ cls := "CoarserOrders", name := "rankOf", desc := "([B)I" } : Jvm.MethodName)) ∈ lw_all := lw_g (lw_at lw_m3 28 rfl) rfl
theorem q659 : (Jvm.Cond.privateMethod ({ cls := "CoarserOrders", name := "rankOf", desc := "([B)I" } : Jvm.MethodName)) ∈ lw_tbl := lw_at lw_m3 29 rfl
theorem q660 : (Jvm.Cond.instanceMethod ({ cls := "CoarserOrders", name := "rankOf", desc := "([B)I" } : Jvm.MethodName)) ∈ lw_all := lw_g (lw_at lw_m3 30 rfl) rfl
theorem q661 : (Jvm.Cond.code ({ cls := "CoarserOrders", name := "rankOf", desc := "([B)I" } : Jvm.MethodName) prog_1_method_27_code (6 : Nat) (Option.some Jvm.ClassFile.FieldType.int)) ∈ lw_all := lw_g (lw_at lw_m3 31 rfl) rfl
theorem q662 : (Jvm.Cond.methodLink "CoarserOrders" (309 : Nat) ({ cls := "CoarserOrders", name := "toldTurned", desc := "([B)I" } : Jvm.MethodName)) ∈ lw_all := lw_g (lw_at lw_m3 32 rfl) rfl
theorem q663 : (Jvm.Cond.privateMethod ({ cls := "CoarserOrders", name := "toldTurned", desc := "([B)I" } : Jvm.MethodName)) ∈ lw_tbl := lw_at lw_m3 33 rfl
theorem q664 : (Jvm.Cond.instanceMethod ({ cls := "CoarserOrders", name := "toldTurned", desc := "([B)I" } : Jvm.MethodName)) ∈ lw_all := lw_g (lw_at lw_m3 34 rfl) rfl
theorem q665 : (Jvm.Cond.code ({ cls := "CoarserOrders", name := "toldTurned", desc := "([B)I" } : Jvm.MethodName) prog_1_method_42_code (2 : Nat) (Option.some Jvm.ClassFile.FieldType.int)) ∈ lw_all := lw_g (lw_at lw_m3 35 rfl) rfl
theorem q666 : (Jvm.Cond.methodLink "CoarserOrders" (254 : Nat) ({ cls := "CoarserOrders", name := "turnRound", desc := "([BI)V" } : Jvm.MethodName)) ∈ lw_all := lw_g (lw_at lw_m3 36 rfl) rfl
theorem q667 : (Jvm.Cond.privateMethod ({ cls := "CoarserOrders", name := "turnRound", desc := "([BI)V" } : Jvm.MethodName)) ∈ lw_tbl := lw_at lw_m3 37 rfl
theorem q668 : (Jvm.Cond.instanceMethod ({ cls := "CoarserOrders", name := "turnRound", desc := "([BI)V" } : Jvm.MethodName)) ∈ lw_all := lw_g (lw_at lw_m3 38 rfl) rfl
theorem q669 : (Jvm.Cond.code ({ cls := "CoarserOrders", name := "turnRound", desc := "([BI)V" } : Jvm.MethodName) prog_1_method_24_code (5 : Nat) (Option.none : Option Jvm.ClassFile.FieldType)) ∈ lw_all := lw_g (lw_at lw_m3 39 rfl) rfl
theorem q670 : (Jvm.Cond.methodLink "CoarserOrders" (246 : Nat) ({ cls := "CoarserOrders", name := "change", desc := "([BII)V" } : Jvm.MethodName)) ∈ lw_all := lw_g (lw_at lw_m3 40 rfl) rfl
theorem q671 : (Jvm.Cond.static ({ cls := "CoarserOrders", name := "change", desc := "([BII)V" } : Jvm.MethodName)) ∈ lw_all := lw_g (lw_at lw_m3 41 rfl) rfl
theorem q672 : (Jvm.Cond.code ({ cls := "CoarserOrders", name := "change", desc := "([BII)V" } : Jvm.MethodName) prog_1_method_21_code (4 : Nat) (Option.none : Option Jvm.ClassFile.FieldType)) ∈ lw_all := lw_g (lw_at lw_m3 42 rfl) rfl
theorem q674 : (Jvm.Cond.instanceMethod ({ cls := "CoarserOrders", name := "rowAt", desc := "(I)I" } : Jvm.MethodName)) ∈ lw_all := lw_g (lw_at lw_m3 44 rfl) rfl
theorem q675 : (Jvm.Cond.selects "CoarserOrders" ({ cls := "CoarserOrders", name := "rowAt", desc := "(I)I" } : Jvm.MethodName) ({ cls := "CoarserOrders", name := "rowAt", desc := "(I)I" } : Jvm.MethodName)) ∈ lw_all := lw_g (lw_at lw_m3 45 rfl) rfl
theorem q676 : (Jvm.Cond.code ({ cls := "CoarserOrders", name := "rowAt", desc := "(I)I" } : Jvm.MethodName) prog_1_method_44_code (2 : Nat) (Option.some Jvm.ClassFile.FieldType.int)) ∈ lw_all := lw_g (lw_at lw_m3 46 rfl) rfl
theorem q677 : (Jvm.Cond.methodLink "CoarserOrders" (258 : Nat) ({ cls := "CoarserOrders", name := "manyRows", desc := "()I" } : Jvm.MethodName)) ∈ lw_all := lw_g (lw_at lw_m3 47 rfl) rfl
theorem q678 : (Jvm.Cond.privateMethod ({ cls := "CoarserOrders", name := "manyRows", desc := "()I" } : Jvm.MethodName)) ∈ lw_tbl := lw_at lw_m3 48 rfl
theorem q679 : (Jvm.Cond.instanceMethod ({ cls := "CoarserOrders", name := "manyRows", desc := "()I" } : Jvm.MethodName)) ∈ lw_all := lw_g (lw_at lw_m3 49 rfl) rfl
theorem q680 : (Jvm.Cond.code ({ cls := "CoarserOrders", name := "manyRows", desc := "()I" } : Jvm.MethodName) prog_1_method_26_code (3 : Nat) (Option.some Jvm.ClassFile.FieldType.int)) ∈ lw_all := lw_g (lw_at lw_m3 50 rfl) rfl
theorem q681 : (Jvm.Cond.methodLink "CoarserOrders" (312 : Nat) ({ cls := "CoarserOrders", name := "byRank", desc := "(I[B)V" } : Jvm.MethodName)) ∈ lw_all := lw_g (lw_at lw_m3 51 rfl) rfl
theorem q682 : (Jvm.Cond.privateMethod ({ cls := "CoarserOrders", name := "byRank", desc := "(I[B)V" } : Jvm.MethodName)) ∈ lw_tbl := lw_at lw_m3 52 rfl
theorem q683 : (Jvm.Cond.instanceMethod ({ cls := "CoarserOrders", name := "byRank", desc := "(I[B)V" } : Jvm.MethodName)) ∈ lw_all := lw_g (lw_at lw_m3 53 rfl) rfl
theorem q684 : (Jvm.Cond.code ({ cls := "CoarserOrders", name := "byRank", desc := "(I[B)V" } : Jvm.MethodName) prog_1_method_28_code (9 : Nat) (Option.none : Option Jvm.ClassFile.FieldType)) ∈ lw_all := lw_g (lw_at lw_m3 54 rfl) rfl
theorem q686 : (Jvm.Cond.instanceMethod ({ cls := "CoarserOrders", name := "jump", desc := "(III)I" } : Jvm.MethodName)) ∈ lw_all := lw_g (lw_at lw_m3 56 rfl) rfl
theorem q687 : (Jvm.Cond.selects "CoarserOrders" ({ cls := "CoarserOrders", name := "jump", desc := "(III)I" } : Jvm.MethodName) ({ cls := "CoarserOrders", name := "jump", desc := "(III)I" } : Jvm.MethodName)) ∈ lw_all := lw_g (lw_at lw_m3 57 rfl) rfl
theorem q688 : (Jvm.Cond.codeWith ({ cls := "CoarserOrders", name := "jump", desc := "(III)I" } : Jvm.MethodName) prog_1_method_48_code (5 : Nat) (Option.some Jvm.ClassFile.FieldType.int) [((29 : Nat), (80 : Nat), (81 : Nat), (341 : Nat))]) ∈ lw_all := lw_g (lw_at lw_m3 58 rfl) rfl
theorem q689 : (Jvm.Cond.classLink "CoarserOrders" (341 : Nat) "java/lang/IndexOutOfBoundsException") ∈ lw_all := lw_g (lw_at lw_m3 59 rfl) rfl
theorem q721 : (Jvm.Cond.methodLink "CoarserOrders" (329 : Nat) ({ cls := "CoarserOrders", name := "placeOf", desc := "([BI)I" } : Jvm.MethodName)) ∈ lw_all := lw_g (lw_at lw_m3 91 rfl) rfl
theorem q722 : (Jvm.Cond.static ({ cls := "CoarserOrders", name := "placeOf", desc := "([BI)I" } : Jvm.MethodName)) ∈ lw_all := lw_g (lw_at lw_m3 92 rfl) rfl
theorem q723 : (Jvm.Cond.code ({ cls := "CoarserOrders", name := "placeOf", desc := "([BI)I" } : Jvm.MethodName) prog_1_method_45_code (3 : Nat) (Option.some Jvm.ClassFile.FieldType.int)) ∈ lw_all := lw_g (lw_at lw_m3 93 rfl) rfl
theorem q724 : (Jvm.Cond.methodLink "CoarserOrders" (333 : Nat) ({ cls := "CoarserOrders", name := "jumps", desc := "([BII[B)V" } : Jvm.MethodName)) ∈ lw_all := lw_g (lw_at lw_m3 94 rfl) rfl
theorem q725 : (Jvm.Cond.privateMethod ({ cls := "CoarserOrders", name := "jumps", desc := "([BII[B)V" } : Jvm.MethodName)) ∈ lw_tbl := lw_at lw_m3 95 rfl
theorem q726 : (Jvm.Cond.instanceMethod ({ cls := "CoarserOrders", name := "jumps", desc := "([BII[B)V" } : Jvm.MethodName)) ∈ lw_all := lw_g (lw_at lw_m3 96 rfl) rfl
theorem q727 : (Jvm.Cond.code ({ cls := "CoarserOrders", name := "jumps", desc := "([BII[B)V" } : Jvm.MethodName) prog_1_method_46_code (6 : Nat) (Option.none : Option Jvm.ClassFile.FieldType)) ∈ lw_all := lw_g (lw_at lw_m3 97 rfl) rfl
theorem q728 : (Jvm.Cond.methodLink "CoarserOrders" (316 : Nat) ({ cls := "CoarserOrders", name := "copy", desc := "([B[B)V" } : Jvm.MethodName)) ∈ lw_all := lw_g (lw_at lw_m3 98 rfl) rfl
theorem q729 : (Jvm.Cond.privateMethod ({ cls := "CoarserOrders", name := "copy", desc := "([B[B)V" } : Jvm.MethodName)) ∈ lw_tbl := lw_at lw_m3 99 rfl
theorem q730 : (Jvm.Cond.instanceMethod ({ cls := "CoarserOrders", name := "copy", desc := "([B[B)V" } : Jvm.MethodName)) ∈ lw_all := lw_g (lw_at lw_m3 100 rfl) rfl
theorem q731 : (Jvm.Cond.code ({ cls := "CoarserOrders", name := "copy", desc := "([B[B)V" } : Jvm.MethodName) prog_1_method_20_code (3 : Nat) (Option.none : Option Jvm.ClassFile.FieldType)) ∈ lw_all := lw_g (lw_at lw_m3 101 rfl) rfl
theorem q732 : (Jvm.Cond.methodLink "CoarserOrders" (240 : Nat) ({ cls := "java/lang/System", name := "arraycopy", desc := "(Ljava/lang/Object;ILjava/lang/Object;II)V" } : Jvm.MethodName)) ∈ lw_all := lw_g (lw_at lw_m3 102 rfl) rfl
theorem q735 : (Jvm.Cond.methodLink "CoarserOrders" (337 : Nat) ({ cls := "CoarserOrders", name := "mayPass", desc := "([BII)Z" } : Jvm.MethodName)) ∈ lw_all := lw_g (lw_at lw_m3 105 rfl) rfl
theorem q736 : (Jvm.Cond.static ({ cls := "CoarserOrders", name := "mayPass", desc := "([BII)Z" } : Jvm.MethodName)) ∈ lw_all := lw_g (lw_at lw_m3 106 rfl) rfl
theorem q737 : (Jvm.Cond.code ({ cls := "CoarserOrders", name := "mayPass", desc := "([BII)Z" } : Jvm.MethodName) prog_1_method_47_code (5 : Nat) (Option.some Jvm.ClassFile.FieldType.boolean)) ∈ lw_all := lw_g (lw_at lw_m3 107 rfl) rfl
theorem q738 : (Jvm.Cond.methodLink "CoarserOrders" (320 : Nat) ({ cls := "java/lang/Math", name := "min", desc := "(II)I" } : Jvm.MethodName)) ∈ lw_all := lw_g (lw_at lw_m3 108 rfl) rfl
theorem q741 : (Jvm.Cond.methodLink "CoarserOrders" (326 : Nat) ({ cls := "java/lang/Math", name := "max", desc := "(II)I" } : Jvm.MethodName)) ∈ lw_all := lw_g (lw_at lw_m3 111 rfl) rfl
theorem q745 : (Jvm.Cond.instanceMethod ({ cls := "CoarserOrders", name := "arc", desc := "(II)I" } : Jvm.MethodName)) ∈ lw_all := lw_g (lw_at lw_m3 115 rfl) rfl
theorem q746 : (Jvm.Cond.selects "CoarserOrders" ({ cls := "CoarserOrders", name := "arc", desc := "(II)I" } : Jvm.MethodName) ({ cls := "CoarserOrders", name := "arc", desc := "(II)I" } : Jvm.MethodName)) ∈ lw_all := lw_g (lw_at lw_m3 116 rfl) rfl
theorem q747 : (Jvm.Cond.code ({ cls := "CoarserOrders", name := "arc", desc := "(II)I" } : Jvm.MethodName) prog_1_method_53_code (3 : Nat) (Option.some Jvm.ClassFile.FieldType.int)) ∈ lw_all := lw_g (lw_at lw_m3 117 rfl) rfl
theorem q748 : (Jvm.Cond.methodLink "CoarserOrders" (343 : Nat) ({ cls := "CoarserOrders", name := "arcAt", desc := "([BI)I" } : Jvm.MethodName)) ∈ lw_all := lw_g (lw_at lw_m3 118 rfl) rfl
theorem q749 : (Jvm.Cond.privateMethod ({ cls := "CoarserOrders", name := "arcAt", desc := "([BI)I" } : Jvm.MethodName)) ∈ lw_tbl := lw_at lw_m3 119 rfl
theorem q750 : (Jvm.Cond.instanceMethod ({ cls := "CoarserOrders", name := "arcAt", desc := "([BI)I" } : Jvm.MethodName)) ∈ lw_all := lw_g (lw_at lw_m3 120 rfl) rfl
theorem q751 : (Jvm.Cond.code ({ cls := "CoarserOrders", name := "arcAt", desc := "([BI)I" } : Jvm.MethodName) prog_1_method_49_code (7 : Nat) (Option.some Jvm.ClassFile.FieldType.int)) ∈ lw_all := lw_g (lw_at lw_m3 121 rfl) rfl
theorem q753 : (Jvm.Cond.instanceMethod ({ cls := "CoarserOrders", name := "arcIs", desc := "(II)I" } : Jvm.MethodName)) ∈ lw_all := lw_g (lw_at lw_m3 123 rfl) rfl
theorem q754 : (Jvm.Cond.selects "CoarserOrders" ({ cls := "CoarserOrders", name := "arcIs", desc := "(II)I" } : Jvm.MethodName) ({ cls := "CoarserOrders", name := "arcIs", desc := "(II)I" } : Jvm.MethodName)) ∈ lw_all := lw_g (lw_at lw_m3 124 rfl) rfl
theorem q755 : (Jvm.Cond.code ({ cls := "CoarserOrders", name := "arcIs", desc := "(II)I" } : Jvm.MethodName) prog_1_method_54_code (3 : Nat) (Option.some Jvm.ClassFile.FieldType.int)) ∈ lw_all := lw_g (lw_at lw_m3 125 rfl) rfl
theorem q756 : (Jvm.Cond.methodLink "CoarserOrders" (358 : Nat) ({ cls := "CoarserOrders", name := "isArc", desc := "(I)Z" } : Jvm.MethodName)) ∈ lw_all := lw_g (lw_at lw_m3 126 rfl) rfl
theorem q757 : (Jvm.Cond.privateMethod ({ cls := "CoarserOrders", name := "isArc", desc := "(I)Z" } : Jvm.MethodName)) ∈ lw_tbl := lw_at lw_m3 127 rfl
theorem q758 : (Jvm.Cond.instanceMethod ({ cls := "CoarserOrders", name := "isArc", desc := "(I)Z" } : Jvm.MethodName)) ∈ lw_all := lw_g (lw_at lw_m3 128 rfl) rfl
theorem q759 : (Jvm.Cond.code ({ cls := "CoarserOrders", name := "isArc", desc := "(I)Z" } : Jvm.MethodName) prog_1_method_9_code (2 : Nat) (Option.some Jvm.ClassFile.FieldType.boolean)) ∈ lw_all := lw_g (lw_at lw_m3 129 rfl) rfl
theorem q760 : (Jvm.Cond.methodLink "CoarserOrders" (361 : Nat) ({ cls := "CoarserOrders", name := "isGone", desc := "(I)Z" } : Jvm.MethodName)) ∈ lw_all := lw_g (lw_at lw_m3 130 rfl) rfl
theorem q761 : (Jvm.Cond.privateMethod ({ cls := "CoarserOrders", name := "isGone", desc := "(I)Z" } : Jvm.MethodName)) ∈ lw_tbl := lw_at lw_m3 131 rfl
theorem q762 : (Jvm.Cond.instanceMethod ({ cls := "CoarserOrders", name := "isGone", desc := "(I)Z" } : Jvm.MethodName)) ∈ lw_all := lw_g (lw_at lw_m3 132 rfl) rfl
theorem q763 : (Jvm.Cond.code ({ cls := "CoarserOrders", name := "isGone", desc := "(I)Z" } : Jvm.MethodName) prog_1_method_14_code (2 : Nat) (Option.some Jvm.ClassFile.FieldType.boolean)) ∈ lw_all := lw_g (lw_at lw_m3 133 rfl) rfl
theorem q764 : (Jvm.Cond.methodLink "CoarserOrders" (364 : Nat) ({ cls := "CoarserOrders", name := "toldStem", desc := "(LCoarserOrders$Arc;)I" } : Jvm.MethodName)) ∈ lw_all := lw_g (lw_at lw_m3 134 rfl) rfl
theorem q765 : (Jvm.Cond.privateMethod ({ cls := "CoarserOrders", name := "toldStem", desc := "(LCoarserOrders$Arc;)I" } : Jvm.MethodName)) ∈ lw_tbl := lw_at lw_m3 135 rfl
theorem q766 : (Jvm.Cond.instanceMethod ({ cls := "CoarserOrders", name := "toldStem", desc := "(LCoarserOrders$Arc;)I" } : Jvm.MethodName)) ∈ lw_all := lw_g (lw_at lw_m3 136 rfl) rfl
theorem q767 : (Jvm.Cond.code ({ cls := "CoarserOrders", name := "toldStem", desc := "(LCoarserOrders$Arc;)I" } : Jvm.MethodName) prog_1_method_52_code (2 : Nat) (Option.some Jvm.ClassFile.FieldType.int)) ∈ lw_all := lw_g (lw_at lw_m3 137 rfl) rfl
theorem q768 : (Jvm.Cond.methodLink "CoarserOrders" (354 : Nat) ({ cls := "CoarserOrders", name := "stemOf", desc := "(LCoarserOrders$Arc;[B)V" } : Jvm.MethodName)) ∈ lw_all := lw_g (lw_at lw_m3 138 rfl) rfl
theorem q769 : (Jvm.Cond.privateMethod ({ cls := "CoarserOrders", name := "stemOf", desc := "(LCoarserOrders$Arc;[B)V" } : Jvm.MethodName)) ∈ lw_tbl := lw_at lw_m3 139 rfl
theorem q770 : (Jvm.Cond.instanceMethod ({ cls := "CoarserOrders", name := "stemOf", desc := "(LCoarserOrders$Arc;[B)V" } : Jvm.MethodName)) ∈ lw_all := lw_g (lw_at lw_m3 140 rfl) rfl
theorem q771 : (Jvm.Cond.code ({ cls := "CoarserOrders", name := "stemOf", desc := "(LCoarserOrders$Arc;[B)V" } : Jvm.MethodName) prog_1_method_51_code (5 : Nat) (Option.none : Option Jvm.ClassFile.FieldType)) ∈ lw_all := lw_g (lw_at lw_m3 141 rfl) rfl
theorem q772 : (Jvm.Cond.methodLink "CoarserOrders" (346 : Nat) ({ cls := "CoarserOrders", name := "first", desc := "([B)V" } : Jvm.MethodName)) ∈ lw_all := lw_g (lw_at lw_m3 142 rfl) rfl
theorem q773 : (Jvm.Cond.privateMethod ({ cls := "CoarserOrders", name := "first", desc := "([B)V" } : Jvm.MethodName)) ∈ lw_tbl := lw_at lw_m3 143 rfl
theorem q774 : (Jvm.Cond.instanceMethod ({ cls := "CoarserOrders", name := "first", desc := "([B)V" } : Jvm.MethodName)) ∈ lw_all := lw_g (lw_at lw_m3 144 rfl) rfl
theorem q775 : (Jvm.Cond.code ({ cls := "CoarserOrders", name := "first", desc := "([B)V" } : Jvm.MethodName) prog_1_method_19_code (3 : Nat) (Option.none : Option Jvm.ClassFile.FieldType)) ∈ lw_all := lw_g (lw_at lw_m3 145 rfl) rfl
theorem q776 : (Jvm.Cond.methodLink "CoarserOrders" (350 : Nat) ({ cls := "CoarserOrders$Arc", name := "isLeft", desc := "(I)Z" } : Jvm.MethodName)) ∈ lw_all := lw_g (lw_at lw_m3 146 rfl) rfl
theorem q781 : (Jvm.Cond.instanceMethod ({ cls := "CoarserOrders", name := "forces", desc := "(II)I" } : Jvm.MethodName)) ∈ lw_all := lw_g (lw_at lw_m3 151 rfl) rfl
theorem q782 : (Jvm.Cond.selects "CoarserOrders" ({ cls := "CoarserOrders", name := "forces", desc := "(II)I" } : Jvm.MethodName) ({ cls := "CoarserOrders", name := "forces", desc := "(II)I" } : Jvm.MethodName)) ∈ lw_all := lw_g (lw_at lw_m3 152 rfl) rfl
theorem q783 : (Jvm.Cond.code ({ cls := "CoarserOrders", name := "forces", desc := "(II)I" } : Jvm.MethodName) prog_1_method_55_code (3 : Nat) (Option.some Jvm.ClassFile.FieldType.int)) ∈ lw_all := lw_g (lw_at lw_m3 153 rfl) rfl
theorem q785 : (Jvm.Cond.instanceMethod ({ cls := "CoarserOrders", name := "diagram", desc := "(I)J" } : Jvm.MethodName)) ∈ lw_all := lw_g (lw_at lw_m3 155 rfl) rfl
theorem q786 : (Jvm.Cond.selects "CoarserOrders" ({ cls := "CoarserOrders", name := "diagram", desc := "(I)J" } : Jvm.MethodName) ({ cls := "CoarserOrders", name := "diagram", desc := "(I)J" } : Jvm.MethodName)) ∈ lw_all := lw_g (lw_at lw_m3 156 rfl) rfl
theorem q787 : (Jvm.Cond.code ({ cls := "CoarserOrders", name := "diagram", desc := "(I)J" } : Jvm.MethodName) prog_1_method_56_code (2 : Nat) (Option.some Jvm.ClassFile.FieldType.long)) ∈ lw_all := lw_g (lw_at lw_m3 157 rfl) rfl
theorem q788 : (Jvm.Cond.methodLink "CoarserOrders" (368 : Nat) ({ cls := "CoarserOrders", name := "diagramOf", desc := "([B)J" } : Jvm.MethodName)) ∈ lw_all := lw_g (lw_at lw_m3 158 rfl) rfl
theorem q789 : (Jvm.Cond.privateMethod ({ cls := "CoarserOrders", name := "diagramOf", desc := "([B)J" } : Jvm.MethodName)) ∈ lw_tbl := lw_at lw_m3 159 rfl
theorem q790 : (Jvm.Cond.instanceMethod ({ cls := "CoarserOrders", name := "diagramOf", desc := "([B)J" } : Jvm.MethodName)) ∈ lw_all := lw_g (lw_at lw_m3 160 rfl) rfl
theorem q791 : (Jvm.Cond.code ({ cls := "CoarserOrders", name := "diagramOf", desc := "([B)J" } : Jvm.MethodName) prog_1_method_50_code (5 : Nat) (Option.some Jvm.ClassFile.FieldType.long)) ∈ lw_all := lw_g (lw_at lw_m3 161 rfl) rfl
theorem q793 : (Jvm.Cond.instanceMethod ({ cls := "CoarserOrders", name := "rowOf", desc := "(J)I" } : Jvm.MethodName)) ∈ lw_all := lw_g (lw_at lw_m3 163 rfl) rfl
theorem q794 : (Jvm.Cond.selects "CoarserOrders" ({ cls := "CoarserOrders", name := "rowOf", desc := "(J)I" } : Jvm.MethodName) ({ cls := "CoarserOrders", name := "rowOf", desc := "(J)I" } : Jvm.MethodName)) ∈ lw_all := lw_g (lw_at lw_m3 164 rfl) rfl
theorem q795 : (Jvm.Cond.code ({ cls := "CoarserOrders", name := "rowOf", desc := "(J)I" } : Jvm.MethodName) prog_1_method_57_code (5 : Nat) (Option.some Jvm.ClassFile.FieldType.int)) ∈ lw_all := lw_g (lw_at lw_m3 165 rfl) rfl
theorem q796 : (Jvm.Cond.methodLink "CoarserOrders" (371 : Nat) ({ cls := "CoarserOrders", name := "allArcs", desc := "()J" } : Jvm.MethodName)) ∈ lw_all := lw_g (lw_at lw_m3 166 rfl) rfl
theorem q797 : (Jvm.Cond.privateMethod ({ cls := "CoarserOrders", name := "allArcs", desc := "()J" } : Jvm.MethodName)) ∈ lw_tbl := lw_at lw_m3 167 rfl
theorem q798 : (Jvm.Cond.instanceMethod ({ cls := "CoarserOrders", name := "allArcs", desc := "()J" } : Jvm.MethodName)) ∈ lw_all := lw_g (lw_at lw_m3 168 rfl) rfl
theorem q799 : (Jvm.Cond.code ({ cls := "CoarserOrders", name := "allArcs", desc := "()J" } : Jvm.MethodName) prog_1_method_10_code (1 : Nat) (Option.some Jvm.ClassFile.FieldType.long)) ∈ lw_all := lw_g (lw_at lw_m3 169 rfl) rfl
theorem q800 : (Jvm.Cond.methodLink "CoarserOrders" (374 : Nat) ({ cls := "CoarserOrders", name := "lowestOf", desc := "(J)I" } : Jvm.MethodName)) ∈ lw_all := lw_g (lw_at lw_m3 170 rfl) rfl
theorem q801 : (Jvm.Cond.static ({ cls := "CoarserOrders", name := "lowestOf", desc := "(J)I" } : Jvm.MethodName)) ∈ lw_all := lw_g (lw_at lw_m3 171 rfl) rfl
theorem q802 : (Jvm.Cond.code ({ cls := "CoarserOrders", name := "lowestOf", desc := "(J)I" } : Jvm.MethodName) prog_1_method_13_code (3 : Nat) (Option.some Jvm.ClassFile.FieldType.int)) ∈ lw_all := lw_g (lw_at lw_m3 172 rfl) rfl
theorem q804 : (Jvm.Cond.instanceMethod ({ cls := "CoarserOrders", name := "gone", desc := "()J" } : Jvm.MethodName)) ∈ lw_all := lw_g (lw_at lw_m3 174 rfl) rfl
theorem q805 : (Jvm.Cond.selects "CoarserOrders" ({ cls := "CoarserOrders", name := "gone", desc := "()J" } : Jvm.MethodName) ({ cls := "CoarserOrders", name := "gone", desc := "()J" } : Jvm.MethodName)) ∈ lw_all := lw_g (lw_at lw_m3 175 rfl) rfl
theorem q806 : (Jvm.Cond.code ({ cls := "CoarserOrders", name := "gone", desc := "()J" } : Jvm.MethodName) prog_1_method_58_code (1 : Nat) (Option.some Jvm.ClassFile.FieldType.long)) ∈ lw_all := lw_g (lw_at lw_m3 176 rfl) rfl
theorem q808 : (Jvm.Cond.instanceMethod ({ cls := "CoarserOrders", name := "contract", desc := "(I)I" } : Jvm.MethodName)) ∈ lw_all := lw_g (lw_at lw_m3 178 rfl) rfl
theorem q809 : (Jvm.Cond.selects "CoarserOrders" ({ cls := "CoarserOrders", name := "contract", desc := "(I)I" } : Jvm.MethodName) ({ cls := "CoarserOrders", name := "contract", desc := "(I)I" } : Jvm.MethodName)) ∈ lw_all := lw_g (lw_at lw_m3 179 rfl) rfl
theorem q810 : (Jvm.Cond.code ({ cls := "CoarserOrders", name := "contract", desc := "(I)I" } : Jvm.MethodName) prog_1_method_59_code (2 : Nat) (Option.some Jvm.ClassFile.FieldType.int)) ∈ lw_all := lw_g (lw_at lw_m3 180 rfl) rfl
theorem q811 : (Jvm.Cond.methodLink "CoarserOrders" (377 : Nat) ({ cls := "CoarserOrders", name := "manyGone", desc := "()I" } : Jvm.MethodName)) ∈ lw_all := lw_g (lw_at lw_m3 181 rfl) rfl
theorem q812 : (Jvm.Cond.privateMethod ({ cls := "CoarserOrders", name := "manyGone", desc := "()I" } : Jvm.MethodName)) ∈ lw_tbl := lw_at lw_m3 182 rfl
theorem q813 : (Jvm.Cond.instanceMethod ({ cls := "CoarserOrders", name := "manyGone", desc := "()I" } : Jvm.MethodName)) ∈ lw_all := lw_g (lw_at lw_m3 183 rfl) rfl
theorem q814 : (Jvm.Cond.code ({ cls := "CoarserOrders", name := "manyGone", desc := "()I" } : Jvm.MethodName) prog_1_method_15_code (1 : Nat) (Option.some Jvm.ClassFile.FieldType.int)) ∈ lw_all := lw_g (lw_at lw_m3 184 rfl) rfl
theorem q816 : (Jvm.Cond.instanceMethod ({ cls := "CoarserOrders", name := "restore", desc := "(I)I" } : Jvm.MethodName)) ∈ lw_all := lw_g (lw_at lw_m3 186 rfl) rfl
theorem q817 : (Jvm.Cond.selects "CoarserOrders" ({ cls := "CoarserOrders", name := "restore", desc := "(I)I" } : Jvm.MethodName) ({ cls := "CoarserOrders", name := "restore", desc := "(I)I" } : Jvm.MethodName)) ∈ lw_all := lw_g (lw_at lw_m3 187 rfl) rfl
theorem q818 : (Jvm.Cond.code ({ cls := "CoarserOrders", name := "restore", desc := "(I)I" } : Jvm.MethodName) prog_1_method_60_code (2 : Nat) (Option.some Jvm.ClassFile.FieldType.int)) ∈ lw_all := lw_g (lw_at lw_m3 188 rfl) rfl
theorem q820 : (Jvm.Cond.instanceMethod ({ cls := "CoarserOrders", name := "collapse", desc := "(II)I" } : Jvm.MethodName)) ∈ lw_all := lw_g (lw_at lw_m3 190 rfl) rfl
theorem q821 : (Jvm.Cond.selects "CoarserOrders" ({ cls := "CoarserOrders", name := "collapse", desc := "(II)I" } : Jvm.MethodName) ({ cls := "CoarserOrders", name := "collapse", desc := "(II)I" } : Jvm.MethodName)) ∈ lw_all := lw_g (lw_at lw_m3 191 rfl) rfl
theorem q822 : (Jvm.Cond.code ({ cls := "CoarserOrders", name := "collapse", desc := "(II)I" } : Jvm.MethodName) prog_1_method_62_code (3 : Nat) (Option.some Jvm.ClassFile.FieldType.int)) ∈ lw_all := lw_g (lw_at lw_m3 192 rfl) rfl
theorem q823 : (Jvm.Cond.methodLink "CoarserOrders" (383 : Nat) ({ cls := "CoarserOrders", name := "stepsUp", desc := "([B[B)I" } : Jvm.MethodName)) ∈ lw_all := lw_g (lw_at lw_m3 193 rfl) rfl
theorem q824 : (Jvm.Cond.privateMethod ({ cls := "CoarserOrders", name := "stepsUp", desc := "([B[B)I" } : Jvm.MethodName)) ∈ lw_tbl := lw_at lw_m3 194 rfl
theorem q825 : (Jvm.Cond.instanceMethod ({ cls := "CoarserOrders", name := "stepsUp", desc := "([B[B)I" } : Jvm.MethodName)) ∈ lw_all := lw_g (lw_at lw_m3 195 rfl) rfl
theorem q826 : (Jvm.Cond.code ({ cls := "CoarserOrders", name := "stepsUp", desc := "([B[B)I" } : Jvm.MethodName) prog_1_method_61_code (4 : Nat) (Option.some Jvm.ClassFile.FieldType.int)) ∈ lw_all := lw_g (lw_at lw_m3 196 rfl) rfl
theorem q827 : (Jvm.Cond.methodLink "CoarserOrders" (380 : Nat) ({ cls := "CoarserOrders", name := "swap", desc := "([BI)V" } : Jvm.MethodName)) ∈ lw_all := lw_g (lw_at lw_m3 197 rfl) rfl
theorem q828 : (Jvm.Cond.static ({ cls := "CoarserOrders", name := "swap", desc := "([BI)V" } : Jvm.MethodName)) ∈ lw_all := lw_g (lw_at lw_m3 198 rfl) rfl
theorem q829 : (Jvm.Cond.code ({ cls := "CoarserOrders", name := "swap", desc := "([BI)V" } : Jvm.MethodName) prog_1_method_22_code (2 : Nat) (Option.none : Option Jvm.ClassFile.FieldType)) ∈ lw_all := lw_g (lw_at lw_m3 199 rfl) rfl
theorem q831 : (Jvm.Cond.instanceMethod ({ cls := "CoarserOrders", name := "maker", desc := "(II)I" } : Jvm.MethodName)) ∈ lw_all := lw_g (lw_at lw_m3 201 rfl) rfl
theorem q832 : (Jvm.Cond.selects "CoarserOrders" ({ cls := "CoarserOrders", name := "maker", desc := "(II)I" } : Jvm.MethodName) ({ cls := "CoarserOrders", name := "maker", desc := "(II)I" } : Jvm.MethodName)) ∈ lw_all := lw_g (lw_at lw_m3 202 rfl) rfl
theorem q833 : (Jvm.Cond.code ({ cls := "CoarserOrders", name := "maker", desc := "(II)I" } : Jvm.MethodName) prog_1_method_65_code (4 : Nat) (Option.some Jvm.ClassFile.FieldType.int)) ∈ lw_all := lw_g (lw_at lw_m3 203 rfl) rfl
theorem q834 : (Jvm.Cond.methodLink "CoarserOrders" (389 : Nat) ({ cls := "CoarserOrders", name := "isKind", desc := "(I)Z" } : Jvm.MethodName)) ∈ lw_all := lw_g (lw_at lw_m3 204 rfl) rfl
theorem q835 : (Jvm.Cond.static ({ cls := "CoarserOrders", name := "isKind", desc := "(I)Z" } : Jvm.MethodName)) ∈ lw_all := lw_g (lw_at lw_m3 205 rfl) rfl
theorem q836 : (Jvm.Cond.code ({ cls := "CoarserOrders", name := "isKind", desc := "(I)Z" } : Jvm.MethodName) prog_1_method_64_code (1 : Nat) (Option.some Jvm.ClassFile.FieldType.boolean)) ∈ lw_all := lw_g (lw_at lw_m3 206 rfl) rfl
theorem q837 : (Jvm.Cond.methodLink "CoarserOrders" (398 : Nat) ({ cls := "CoarserOrders", name := "made", desc := "(III)LCoarserOrders$Plain;" } : Jvm.MethodName)) ∈ lw_all := lw_g (lw_at lw_m3 207 rfl) rfl
theorem q838 : (Jvm.Cond.static ({ cls := "CoarserOrders", name := "made", desc := "(III)LCoarserOrders$Plain;" } : Jvm.MethodName)) ∈ lw_all := lw_g (lw_at lw_m3 208 rfl) rfl
theorem q839 : (Jvm.Cond.code ({ cls := "CoarserOrders", name := "made", desc := "(III)LCoarserOrders$Plain;" } : Jvm.MethodName) prog_1_method_3_code (3 : Nat) (Option.some (Jvm.ClassFile.FieldType.object "CoarserOrders$Plain"))) ∈ lw_all := lw_g (lw_at lw_m3 209 rfl) rfl
theorem q840 : (Jvm.Cond.classLink "CoarserOrders" (13 : Nat) "CoarserOrders$Lefty") ∈ lw_all := lw_g (lw_at lw_m3 210 rfl) rfl
theorem q842 : (Jvm.Cond.methodLink "CoarserOrders" (15 : Nat) ({ cls := "CoarserOrders$Lefty", name := "<init>", desc := "(II)V" } : Jvm.MethodName)) ∈ lw_all := lw_g (lw_at lw_m3 212 rfl) rfl
theorem q856 : (Jvm.Cond.classLink "CoarserOrders" (19 : Nat) "CoarserOrders$Longer") ∈ lw_all := lw_g (lw_at lw_m3 226 rfl) rfl
theorem q858 : (Jvm.Cond.methodLink "CoarserOrders" (21 : Nat) ({ cls := "CoarserOrders$Longer", name := "<init>", desc := "(II)V" } : Jvm.MethodName)) ∈ lw_all := lw_g (lw_at lw_m3 228 rfl) rfl
theorem q865 : (Jvm.Cond.classLink "CoarserOrders" (22 : Nat) "CoarserOrders$Twosided") ∈ lw_all := lw_g (lw_at lw_m3 235 rfl) rfl
theorem q867 : (Jvm.Cond.methodLink "CoarserOrders" (24 : Nat) ({ cls := "CoarserOrders$Twosided", name := "<init>", desc := "(II)V" } : Jvm.MethodName)) ∈ lw_all := lw_g (lw_at lw_m3 237 rfl) rfl
theorem q874 : (Jvm.Cond.classLink "CoarserOrders" (25 : Nat) "CoarserOrders$Signed") ∈ lw_all := lw_g (lw_at lw_m4 4 rfl) rfl
theorem q876 : (Jvm.Cond.methodLink "CoarserOrders" (27 : Nat) ({ cls := "CoarserOrders$Signed", name := "<init>", desc := "(II)V" } : Jvm.MethodName)) ∈ lw_all := lw_g (lw_at lw_m4 6 rfl) rfl
theorem q883 : (Jvm.Cond.classLink "CoarserOrders" (28 : Nat) "CoarserOrders$Mixed") ∈ lw_all := lw_g (lw_at lw_m4 13 rfl) rfl
theorem q885 : (Jvm.Cond.methodLink "CoarserOrders" (30 : Nat) ({ cls := "CoarserOrders$Mixed", name := "<init>", desc := "(II)V" } : Jvm.MethodName)) ∈ lw_all := lw_g (lw_at lw_m4 15 rfl) rfl
theorem q893 : (Jvm.Cond.methodLink "CoarserOrders" (33 : Nat) ({ cls := "CoarserOrders$Plain", name := "<init>", desc := "(II)V" } : Jvm.MethodName)) ∈ lw_all := lw_g (lw_at lw_m4 23 rfl) rfl
theorem q898 : (Jvm.Cond.instanceMethod ({ cls := "CoarserOrders", name := "makerIs", desc := "(II)I" } : Jvm.MethodName)) ∈ lw_all := lw_g (lw_at lw_m4 28 rfl) rfl
theorem q899 : (Jvm.Cond.selects "CoarserOrders" ({ cls := "CoarserOrders", name := "makerIs", desc := "(II)I" } : Jvm.MethodName) ({ cls := "CoarserOrders", name := "makerIs", desc := "(II)I" } : Jvm.MethodName)) ∈ lw_all := lw_g (lw_at lw_m4 29 rfl) rfl
theorem q900 : (Jvm.Cond.code ({ cls := "CoarserOrders", name := "makerIs", desc := "(II)I" } : Jvm.MethodName) prog_1_method_68_code (3 : Nat) (Option.some Jvm.ClassFile.FieldType.int)) ∈ lw_all := lw_g (lw_at lw_m4 30 rfl) rfl
theorem q901 : (Jvm.Cond.methodLink "CoarserOrders" (406 : Nat) ({ cls := "CoarserOrders", name := "isMaker", desc := "(I)Z" } : Jvm.MethodName)) ∈ lw_all := lw_g (lw_at lw_m4 31 rfl) rfl
theorem q902 : (Jvm.Cond.privateMethod ({ cls := "CoarserOrders", name := "isMaker", desc := "(I)Z" } : Jvm.MethodName)) ∈ lw_tbl := lw_at lw_m4 32 rfl
theorem q903 : (Jvm.Cond.instanceMethod ({ cls := "CoarserOrders", name := "isMaker", desc := "(I)Z" } : Jvm.MethodName)) ∈ lw_all := lw_g (lw_at lw_m4 33 rfl) rfl
theorem q904 : (Jvm.Cond.code ({ cls := "CoarserOrders", name := "isMaker", desc := "(I)Z" } : Jvm.MethodName) prog_1_method_63_code (2 : Nat) (Option.some Jvm.ClassFile.FieldType.boolean)) ∈ lw_all := lw_g (lw_at lw_m4 34 rfl) rfl
theorem q905 : (Jvm.Cond.methodLink "CoarserOrders" (409 : Nat) ({ cls := "CoarserOrders$Plain", name := "kind", desc := "()I" } : Jvm.MethodName)) ∈ lw_all := lw_g (lw_at lw_m4 35 rfl) rfl
theorem q925 : (Jvm.Cond.methodLink "CoarserOrders" (411 : Nat) ({ cls := "CoarserOrders$Plain", name := "mark", desc := "()I" } : Jvm.MethodName)) ∈ lw_all := lw_g (lw_at lw_m4 55 rfl) rfl
theorem q935 : (Jvm.Cond.methodLink "CoarserOrders" (413 : Nat) ({ cls := "CoarserOrders", name := "takenBy", desc := "(LCoarserOrders$Plain;)J" } : Jvm.MethodName)) ∈ lw_all := lw_g (lw_at lw_m4 65 rfl) rfl
theorem q936 : (Jvm.Cond.privateMethod ({ cls := "CoarserOrders", name := "takenBy", desc := "(LCoarserOrders$Plain;)J" } : Jvm.MethodName)) ∈ lw_tbl := lw_at lw_m4 66 rfl
theorem q937 : (Jvm.Cond.instanceMethod ({ cls := "CoarserOrders", name := "takenBy", desc := "(LCoarserOrders$Plain;)J" } : Jvm.MethodName)) ∈ lw_all := lw_g (lw_at lw_m4 67 rfl) rfl
theorem q938 : (Jvm.Cond.code ({ cls := "CoarserOrders", name := "takenBy", desc := "(LCoarserOrders$Plain;)J" } : Jvm.MethodName) prog_1_method_66_code (5 : Nat) (Option.some Jvm.ClassFile.FieldType.long)) ∈ lw_all := lw_g (lw_at lw_m4 68 rfl) rfl
theorem q939 : (Jvm.Cond.methodLink "CoarserOrders" (402 : Nat) ({ cls := "CoarserOrders$Plain", name := "takes", desc := "(LCoarserOrders$Arc;)Z" } : Jvm.MethodName)) ∈ lw_all := lw_g (lw_at lw_m4 69 rfl) rfl
theorem q988 : (Jvm.Cond.instanceMethod ({ cls := "CoarserOrders", name := "make", desc := "(II)I" } : Jvm.MethodName)) ∈ lw_all := lw_g (lw_at lw_m4 118 rfl) rfl
theorem q989 : (Jvm.Cond.selects "CoarserOrders" ({ cls := "CoarserOrders", name := "make", desc := "(II)I" } : Jvm.MethodName) ({ cls := "CoarserOrders", name := "make", desc := "(II)I" } : Jvm.MethodName)) ∈ lw_all := lw_g (lw_at lw_m4 119 rfl) rfl
theorem q990 : (Jvm.Cond.code ({ cls := "CoarserOrders", name := "make", desc := "(II)I" } : Jvm.MethodName) prog_1_method_71_code (3 : Nat) (Option.some Jvm.ClassFile.FieldType.int)) ∈ lw_all := lw_g (lw_at lw_m4 120 rfl) rfl
theorem q991 : (Jvm.Cond.methodLink "CoarserOrders" (420 : Nat) ({ cls := "CoarserOrders", name := "isHow", desc := "(I)Z" } : Jvm.MethodName)) ∈ lw_all := lw_g (lw_at lw_m4 121 rfl) rfl
theorem q992 : (Jvm.Cond.static ({ cls := "CoarserOrders", name := "isHow", desc := "(I)Z" } : Jvm.MethodName)) ∈ lw_all := lw_g (lw_at lw_m4 122 rfl) rfl
theorem q993 : (Jvm.Cond.code ({ cls := "CoarserOrders", name := "isHow", desc := "(I)Z" } : Jvm.MethodName) prog_1_method_70_code (1 : Nat) (Option.some Jvm.ClassFile.FieldType.boolean)) ∈ lw_all := lw_g (lw_at lw_m4 123 rfl) rfl
theorem q994 : (Jvm.Cond.methodLink "CoarserOrders" (423 : Nat) ({ cls := "CoarserOrders", name := "comes", desc := "(JI)I" } : Jvm.MethodName)) ∈ lw_all := lw_g (lw_at lw_m4 124 rfl) rfl
theorem q995 : (Jvm.Cond.privateMethod ({ cls := "CoarserOrders", name := "comes", desc := "(JI)I" } : Jvm.MethodName)) ∈ lw_tbl := lw_at lw_m4 125 rfl
theorem q996 : (Jvm.Cond.instanceMethod ({ cls := "CoarserOrders", name := "comes", desc := "(JI)I" } : Jvm.MethodName)) ∈ lw_all := lw_g (lw_at lw_m4 126 rfl) rfl
theorem q997 : (Jvm.Cond.code ({ cls := "CoarserOrders", name := "comes", desc := "(JI)I" } : Jvm.MethodName) prog_1_method_69_code (6 : Nat) (Option.some Jvm.ClassFile.FieldType.int)) ∈ lw_all := lw_g (lw_at lw_m4 127 rfl) rfl
theorem q998 : (Jvm.Cond.methodLink "CoarserOrders" (417 : Nat) ({ cls := "CoarserOrders", name := "forcedBy", desc := "(J)J" } : Jvm.MethodName)) ∈ lw_all := lw_g (lw_at lw_m4 128 rfl) rfl
theorem q999 : (Jvm.Cond.privateMethod ({ cls := "CoarserOrders", name := "forcedBy", desc := "(J)J" } : Jvm.MethodName)) ∈ lw_tbl := lw_at lw_m4 129 rfl
theorem q1000 : (Jvm.Cond.instanceMethod ({ cls := "CoarserOrders", name := "forcedBy", desc := "(J)J" } : Jvm.MethodName)) ∈ lw_all := lw_g (lw_at lw_m4 130 rfl) rfl
theorem q1001 : (Jvm.Cond.code ({ cls := "CoarserOrders", name := "forcedBy", desc := "(J)J" } : Jvm.MethodName) prog_1_method_67_code (7 : Nat) (Option.some Jvm.ClassFile.FieldType.long)) ∈ lw_all := lw_g (lw_at lw_m4 131 rfl) rfl
theorem q1003 : (Jvm.Cond.instanceMethod ({ cls := "CoarserOrders", name := "clear", desc := "()I" } : Jvm.MethodName)) ∈ lw_all := lw_g (lw_at lw_m4 133 rfl) rfl
theorem q1004 : (Jvm.Cond.selects "CoarserOrders" ({ cls := "CoarserOrders", name := "clear", desc := "()I" } : Jvm.MethodName) ({ cls := "CoarserOrders", name := "clear", desc := "()I" } : Jvm.MethodName)) ∈ lw_all := lw_g (lw_at lw_m4 134 rfl) rfl
theorem q1005 : (Jvm.Cond.code ({ cls := "CoarserOrders", name := "clear", desc := "()I" } : Jvm.MethodName) prog_1_method_72_code (2 : Nat) (Option.some Jvm.ClassFile.FieldType.int)) ∈ lw_all := lw_g (lw_at lw_m4 135 rfl) rfl
theorem q1007 : (Jvm.Cond.instanceMethod ({ cls := "CoarserOrders", name := "feed", desc := "(JI)I" } : Jvm.MethodName)) ∈ lw_all := lw_g (lw_at lw_m4 137 rfl) rfl
theorem q1008 : (Jvm.Cond.selects "CoarserOrders" ({ cls := "CoarserOrders", name := "feed", desc := "(JI)I" } : Jvm.MethodName) ({ cls := "CoarserOrders", name := "feed", desc := "(JI)I" } : Jvm.MethodName)) ∈ lw_all := lw_g (lw_at lw_m4 138 rfl) rfl
theorem q1009 : (Jvm.Cond.code ({ cls := "CoarserOrders", name := "feed", desc := "(JI)I" } : Jvm.MethodName) prog_1_method_73_code (5 : Nat) (Option.some Jvm.ClassFile.FieldType.int)) ∈ lw_all := lw_g (lw_at lw_m4 139 rfl) rfl
theorem q1011 : (Jvm.Cond.instanceMethod ({ cls := "CoarserOrders", name := "text", desc := "(I)I" } : Jvm.MethodName)) ∈ lw_all := lw_g (lw_at lw_m4 141 rfl) rfl
theorem q1012 : (Jvm.Cond.selects "CoarserOrders" ({ cls := "CoarserOrders", name := "text", desc := "(I)I" } : Jvm.MethodName) ({ cls := "CoarserOrders", name := "text", desc := "(I)I" } : Jvm.MethodName)) ∈ lw_all := lw_g (lw_at lw_m4 142 rfl) rfl
theorem q1013 : (Jvm.Cond.codeWith ({ cls := "CoarserOrders", name := "text", desc := "(I)I" } : Jvm.MethodName) prog_1_method_89_code (7 : Nat) (Option.some Jvm.ClassFile.FieldType.int) [((9 : Nat), (69 : Nat), (77 : Nat), (121 : Nat)), ((9 : Nat), (69 : Nat), (93 : Nat), (0 : Nat)), ((77 : Nat), (86 : Nat), (93 : Nat), (0 : Nat)), ((93 : Nat), (95 : Nat), (93 : Nat), (0 : Nat))]) ∈ lw_all := lw_g (lw_at lw_m4 143 rfl) rfl
theorem q1014 : (Jvm.Cond.methodLink "CoarserOrders" (532 : Nat) ({ cls := "CoarserOrders", name := "wholeText", desc := "()LCoarserOrders$Cond;" } : Jvm.MethodName)) ∈ lw_all := lw_g (lw_at lw_m4 144 rfl) rfl
theorem q1015 : (Jvm.Cond.privateMethod ({ cls := "CoarserOrders", name := "wholeText", desc := "()LCoarserOrders$Cond;" } : Jvm.MethodName)) ∈ lw_tbl := lw_at lw_m4 145 rfl
theorem q1016 : (Jvm.Cond.instanceMethod ({ cls := "CoarserOrders", name := "wholeText", desc := "()LCoarserOrders$Cond;" } : Jvm.MethodName)) ∈ lw_all := lw_g (lw_at lw_m4 146 rfl) rfl
theorem q1017 : (Jvm.Cond.code ({ cls := "CoarserOrders", name := "wholeText", desc := "()LCoarserOrders$Cond;" } : Jvm.MethodName) prog_1_method_87_code (2 : Nat) (Option.some (Jvm.ClassFile.FieldType.object "CoarserOrders$Cond"))) ∈ lw_all := lw_g (lw_at lw_m4 147 rfl) rfl
theorem q1018 : (Jvm.Cond.methodLink "CoarserOrders" (454 : Nat) ({ cls := "CoarserOrders", name := "next", desc := "()V" } : Jvm.MethodName)) ∈ lw_all := lw_g (lw_at lw_m4 148 rfl) rfl
theorem q1019 : (Jvm.Cond.privateMethod ({ cls := "CoarserOrders", name := "next", desc := "()V" } : Jvm.MethodName)) ∈ lw_tbl := lw_at lw_m4 149 rfl
theorem q1020 : (Jvm.Cond.instanceMethod ({ cls := "CoarserOrders", name := "next", desc := "()V" } : Jvm.MethodName)) ∈ lw_all := lw_g (lw_at lw_m4 150 rfl) rfl
theorem q1021 : (Jvm.Cond.code ({ cls := "CoarserOrders", name := "next", desc := "()V" } : Jvm.MethodName) prog_1_method_76_code (4 : Nat) (Option.none : Option Jvm.ClassFile.FieldType)) ∈ lw_all := lw_g (lw_at lw_m4 151 rfl) rfl
theorem q1022 : (Jvm.Cond.methodLink "CoarserOrders" (436 : Nat) ({ cls := "CoarserOrders", name := "isLetter", desc := "(I)Z" } : Jvm.MethodName)) ∈ lw_all := lw_g (lw_at lw_m4 152 rfl) rfl
theorem q1023 : (Jvm.Cond.static ({ cls := "CoarserOrders", name := "isLetter", desc := "(I)Z" } : Jvm.MethodName)) ∈ lw_all := lw_g (lw_at lw_m4 153 rfl) rfl
theorem q1024 : (Jvm.Cond.code ({ cls := "CoarserOrders", name := "isLetter", desc := "(I)Z" } : Jvm.MethodName) prog_1_method_75_code (1 : Nat) (Option.some Jvm.ClassFile.FieldType.boolean)) ∈ lw_all := lw_g (lw_at lw_m4 154 rfl) rfl
theorem q1025 : (Jvm.Cond.methodLink "CoarserOrders" (439 : Nat) ({ cls := "CoarserOrders", name := "isDigit", desc := "(I)Z" } : Jvm.MethodName)) ∈ lw_all := lw_g (lw_at lw_m4 155 rfl) rfl
theorem q1026 : (Jvm.Cond.static ({ cls := "CoarserOrders", name := "isDigit", desc := "(I)Z" } : Jvm.MethodName)) ∈ lw_all := lw_g (lw_at lw_m4 156 rfl) rfl
theorem q1027 : (Jvm.Cond.code ({ cls := "CoarserOrders", name := "isDigit", desc := "(I)Z" } : Jvm.MethodName) prog_1_method_74_code (1 : Nat) (Option.some Jvm.ClassFile.FieldType.boolean)) ∈ lw_all := lw_g (lw_at lw_m4 157 rfl) rfl
theorem q1028 : (Jvm.Cond.methodLink "CoarserOrders" (487 : Nat) ({ cls := "CoarserOrders", name := "cond", desc := "(I)LCoarserOrders$Cond;" } : Jvm.MethodName)) ∈ lw_all := lw_g (lw_at lw_m4 158 rfl) rfl
theorem q1029 : (Jvm.Cond.privateMethod ({ cls := "CoarserOrders", name := "cond", desc := "(I)LCoarserOrders$Cond;" } : Jvm.MethodName)) ∈ lw_tbl := lw_at lw_m4 159 rfl
theorem q1030 : (Jvm.Cond.instanceMethod ({ cls := "CoarserOrders", name := "cond", desc := "(I)LCoarserOrders$Cond;" } : Jvm.MethodName)) ∈ lw_all := lw_g (lw_at lw_m4 160 rfl) rfl
theorem q1031 : (Jvm.Cond.code ({ cls := "CoarserOrders", name := "cond", desc := "(I)LCoarserOrders$Cond;" } : Jvm.MethodName) prog_1_method_86_code (3 : Nat) (Option.some (Jvm.ClassFile.FieldType.object "CoarserOrders$Cond"))) ∈ lw_all := lw_g (lw_at lw_m4 161 rfl) rfl
theorem q1032 : (Jvm.Cond.methodLink "CoarserOrders" (512 : Nat) ({ cls := "CoarserOrders", name := "all", desc := "(I)LCoarserOrders$Cond;" } : Jvm.MethodName)) ∈ lw_all := lw_g (lw_at lw_m4 162 rfl) rfl
theorem q1033 : (Jvm.Cond.privateMethod ({ cls := "CoarserOrders", name := "all", desc := "(I)LCoarserOrders$Cond;" } : Jvm.MethodName)) ∈ lw_tbl := lw_at lw_m4 163 rfl
theorem q1034 : (Jvm.Cond.instanceMethod ({ cls := "CoarserOrders", name := "all", desc := "(I)LCoarserOrders$Cond;" } : Jvm.MethodName)) ∈ lw_all := lw_g (lw_at lw_m4 164 rfl) rfl
theorem q1035 : (Jvm.Cond.code ({ cls := "CoarserOrders", name := "all", desc := "(I)LCoarserOrders$Cond;" } : Jvm.MethodName) prog_1_method_85_code (3 : Nat) (Option.some (Jvm.ClassFile.FieldType.object "CoarserOrders$Cond"))) ∈ lw_all := lw_g (lw_at lw_m4 165 rfl) rfl
theorem q1036 : (Jvm.Cond.methodLink "CoarserOrders" (478 : Nat) ({ cls := "CoarserOrders", name := "oneOf", desc := "(I)LCoarserOrders$Cond;" } : Jvm.MethodName)) ∈ lw_all := lw_g (lw_at lw_m4 166 rfl) rfl
theorem q1037 : (Jvm.Cond.privateMethod ({ cls := "CoarserOrders", name := "oneOf", desc := "(I)LCoarserOrders$Cond;" } : Jvm.MethodName)) ∈ lw_tbl := lw_at lw_m4 167 rfl
theorem q1038 : (Jvm.Cond.instanceMethod ({ cls := "CoarserOrders", name := "oneOf", desc := "(I)LCoarserOrders$Cond;" } : Jvm.MethodName)) ∈ lw_all := lw_g (lw_at lw_m4 168 rfl) rfl
theorem q1039 : (Jvm.Cond.code ({ cls := "CoarserOrders", name := "oneOf", desc := "(I)LCoarserOrders$Cond;" } : Jvm.MethodName) prog_1_method_84_code (4 : Nat) (Option.some (Jvm.ClassFile.FieldType.object "CoarserOrders$Cond"))) ∈ lw_all := lw_g (lw_at lw_m4 169 rfl) rfl
theorem q1040 : (Jvm.Cond.stringRef "CoarserOrders" (474 : Nat) "not") ∈ lw_tbl := lw_at lw_m4 170 rfl
theorem q1041 : (Jvm.Cond.methodLink "CoarserOrders" (457 : Nat) ({ cls := "CoarserOrders", name := "goesOn", desc := "(Ljava/lang/String;)Z" } : Jvm.MethodName)) ∈ lw_all := lw_g (lw_at lw_m4 171 rfl) rfl
theorem q1042 : (Jvm.Cond.privateMethod ({ cls := "CoarserOrders", name := "goesOn", desc := "(Ljava/lang/String;)Z" } : Jvm.MethodName)) ∈ lw_tbl := lw_at lw_m4 172 rfl
theorem q1043 : (Jvm.Cond.instanceMethod ({ cls := "CoarserOrders", name := "goesOn", desc := "(Ljava/lang/String;)Z" } : Jvm.MethodName)) ∈ lw_all := lw_g (lw_at lw_m4 173 rfl) rfl
theorem q1044 : (Jvm.Cond.code ({ cls := "CoarserOrders", name := "goesOn", desc := "(Ljava/lang/String;)Z" } : Jvm.MethodName) prog_1_method_79_code (2 : Nat) (Option.some Jvm.ClassFile.FieldType.boolean)) ∈ lw_all := lw_g (lw_at lw_m4 174 rfl) rfl
theorem q1045 : (Jvm.Cond.methodLink "CoarserOrders" (450 : Nat) ({ cls := "CoarserOrders", name := "isName", desc := "(Ljava/lang/String;)Z" } : Jvm.MethodName)) ∈ lw_all := lw_g (lw_at lw_m4 175 rfl) rfl
theorem q1046 : (Jvm.Cond.privateMethod ({ cls := "CoarserOrders", name := "isName", desc := "(Ljava/lang/String;)Z" } : Jvm.MethodName)) ∈ lw_tbl := lw_at lw_m4 176 rfl
theorem q1047 : (Jvm.Cond.instanceMethod ({ cls := "CoarserOrders", name := "isName", desc := "(Ljava/lang/String;)Z" } : Jvm.MethodName)) ∈ lw_all := lw_g (lw_at lw_m4 177 rfl) rfl
theorem q1048 : (Jvm.Cond.code ({ cls := "CoarserOrders", name := "isName", desc := "(Ljava/lang/String;)Z" } : Jvm.MethodName) prog_1_method_78_code (3 : Nat) (Option.some Jvm.ClassFile.FieldType.boolean)) ∈ lw_all := lw_g (lw_at lw_m4 178 rfl) rfl
theorem q1049 : (Jvm.Cond.methodLink "CoarserOrders" (443 : Nat) ({ cls := "java/lang/String", name := "length", desc := "()I" } : Jvm.MethodName)) ∈ lw_all := lw_g (lw_at lw_m4 179 rfl) rfl
theorem q1059 : (Jvm.Cond.methodLink "CoarserOrders" (446 : Nat) ({ cls := "java/lang/String", name := "charAt", desc := "(I)C" } : Jvm.MethodName)) ∈ lw_all := lw_g (lw_at lw_m4 189 rfl) rfl
theorem q1097 : (Jvm.Cond.classLink "CoarserOrders" (476 : Nat) "CoarserOrders$Not") ∈ lw_all := lw_g (lw_at lw_m4 227 rfl) rfl
theorem q1099 : (Jvm.Cond.methodLink "CoarserOrders" (482 : Nat) ({ cls := "CoarserOrders$Not", name := "<init>", desc := "(LCoarserOrders$Cond;)V" } : Jvm.MethodName)) ∈ lw_all := lw_g (lw_at lw_m4 229 rfl) rfl
theorem q1110 : (Jvm.Cond.stringRef "CoarserOrders" (485 : Nat) "(") ∈ lw_tbl := lw_at lw_m5 0 rfl
theorem q1111 : (Jvm.Cond.stringRef "CoarserOrders" (490 : Nat) ")") ∈ lw_tbl := lw_at lw_m5 1 rfl
theorem q1112 : (Jvm.Cond.methodLink "CoarserOrders" (492 : Nat) ({ cls := "CoarserOrders", name := "want", desc := "(Ljava/lang/String;)V" } : Jvm.MethodName)) ∈ lw_all := lw_g (lw_at lw_m5 2 rfl) rfl
theorem q1113 : (Jvm.Cond.privateMethod ({ cls := "CoarserOrders", name := "want", desc := "(Ljava/lang/String;)V" } : Jvm.MethodName)) ∈ lw_tbl := lw_at lw_m5 3 rfl
theorem q1114 : (Jvm.Cond.instanceMethod ({ cls := "CoarserOrders", name := "want", desc := "(Ljava/lang/String;)V" } : Jvm.MethodName)) ∈ lw_all := lw_g (lw_at lw_m5 4 rfl) rfl
theorem q1115 : (Jvm.Cond.code ({ cls := "CoarserOrders", name := "want", desc := "(Ljava/lang/String;)V" } : Jvm.MethodName) prog_1_method_80_code (2 : Nat) (Option.none : Option Jvm.ClassFile.FieldType)) ∈ lw_all := lw_g (lw_at lw_m5 5 rfl) rfl
theorem q1116 : (Jvm.Cond.methodLink "CoarserOrders" (460 : Nat) ({ cls := "CoarserOrders", name := "faultHere", desc := "()LCoarserOrders$Refusal;" } : Jvm.MethodName)) ∈ lw_all := lw_g (lw_at lw_m5 6 rfl) rfl
theorem q1117 : (Jvm.Cond.privateMethod ({ cls := "CoarserOrders", name := "faultHere", desc := "()LCoarserOrders$Refusal;" } : Jvm.MethodName)) ∈ lw_tbl := lw_at lw_m5 7 rfl
theorem q1118 : (Jvm.Cond.instanceMethod ({ cls := "CoarserOrders", name := "faultHere", desc := "()LCoarserOrders$Refusal;" } : Jvm.MethodName)) ∈ lw_all := lw_g (lw_at lw_m5 8 rfl) rfl
theorem q1119 : (Jvm.Cond.code ({ cls := "CoarserOrders", name := "faultHere", desc := "()LCoarserOrders$Refusal;" } : Jvm.MethodName) prog_1_method_77_code (1 : Nat) (Option.some (Jvm.ClassFile.FieldType.object "CoarserOrders$Refusal"))) ∈ lw_all := lw_g (lw_at lw_m5 9 rfl) rfl
theorem q1120 : (Jvm.Cond.methodLink "CoarserOrders" (442 : Nat) ({ cls := "CoarserOrders$Fault", name := "of", desc := "(I)LCoarserOrders$Refusal;" } : Jvm.MethodName)) ∈ lw_all := lw_g (lw_at lw_m5 10 rfl) rfl
theorem q1126 : (Jvm.Cond.methodLink "CoarserOrders" (496 : Nat) ({ cls := "CoarserOrders", name := "value", desc := "()LCoarserOrders$Value;" } : Jvm.MethodName)) ∈ lw_all := lw_g (lw_at lw_m5 16 rfl) rfl
theorem q1127 : (Jvm.Cond.privateMethod ({ cls := "CoarserOrders", name := "value", desc := "()LCoarserOrders$Value;" } : Jvm.MethodName)) ∈ lw_tbl := lw_at lw_m5 17 rfl
theorem q1128 : (Jvm.Cond.instanceMethod ({ cls := "CoarserOrders", name := "value", desc := "()LCoarserOrders$Value;" } : Jvm.MethodName)) ∈ lw_all := lw_g (lw_at lw_m5 18 rfl) rfl
theorem q1129 : (Jvm.Cond.code ({ cls := "CoarserOrders", name := "value", desc := "()LCoarserOrders$Value;" } : Jvm.MethodName) prog_1_method_83_code (2 : Nat) (Option.some (Jvm.ClassFile.FieldType.object "CoarserOrders$Value"))) ∈ lw_all := lw_g (lw_at lw_m5 19 rfl) rfl
theorem q1130 : (Jvm.Cond.methodLink "CoarserOrders" (464 : Nat) ({ cls := "CoarserOrders", name := "nameOf", desc := "([Ljava/lang/String;)I" } : Jvm.MethodName)) ∈ lw_all := lw_g (lw_at lw_m5 20 rfl) rfl
theorem q1131 : (Jvm.Cond.privateMethod ({ cls := "CoarserOrders", name := "nameOf", desc := "([Ljava/lang/String;)I" } : Jvm.MethodName)) ∈ lw_tbl := lw_at lw_m5 21 rfl
theorem q1132 : (Jvm.Cond.instanceMethod ({ cls := "CoarserOrders", name := "nameOf", desc := "([Ljava/lang/String;)I" } : Jvm.MethodName)) ∈ lw_all := lw_g (lw_at lw_m5 22 rfl) rfl
theorem q1133 : (Jvm.Cond.code ({ cls := "CoarserOrders", name := "nameOf", desc := "([Ljava/lang/String;)I" } : Jvm.MethodName) prog_1_method_82_code (3 : Nat) (Option.some Jvm.ClassFile.FieldType.int)) ∈ lw_all := lw_g (lw_at lw_m5 23 rfl) rfl
theorem q1134 : (Jvm.Cond.classLink "CoarserOrders" (468 : Nat) "CoarserOrders$Value") ∈ lw_all := lw_g (lw_at lw_m5 24 rfl) rfl
theorem q1136 : (Jvm.Cond.methodLink "CoarserOrders" (470 : Nat) ({ cls := "CoarserOrders$Value", name := "<init>", desc := "(II)V" } : Jvm.MethodName)) ∈ lw_all := lw_g (lw_at lw_m5 26 rfl) rfl
theorem q1147 : (Jvm.Cond.methodLink "CoarserOrders" (471 : Nat) ({ cls := "CoarserOrders", name := "figure", desc := "()I" } : Jvm.MethodName)) ∈ lw_all := lw_g (lw_at lw_m5 37 rfl) rfl
theorem q1148 : (Jvm.Cond.privateMethod ({ cls := "CoarserOrders", name := "figure", desc := "()I" } : Jvm.MethodName)) ∈ lw_tbl := lw_at lw_m5 38 rfl
theorem q1149 : (Jvm.Cond.instanceMethod ({ cls := "CoarserOrders", name := "figure", desc := "()I" } : Jvm.MethodName)) ∈ lw_all := lw_g (lw_at lw_m5 39 rfl) rfl
theorem q1150 : (Jvm.Cond.code ({ cls := "CoarserOrders", name := "figure", desc := "()I" } : Jvm.MethodName) prog_1_method_81_code (4 : Nat) (Option.some Jvm.ClassFile.FieldType.int)) ∈ lw_all := lw_g (lw_at lw_m5 40 rfl) rfl
theorem q1151 : (Jvm.Cond.classLink "CoarserOrders" (500 : Nat) "CoarserOrders$Asks") ∈ lw_all := lw_g (lw_at lw_m5 41 rfl) rfl
theorem q1153 : (Jvm.Cond.methodLink "CoarserOrders" (502 : Nat) ({ cls := "CoarserOrders$Asks", name := "<init>", desc := "(LCoarserOrders$Value;ILCoarserOrders$Value;)V" } : Jvm.MethodName)) ∈ lw_all := lw_g (lw_at lw_m5 43 rfl) rfl
theorem q1167 : (Jvm.Cond.stringRef "CoarserOrders" (505 : Nat) "and") ∈ lw_tbl := lw_at lw_m5 57 rfl
theorem q1168 : (Jvm.Cond.classLink "CoarserOrders" (507 : Nat) "CoarserOrders$All") ∈ lw_all := lw_g (lw_at lw_m5 58 rfl) rfl
theorem q1170 : (Jvm.Cond.methodLink "CoarserOrders" (509 : Nat) ({ cls := "CoarserOrders$All", name := "<init>", desc := "(LCoarserOrders$Cond;LCoarserOrders$Cond;)V" } : Jvm.MethodName)) ∈ lw_all := lw_g (lw_at lw_m5 60 rfl) rfl
theorem q1185 : (Jvm.Cond.stringRef "CoarserOrders" (515 : Nat) "or") ∈ lw_tbl := lw_at lw_m5 75 rfl
theorem q1186 : (Jvm.Cond.classLink "CoarserOrders" (517 : Nat) "CoarserOrders$Some") ∈ lw_all := lw_g (lw_at lw_m5 76 rfl) rfl
theorem q1188 : (Jvm.Cond.methodLink "CoarserOrders" (519 : Nat) ({ cls := "CoarserOrders$Some", name := "<init>", desc := "(LCoarserOrders$Cond;LCoarserOrders$Cond;)V" } : Jvm.MethodName)) ∈ lw_all := lw_g (lw_at lw_m5 78 rfl) rfl
theorem q1195 : (Jvm.Cond.methodLink "CoarserOrders" (536 : Nat) ({ cls := "CoarserOrders", name := "holdsFor", desc := "(LCoarserOrders$Cond;LCoarserOrders$Arc;)Z" } : Jvm.MethodName)) ∈ lw_all := lw_g (lw_at lw_m5 85 rfl) rfl
theorem q1196 : (Jvm.Cond.privateMethod ({ cls := "CoarserOrders", name := "holdsFor", desc := "(LCoarserOrders$Cond;LCoarserOrders$Arc;)Z" } : Jvm.MethodName)) ∈ lw_tbl := lw_at lw_m5 86 rfl
theorem q1197 : (Jvm.Cond.instanceMethod ({ cls := "CoarserOrders", name := "holdsFor", desc := "(LCoarserOrders$Cond;LCoarserOrders$Arc;)Z" } : Jvm.MethodName)) ∈ lw_all := lw_g (lw_at lw_m5 87 rfl) rfl
theorem q1198 : (Jvm.Cond.code ({ cls := "CoarserOrders", name := "holdsFor", desc := "(LCoarserOrders$Cond;LCoarserOrders$Arc;)Z" } : Jvm.MethodName) prog_1_method_88_code (3 : Nat) (Option.some Jvm.ClassFile.FieldType.boolean)) ∈ lw_all := lw_g (lw_at lw_m5 88 rfl) rfl
theorem q1199 : (Jvm.Cond.methodLink "CoarserOrders" (520 : Nat) ({ cls := "CoarserOrders$Arc", name := "lefts", desc := "()I" } : Jvm.MethodName)) ∈ lw_all := lw_g (lw_at lw_m5 89 rfl) rfl
theorem q1200 : (Jvm.Cond.methodLink "CoarserOrders" (523 : Nat) ({ cls := "CoarserOrders$Arc", name := "rights", desc := "()I" } : Jvm.MethodName)) ∈ lw_all := lw_g (lw_at lw_m5 90 rfl) rfl
theorem q1201 : (Jvm.Cond.methodLink "CoarserOrders" (526 : Nat) ({ cls := "CoarserOrders$Cond", name := "holds", desc := "([I)Z" } : Jvm.MethodName)) ∈ lw_all := lw_g (lw_at lw_m5 91 rfl) rfl
theorem q1224 : (Jvm.Cond.instanceMethod ({ cls := "CoarserOrders", name := "alike", desc := "(II)I" } : Jvm.MethodName)) ∈ lw_all := lw_g (lw_at lw_m5 114 rfl) rfl
theorem q1225 : (Jvm.Cond.selects "CoarserOrders" ({ cls := "CoarserOrders", name := "alike", desc := "(II)I" } : Jvm.MethodName) ({ cls := "CoarserOrders", name := "alike", desc := "(II)I" } : Jvm.MethodName)) ∈ lw_all := lw_g (lw_at lw_m5 115 rfl) rfl
theorem q1226 : (Jvm.Cond.code ({ cls := "CoarserOrders", name := "alike", desc := "(II)I" } : Jvm.MethodName) prog_1_method_94_code (3 : Nat) (Option.some Jvm.ClassFile.FieldType.int)) ∈ lw_all := lw_g (lw_at lw_m5 116 rfl) rfl
theorem q1227 : (Jvm.Cond.methodLink "CoarserOrders" (555 : Nat) ({ cls := "CoarserOrders", name := "toldEnd", desc := "(Z)I" } : Jvm.MethodName)) ∈ lw_all := lw_g (lw_at lw_m5 117 rfl) rfl
theorem q1228 : (Jvm.Cond.privateMethod ({ cls := "CoarserOrders", name := "toldEnd", desc := "(Z)I" } : Jvm.MethodName)) ∈ lw_tbl := lw_at lw_m5 118 rfl
theorem q1229 : (Jvm.Cond.instanceMethod ({ cls := "CoarserOrders", name := "toldEnd", desc := "(Z)I" } : Jvm.MethodName)) ∈ lw_all := lw_g (lw_at lw_m5 119 rfl) rfl
theorem q1230 : (Jvm.Cond.code ({ cls := "CoarserOrders", name := "toldEnd", desc := "(Z)I" } : Jvm.MethodName) prog_1_method_92_code (2 : Nat) (Option.some Jvm.ClassFile.FieldType.int)) ∈ lw_all := lw_g (lw_at lw_m5 120 rfl) rfl
theorem q1231 : (Jvm.Cond.methodLink "CoarserOrders" (543 : Nat) ({ cls := "CoarserOrders", name := "goes", desc := "([BZ)V" } : Jvm.MethodName)) ∈ lw_all := lw_g (lw_at lw_m5 121 rfl) rfl
theorem q1232 : (Jvm.Cond.privateMethod ({ cls := "CoarserOrders", name := "goes", desc := "([BZ)V" } : Jvm.MethodName)) ∈ lw_tbl := lw_at lw_m5 122 rfl
theorem q1233 : (Jvm.Cond.instanceMethod ({ cls := "CoarserOrders", name := "goes", desc := "([BZ)V" } : Jvm.MethodName)) ∈ lw_all := lw_g (lw_at lw_m5 123 rfl) rfl
theorem q1234 : (Jvm.Cond.code ({ cls := "CoarserOrders", name := "goes", desc := "([BZ)V" } : Jvm.MethodName) prog_1_method_90_code (4 : Nat) (Option.none : Option Jvm.ClassFile.FieldType)) ∈ lw_all := lw_g (lw_at lw_m5 124 rfl) rfl
theorem q1235 : (Jvm.Cond.methodLink "CoarserOrders" (559 : Nat) ({ cls := "CoarserOrders", name := "manyAlike", desc := "()I" } : Jvm.MethodName)) ∈ lw_all := lw_g (lw_at lw_m5 125 rfl) rfl
theorem q1236 : (Jvm.Cond.privateMethod ({ cls := "CoarserOrders", name := "manyAlike", desc := "()I" } : Jvm.MethodName)) ∈ lw_tbl := lw_at lw_m5 126 rfl
theorem q1237 : (Jvm.Cond.instanceMethod ({ cls := "CoarserOrders", name := "manyAlike", desc := "()I" } : Jvm.MethodName)) ∈ lw_all := lw_g (lw_at lw_m5 127 rfl) rfl
theorem q1238 : (Jvm.Cond.code ({ cls := "CoarserOrders", name := "manyAlike", desc := "()I" } : Jvm.MethodName) prog_1_method_93_code (5 : Nat) (Option.some Jvm.ClassFile.FieldType.int)) ∈ lw_all := lw_g (lw_at lw_m5 128 rfl) rfl
theorem q1239 : (Jvm.Cond.classLink "CoarserOrders" (547 : Nat) "CoarserOrders$1Between") ∈ lw_all := lw_g (lw_at lw_m5 129 rfl) rfl
theorem q1241 : (Jvm.Cond.methodLink "CoarserOrders" (549 : Nat) ({ cls := "CoarserOrders$1Between", name := "<init>", desc := "(LCoarserOrders;JJ)V" } : Jvm.MethodName)) ∈ lw_all := lw_g (lw_at lw_m5 131 rfl) rfl
theorem q1261 : (Jvm.Cond.methodLink "CoarserOrders" (552 : Nat) ({ cls := "CoarserOrders$1Between", name := "ofAll", desc := "()I" } : Jvm.MethodName)) ∈ lw_all := lw_g (lw_at lw_m5 151 rfl) rfl
theorem q1316 : (Jvm.Cond.privateMethod ({ cls := "CoarserOrders", name := "goesNext", desc := "([B)V" } : Jvm.MethodName)) ∈ lw_tbl := lw_at lw_m5 206 rfl
theorem q1317 : (Jvm.Cond.instanceMethod ({ cls := "CoarserOrders", name := "goesNext", desc := "([B)V" } : Jvm.MethodName)) ∈ lw_all := lw_g (lw_at lw_m5 207 rfl) rfl
theorem q1318 : (Jvm.Cond.code ({ cls := "CoarserOrders", name := "goesNext", desc := "([B)V" } : Jvm.MethodName) prog_1_method_25_code (4 : Nat) (Option.none : Option Jvm.ClassFile.FieldType)) ∈ lw_all := lw_g (lw_at lw_m5 208 rfl) rfl
theorem q1327 : (Jvm.Cond.privateMethod ({ cls := "CoarserOrders", name := "isLeast", desc := "([B)Z" } : Jvm.MethodName)) ∈ lw_tbl := lw_at lw_m5 217 rfl
theorem q1328 : (Jvm.Cond.instanceMethod ({ cls := "CoarserOrders", name := "isLeast", desc := "([B)Z" } : Jvm.MethodName)) ∈ lw_all := lw_g (lw_at lw_m5 218 rfl) rfl
theorem q1329 : (Jvm.Cond.code ({ cls := "CoarserOrders", name := "isLeast", desc := "([B)Z" } : Jvm.MethodName) prog_1_method_91_code (2 : Nat) (Option.some Jvm.ClassFile.FieldType.boolean)) ∈ lw_all := lw_g (lw_at lw_m5 219 rfl) rfl
theorem q1342 : (Jvm.Cond.instanceMethod ({ cls := "CoarserOrders", name := "classAt", desc := "(I)I" } : Jvm.MethodName)) ∈ lw_all := lw_g (lw_at lw_m5 232 rfl) rfl
theorem q1343 : (Jvm.Cond.selects "CoarserOrders" ({ cls := "CoarserOrders", name := "classAt", desc := "(I)I" } : Jvm.MethodName) ({ cls := "CoarserOrders", name := "classAt", desc := "(I)I" } : Jvm.MethodName)) ∈ lw_all := lw_g (lw_at lw_m5 233 rfl) rfl
theorem q1344 : (Jvm.Cond.code ({ cls := "CoarserOrders", name := "classAt", desc := "(I)I" } : Jvm.MethodName) prog_1_method_95_code (5 : Nat) (Option.some Jvm.ClassFile.FieldType.int)) ∈ lw_all := lw_g (lw_at lw_m5 234 rfl) rfl
theorem q1345 : (Jvm.Cond.classLink "CoarserOrders" (562 : Nat) "CoarserOrders$Rows") ∈ lw_all := lw_g (lw_at lw_m5 235 rfl) rfl
theorem q1346 : (Jvm.Cond.methodLinkNest "CoarserOrders" (564 : Nat) ({ cls := "CoarserOrders$Rows", name := "<init>", desc := "(LCoarserOrders;)V" } : Jvm.MethodName) "CoarserOrders") ∈ lw_tbl := lw_at lw_m5 236 rfl
theorem q1347 : (Jvm.Cond.methodLink "CoarserOrders" (567 : Nat) ({ cls := "CoarserOrders$Rows", name := "iterator", desc := "()Ljava/util/Iterator;" } : Jvm.MethodName)) ∈ lw_all := lw_g (lw_at lw_m5 237 rfl) rfl
theorem q1348 : (Jvm.Cond.interfaceEntry "CoarserOrders" (571 : Nat)) ∈ lw_tbl := lw_at lw_m5 238 rfl
theorem q1349 : (Jvm.Cond.methodLink "CoarserOrders" (571 : Nat) ({ cls := "java/util/Iterator", name := "hasNext", desc := "()Z" } : Jvm.MethodName)) ∈ lw_all := lw_g (lw_at lw_m5 239 rfl) rfl
theorem q1350 : (Jvm.Cond.interfaceEntry "CoarserOrders" (577 : Nat)) ∈ lw_tbl := lw_at lw_m6 0 rfl
theorem q1351 : (Jvm.Cond.methodLink "CoarserOrders" (577 : Nat) ({ cls := "java/util/Iterator", name := "next", desc := "()Ljava/lang/Object;" } : Jvm.MethodName)) ∈ lw_all := lw_g (lw_at lw_m6 1 rfl) rfl
theorem q1352 : (Jvm.Cond.methodLink "CoarserOrders" (580 : Nat) ({ cls := "CoarserOrders", name := "isLeast", desc := "([B)Z" } : Jvm.MethodName)) ∈ lw_all := lw_g (lw_at lw_m6 2 rfl) rfl
theorem q1354 : (Jvm.Cond.instanceMethod ({ cls := "CoarserOrders", name := "classes", desc := "(III)I" } : Jvm.MethodName)) ∈ lw_all := lw_g (lw_at lw_m6 4 rfl) rfl
theorem q1355 : (Jvm.Cond.selects "CoarserOrders" ({ cls := "CoarserOrders", name := "classes", desc := "(III)I" } : Jvm.MethodName) ({ cls := "CoarserOrders", name := "classes", desc := "(III)I" } : Jvm.MethodName)) ∈ lw_all := lw_g (lw_at lw_m6 5 rfl) rfl
theorem q1356 : (Jvm.Cond.code ({ cls := "CoarserOrders", name := "classes", desc := "(III)I" } : Jvm.MethodName) prog_1_method_96_code (4 : Nat) (Option.some Jvm.ClassFile.FieldType.int)) ∈ lw_all := lw_g (lw_at lw_m6 6 rfl) rfl
theorem q1358 : (Jvm.Cond.instanceMethod ({ cls := "CoarserOrders", name := "rotations", desc := "(II)I" } : Jvm.MethodName)) ∈ lw_all := lw_g (lw_at lw_m6 8 rfl) rfl
theorem q1359 : (Jvm.Cond.selects "CoarserOrders" ({ cls := "CoarserOrders", name := "rotations", desc := "(II)I" } : Jvm.MethodName) ({ cls := "CoarserOrders", name := "rotations", desc := "(II)I" } : Jvm.MethodName)) ∈ lw_all := lw_g (lw_at lw_m6 9 rfl) rfl
theorem q1360 : (Jvm.Cond.code ({ cls := "CoarserOrders", name := "rotations", desc := "(II)I" } : Jvm.MethodName) prog_1_method_99_code (3 : Nat) (Option.some Jvm.ClassFile.FieldType.int)) ∈ lw_all := lw_g (lw_at lw_m6 10 rfl) rfl
theorem q1361 : (Jvm.Cond.methodLink "CoarserOrders" (591 : Nat) ({ cls := "CoarserOrders", name := "findRotations", desc := "([BI)V" } : Jvm.MethodName)) ∈ lw_all := lw_g (lw_at lw_m6 11 rfl) rfl
theorem q1362 : (Jvm.Cond.privateMethod ({ cls := "CoarserOrders", name := "findRotations", desc := "([BI)V" } : Jvm.MethodName)) ∈ lw_tbl := lw_at lw_m6 12 rfl
theorem q1363 : (Jvm.Cond.instanceMethod ({ cls := "CoarserOrders", name := "findRotations", desc := "([BI)V" } : Jvm.MethodName)) ∈ lw_all := lw_g (lw_at lw_m6 13 rfl) rfl
theorem q1364 : (Jvm.Cond.code ({ cls := "CoarserOrders", name := "findRotations", desc := "([BI)V" } : Jvm.MethodName) prog_1_method_98_code (4 : Nat) (Option.none : Option Jvm.ClassFile.FieldType)) ∈ lw_all := lw_g (lw_at lw_m6 14 rfl) rfl
theorem q1365 : (Jvm.Cond.methodLink "CoarserOrders" (587 : Nat) ({ cls := "CoarserOrders", name := "keepInOrder", desc := "(I)V" } : Jvm.MethodName)) ∈ lw_all := lw_g (lw_at lw_m6 15 rfl) rfl
theorem q1366 : (Jvm.Cond.privateMethod ({ cls := "CoarserOrders", name := "keepInOrder", desc := "(I)V" } : Jvm.MethodName)) ∈ lw_tbl := lw_at lw_m6 16 rfl
theorem q1367 : (Jvm.Cond.instanceMethod ({ cls := "CoarserOrders", name := "keepInOrder", desc := "(I)V" } : Jvm.MethodName)) ∈ lw_all := lw_g (lw_at lw_m6 17 rfl) rfl
theorem q1368 : (Jvm.Cond.code ({ cls := "CoarserOrders", name := "keepInOrder", desc := "(I)V" } : Jvm.MethodName) prog_1_method_97_code (3 : Nat) (Option.none : Option Jvm.ClassFile.FieldType)) ∈ lw_all := lw_g (lw_at lw_m6 18 rfl) rfl
theorem q1370 : (Jvm.Cond.instanceMethod ({ cls := "CoarserOrders", name := "rotate", desc := "(III)I" } : Jvm.MethodName)) ∈ lw_all := lw_g (lw_at lw_m6 20 rfl) rfl
theorem q1371 : (Jvm.Cond.selects "CoarserOrders" ({ cls := "CoarserOrders", name := "rotate", desc := "(III)I" } : Jvm.MethodName) ({ cls := "CoarserOrders", name := "rotate", desc := "(III)I" } : Jvm.MethodName)) ∈ lw_all := lw_g (lw_at lw_m6 21 rfl) rfl
theorem q1372 : (Jvm.Cond.code ({ cls := "CoarserOrders", name := "rotate", desc := "(III)I" } : Jvm.MethodName) prog_1_method_100_code (4 : Nat) (Option.some Jvm.ClassFile.FieldType.int)) ∈ lw_all := lw_g (lw_at lw_m6 22 rfl) rfl
theorem q1374 : (Jvm.Cond.instanceMethod ({ cls := "CoarserOrders", name := "apart", desc := "(II)I" } : Jvm.MethodName)) ∈ lw_all := lw_g (lw_at lw_m6 24 rfl) rfl
theorem q1375 : (Jvm.Cond.selects "CoarserOrders" ({ cls := "CoarserOrders", name := "apart", desc := "(II)I" } : Jvm.MethodName) ({ cls := "CoarserOrders", name := "apart", desc := "(II)I" } : Jvm.MethodName)) ∈ lw_all := lw_g (lw_at lw_m6 25 rfl) rfl
theorem q1376 : (Jvm.Cond.code ({ cls := "CoarserOrders", name := "apart", desc := "(II)I" } : Jvm.MethodName) prog_1_method_103_code (9 : Nat) (Option.some Jvm.ClassFile.FieldType.int)) ∈ lw_all := lw_g (lw_at lw_m6 26 rfl) rfl
theorem q1377 : (Jvm.Cond.methodLink "CoarserOrders" (594 : Nat) ({ cls := "CoarserOrders", name := "clearFar", desc := "()V" } : Jvm.MethodName)) ∈ lw_all := lw_g (lw_at lw_m6 27 rfl) rfl
theorem q1378 : (Jvm.Cond.privateMethod ({ cls := "CoarserOrders", name := "clearFar", desc := "()V" } : Jvm.MethodName)) ∈ lw_tbl := lw_at lw_m6 28 rfl
theorem q1379 : (Jvm.Cond.instanceMethod ({ cls := "CoarserOrders", name := "clearFar", desc := "()V" } : Jvm.MethodName)) ∈ lw_all := lw_g (lw_at lw_m6 29 rfl) rfl
theorem q1380 : (Jvm.Cond.code ({ cls := "CoarserOrders", name := "clearFar", desc := "()V" } : Jvm.MethodName) prog_1_method_101_code (2 : Nat) (Option.none : Option Jvm.ClassFile.FieldType)) ∈ lw_all := lw_g (lw_at lw_m6 30 rfl) rfl
theorem q1381 : (Jvm.Cond.methodLink "CoarserOrders" (597 : Nat) ({ cls := "CoarserOrders", name := "rankOfTold", desc := "(I)I" } : Jvm.MethodName)) ∈ lw_all := lw_g (lw_at lw_m6 31 rfl) rfl
theorem q1382 : (Jvm.Cond.privateMethod ({ cls := "CoarserOrders", name := "rankOfTold", desc := "(I)I" } : Jvm.MethodName)) ∈ lw_tbl := lw_at lw_m6 32 rfl
theorem q1383 : (Jvm.Cond.instanceMethod ({ cls := "CoarserOrders", name := "rankOfTold", desc := "(I)I" } : Jvm.MethodName)) ∈ lw_all := lw_g (lw_at lw_m6 33 rfl) rfl
theorem q1384 : (Jvm.Cond.code ({ cls := "CoarserOrders", name := "rankOfTold", desc := "(I)I" } : Jvm.MethodName) prog_1_method_102_code (2 : Nat) (Option.some Jvm.ClassFile.FieldType.int)) ∈ lw_all := lw_g (lw_at lw_m6 34 rfl) rfl
theorem q1386 : (Jvm.Cond.instanceMethod ({ cls := "CoarserOrders", name := "wayUp", desc := "(I)I" } : Jvm.MethodName)) ∈ lw_all := lw_g (lw_at lw_m6 36 rfl) rfl
theorem q1387 : (Jvm.Cond.selects "CoarserOrders" ({ cls := "CoarserOrders", name := "wayUp", desc := "(I)I" } : Jvm.MethodName) ({ cls := "CoarserOrders", name := "wayUp", desc := "(I)I" } : Jvm.MethodName)) ∈ lw_all := lw_g (lw_at lw_m6 37 rfl) rfl
theorem q1388 : (Jvm.Cond.code ({ cls := "CoarserOrders", name := "wayUp", desc := "(I)I" } : Jvm.MethodName) prog_1_method_106_code (3 : Nat) (Option.some Jvm.ClassFile.FieldType.int)) ∈ lw_all := lw_g (lw_at lw_m6 38 rfl) rfl
theorem q1389 : (Jvm.Cond.methodLink "CoarserOrders" (604 : Nat) ({ cls := "CoarserOrders", name := "findWays", desc := "()V" } : Jvm.MethodName)) ∈ lw_all := lw_g (lw_at lw_m6 39 rfl) rfl
theorem q1390 : (Jvm.Cond.privateMethod ({ cls := "CoarserOrders", name := "findWays", desc := "()V" } : Jvm.MethodName)) ∈ lw_tbl := lw_at lw_m6 40 rfl
theorem q1391 : (Jvm.Cond.instanceMethod ({ cls := "CoarserOrders", name := "findWays", desc := "()V" } : Jvm.MethodName)) ∈ lw_all := lw_g (lw_at lw_m6 41 rfl) rfl
theorem q1392 : (Jvm.Cond.code ({ cls := "CoarserOrders", name := "findWays", desc := "()V" } : Jvm.MethodName) prog_1_method_105_code (5 : Nat) (Option.none : Option Jvm.ClassFile.FieldType)) ∈ lw_all := lw_g (lw_at lw_m6 42 rfl) rfl
theorem q1393 : (Jvm.Cond.methodLink "CoarserOrders" (601 : Nat) ({ cls := "CoarserOrders", name := "goUp", desc := "(I)V" } : Jvm.MethodName)) ∈ lw_all := lw_g (lw_at lw_m6 43 rfl) rfl
theorem q1394 : (Jvm.Cond.privateMethod ({ cls := "CoarserOrders", name := "goUp", desc := "(I)V" } : Jvm.MethodName)) ∈ lw_tbl := lw_at lw_m6 44 rfl
theorem q1395 : (Jvm.Cond.instanceMethod ({ cls := "CoarserOrders", name := "goUp", desc := "(I)V" } : Jvm.MethodName)) ∈ lw_all := lw_g (lw_at lw_m6 45 rfl) rfl
theorem q1396 : (Jvm.Cond.code ({ cls := "CoarserOrders", name := "goUp", desc := "(I)V" } : Jvm.MethodName) prog_1_method_104_code (4 : Nat) (Option.none : Option Jvm.ClassFile.FieldType)) ∈ lw_all := lw_g (lw_at lw_m6 46 rfl) rfl
theorem q1398 : (Jvm.Cond.instanceMethod ({ cls := "CoarserOrders", name := "listed", desc := "(I)I" } : Jvm.MethodName)) ∈ lw_all := lw_g (lw_at lw_m6 48 rfl) rfl
theorem q1399 : (Jvm.Cond.selects "CoarserOrders" ({ cls := "CoarserOrders", name := "listed", desc := "(I)I" } : Jvm.MethodName) ({ cls := "CoarserOrders", name := "listed", desc := "(I)I" } : Jvm.MethodName)) ∈ lw_all := lw_g (lw_at lw_m6 49 rfl) rfl
theorem q1400 : (Jvm.Cond.code ({ cls := "CoarserOrders", name := "listed", desc := "(I)I" } : Jvm.MethodName) prog_1_method_108_code (2 : Nat) (Option.some Jvm.ClassFile.FieldType.int)) ∈ lw_all := lw_g (lw_at lw_m6 50 rfl) rfl
theorem q1401 : (Jvm.Cond.methodLink "CoarserOrders" (612 : Nat) ({ cls := "CoarserOrders", name := "findList", desc := "()V" } : Jvm.MethodName)) ∈ lw_all := lw_g (lw_at lw_m6 51 rfl) rfl
theorem q1402 : (Jvm.Cond.privateMethod ({ cls := "CoarserOrders", name := "findList", desc := "()V" } : Jvm.MethodName)) ∈ lw_tbl := lw_at lw_m6 52 rfl
theorem q1403 : (Jvm.Cond.instanceMethod ({ cls := "CoarserOrders", name := "findList", desc := "()V" } : Jvm.MethodName)) ∈ lw_all := lw_g (lw_at lw_m6 53 rfl) rfl
theorem q1404 : (Jvm.Cond.code ({ cls := "CoarserOrders", name := "findList", desc := "()V" } : Jvm.MethodName) prog_1_method_107_code (4 : Nat) (Option.none : Option Jvm.ClassFile.FieldType)) ∈ lw_all := lw_g (lw_at lw_m6 54 rfl) rfl
theorem q1405 : (Jvm.Cond.classLink "CoarserOrders" (607 : Nat) "CoarserOrders$Lister") ∈ lw_all := lw_g (lw_at lw_m6 55 rfl) rfl
theorem q1407 : (Jvm.Cond.methodLink "CoarserOrders" (609 : Nat) ({ cls := "CoarserOrders$Lister", name := "<init>", desc := "(LCoarserOrders;)V" } : Jvm.MethodName)) ∈ lw_all := lw_g (lw_at lw_m6 57 rfl) rfl
theorem q1428 : (Jvm.Cond.methodLink "CoarserOrders" (610 : Nat) ({ cls := "CoarserOrders$Lister", name := "goesOn", desc := "(II)Z" } : Jvm.MethodName)) ∈ lw_all := lw_g (lw_at lw_m6 78 rfl) rfl
theorem q1443 : (Jvm.Cond.instanceMethod ({ cls := "CoarserOrders", name := "closed", desc := "(I)I" } : Jvm.MethodName)) ∈ lw_all := lw_g (lw_at lw_m6 93 rfl) rfl
theorem q1444 : (Jvm.Cond.selects "CoarserOrders" ({ cls := "CoarserOrders", name := "closed", desc := "(I)I" } : Jvm.MethodName) ({ cls := "CoarserOrders", name := "closed", desc := "(I)I" } : Jvm.MethodName)) ∈ lw_all := lw_g (lw_at lw_m6 94 rfl) rfl
theorem q1445 : (Jvm.Cond.code ({ cls := "CoarserOrders", name := "closed", desc := "(I)I" } : Jvm.MethodName) prog_1_method_110_code (2 : Nat) (Option.some Jvm.ClassFile.FieldType.int)) ∈ lw_all := lw_g (lw_at lw_m6 95 rfl) rfl
theorem q1446 : (Jvm.Cond.methodLink "CoarserOrders" (618 : Nat) ({ cls := "CoarserOrders", name := "closedFrom", desc := "(J)I" } : Jvm.MethodName)) ∈ lw_all := lw_g (lw_at lw_m6 96 rfl) rfl
theorem q1447 : (Jvm.Cond.privateMethod ({ cls := "CoarserOrders", name := "closedFrom", desc := "(J)I" } : Jvm.MethodName)) ∈ lw_tbl := lw_at lw_m6 97 rfl
theorem q1448 : (Jvm.Cond.instanceMethod ({ cls := "CoarserOrders", name := "closedFrom", desc := "(J)I" } : Jvm.MethodName)) ∈ lw_all := lw_g (lw_at lw_m6 98 rfl) rfl
theorem q1449 : (Jvm.Cond.code ({ cls := "CoarserOrders", name := "closedFrom", desc := "(J)I" } : Jvm.MethodName) prog_1_method_109_code (4 : Nat) (Option.some Jvm.ClassFile.FieldType.int)) ∈ lw_all := lw_g (lw_at lw_m6 99 rfl) rfl
theorem q1451 : (Jvm.Cond.instanceMethod ({ cls := "CoarserOrders", name := "whatIs", desc := "(II)I" } : Jvm.MethodName)) ∈ lw_all := lw_g (lw_at lw_m6 101 rfl) rfl
theorem q1452 : (Jvm.Cond.selects "CoarserOrders" ({ cls := "CoarserOrders", name := "whatIs", desc := "(II)I" } : Jvm.MethodName) ({ cls := "CoarserOrders", name := "whatIs", desc := "(II)I" } : Jvm.MethodName)) ∈ lw_all := lw_g (lw_at lw_m6 102 rfl) rfl
theorem q1453 : (Jvm.Cond.codeWith ({ cls := "CoarserOrders", name := "whatIs", desc := "(II)I" } : Jvm.MethodName) prog_1_method_114_code (4 : Nat) (Option.some Jvm.ClassFile.FieldType.int) [((18 : Nat), (52 : Nat), (53 : Nat), (645 : Nat)), ((18 : Nat), (52 : Nat), (57 : Nat), (8 : Nat))]) ∈ lw_all := lw_g (lw_at lw_m6 103 rfl) rfl
theorem q1454 : (Jvm.Cond.classLink "CoarserOrders" (645 : Nat) "java/lang/ClassCastException") ∈ lw_all := lw_g (lw_at lw_m6 104 rfl) rfl
theorem q1468 : (Jvm.Cond.methodLink "CoarserOrders" (629 : Nat) ({ cls := "CoarserOrders", name := "isShelf", desc := "(I)Z" } : Jvm.MethodName)) ∈ lw_all := lw_g (lw_at lw_m6 118 rfl) rfl
theorem q1469 : (Jvm.Cond.static ({ cls := "CoarserOrders", name := "isShelf", desc := "(I)Z" } : Jvm.MethodName)) ∈ lw_all := lw_g (lw_at lw_m6 119 rfl) rfl
theorem q1470 : (Jvm.Cond.code ({ cls := "CoarserOrders", name := "isShelf", desc := "(I)Z" } : Jvm.MethodName) prog_1_method_124_code (1 : Nat) (Option.some Jvm.ClassFile.FieldType.boolean)) ∈ lw_all := lw_g (lw_at lw_m6 120 rfl) rfl
theorem q1471 : (Jvm.Cond.classLink "CoarserOrders" (636 : Nat) "[I") ∈ lw_all := lw_g (lw_at lw_m6 121 rfl) rfl
theorem q1472 : (Jvm.Cond.methodLink "CoarserOrders" (637 : Nat) ({ cls := "CoarserOrders", name := "must", desc := "(ZI)V" } : Jvm.MethodName)) ∈ lw_all := lw_g (lw_at lw_m6 122 rfl) rfl
theorem q1473 : (Jvm.Cond.privateMethod ({ cls := "CoarserOrders", name := "must", desc := "(ZI)V" } : Jvm.MethodName)) ∈ lw_tbl := lw_at lw_m6 123 rfl
theorem q1474 : (Jvm.Cond.instanceMethod ({ cls := "CoarserOrders", name := "must", desc := "(ZI)V" } : Jvm.MethodName)) ∈ lw_all := lw_g (lw_at lw_m6 124 rfl) rfl
theorem q1475 : (Jvm.Cond.code ({ cls := "CoarserOrders", name := "must", desc := "(ZI)V" } : Jvm.MethodName) prog_1_method_2_code (3 : Nat) (Option.none : Option Jvm.ClassFile.FieldType)) ∈ lw_all := lw_g (lw_at lw_m6 125 rfl) rfl
theorem q1476 : (Jvm.Cond.methodLink "CoarserOrders" (7 : Nat) ({ cls := "CoarserOrders$Refusal", name := "of", desc := "(I)LCoarserOrders$Refusal;" } : Jvm.MethodName)) ∈ lw_all := lw_g (lw_at lw_m6 126 rfl) rfl
theorem q1477 : (Jvm.Cond.methodLink "CoarserOrders" (641 : Nat) ({ cls := "CoarserOrders", name := "fitting", desc := "([II)I" } : Jvm.MethodName)) ∈ lw_all := lw_g (lw_at lw_m6 127 rfl) rfl
theorem q1478 : (Jvm.Cond.privateMethod ({ cls := "CoarserOrders", name := "fitting", desc := "([II)I" } : Jvm.MethodName)) ∈ lw_tbl := lw_at lw_m6 128 rfl
theorem q1479 : (Jvm.Cond.instanceMethod ({ cls := "CoarserOrders", name := "fitting", desc := "([II)I" } : Jvm.MethodName)) ∈ lw_all := lw_g (lw_at lw_m6 129 rfl) rfl
theorem q1480 : (Jvm.Cond.codeWith ({ cls := "CoarserOrders", name := "fitting", desc := "([II)I" } : Jvm.MethodName) prog_1_method_113_code (10 : Nat) (Option.some Jvm.ClassFile.FieldType.int) [((15 : Nat), (100 : Nat), (111 : Nat), (0 : Nat)), ((111 : Nat), (113 : Nat), (111 : Nat), (0 : Nat))]) ∈ lw_all := lw_g (lw_at lw_m6 130 rfl) rfl
theorem q1481 : (Jvm.Cond.methodLink "CoarserOrders" (621 : Nat) ({ cls := "CoarserOrders", name := "stranger", desc := "(I)LCoarserOrders$Plain;" } : Jvm.MethodName)) ∈ lw_all := lw_g (lw_at lw_m6 131 rfl) rfl
theorem q1482 : (Jvm.Cond.privateMethod ({ cls := "CoarserOrders", name := "stranger", desc := "(I)LCoarserOrders$Plain;" } : Jvm.MethodName)) ∈ lw_tbl := lw_at lw_m6 132 rfl
theorem q1483 : (Jvm.Cond.instanceMethod ({ cls := "CoarserOrders", name := "stranger", desc := "(I)LCoarserOrders$Plain;" } : Jvm.MethodName)) ∈ lw_all := lw_g (lw_at lw_m6 133 rfl) rfl
theorem q1484 : (Jvm.Cond.code ({ cls := "CoarserOrders", name := "stranger", desc := "(I)LCoarserOrders$Plain;" } : Jvm.MethodName) prog_1_method_111_code (2 : Nat) (Option.some (Jvm.ClassFile.FieldType.object "CoarserOrders$Plain"))) ∈ lw_all := lw_g (lw_at lw_m6 134 rfl) rfl
theorem q1485 : (Jvm.Cond.methodLink "CoarserOrders" (625 : Nat) ({ cls := "CoarserOrders", name := "isThree", desc := "([II)Z" } : Jvm.MethodName)) ∈ lw_all := lw_g (lw_at lw_m6 135 rfl) rfl
theorem q1486 : (Jvm.Cond.privateMethod ({ cls := "CoarserOrders", name := "isThree", desc := "([II)Z" } : Jvm.MethodName)) ∈ lw_tbl := lw_at lw_m6 136 rfl
theorem q1487 : (Jvm.Cond.instanceMethod ({ cls := "CoarserOrders", name := "isThree", desc := "([II)Z" } : Jvm.MethodName)) ∈ lw_all := lw_g (lw_at lw_m6 137 rfl) rfl
theorem q1488 : (Jvm.Cond.code ({ cls := "CoarserOrders", name := "isThree", desc := "([II)Z" } : Jvm.MethodName) prog_1_method_112_code (3 : Nat) (Option.some Jvm.ClassFile.FieldType.boolean)) ∈ lw_all := lw_g (lw_at lw_m6 138 rfl) rfl
theorem q1490 : (Jvm.Cond.instanceMethod ({ cls := "CoarserOrders", name := "seed", desc := "(I)I" } : Jvm.MethodName)) ∈ lw_all := lw_g (lw_at lw_m6 140 rfl) rfl
theorem q1491 : (Jvm.Cond.selects "CoarserOrders" ({ cls := "CoarserOrders", name := "seed", desc := "(I)I" } : Jvm.MethodName) ({ cls := "CoarserOrders", name := "seed", desc := "(I)I" } : Jvm.MethodName)) ∈ lw_all := lw_g (lw_at lw_m6 141 rfl) rfl
theorem q1492 : (Jvm.Cond.code ({ cls := "CoarserOrders", name := "seed", desc := "(I)I" } : Jvm.MethodName) prog_1_method_115_code (3 : Nat) (Option.some Jvm.ClassFile.FieldType.int)) ∈ lw_all := lw_g (lw_at lw_m6 142 rfl) rfl
theorem q1494 : (Jvm.Cond.instanceMethod ({ cls := "CoarserOrders", name := "drawn", desc := "(I)I" } : Jvm.MethodName)) ∈ lw_all := lw_g (lw_at lw_m6 144 rfl) rfl
theorem q1495 : (Jvm.Cond.selects "CoarserOrders" ({ cls := "CoarserOrders", name := "drawn", desc := "(I)I" } : Jvm.MethodName) ({ cls := "CoarserOrders", name := "drawn", desc := "(I)I" } : Jvm.MethodName)) ∈ lw_all := lw_g (lw_at lw_m6 145 rfl) rfl
theorem q1496 : (Jvm.Cond.code ({ cls := "CoarserOrders", name := "drawn", desc := "(I)I" } : Jvm.MethodName) prog_1_method_117_code (4 : Nat) (Option.some Jvm.ClassFile.FieldType.int)) ∈ lw_all := lw_g (lw_at lw_m6 146 rfl) rfl
theorem q1497 : (Jvm.Cond.methodLink "CoarserOrders" (652 : Nat) ({ cls := "CoarserOrders", name := "byLot", desc := "([B)V" } : Jvm.MethodName)) ∈ lw_all := lw_g (lw_at lw_m6 147 rfl) rfl
theorem q1498 : (Jvm.Cond.privateMethod ({ cls := "CoarserOrders", name := "byLot", desc := "([B)V" } : Jvm.MethodName)) ∈ lw_tbl := lw_at lw_m6 148 rfl
theorem q1499 : (Jvm.Cond.instanceMethod ({ cls := "CoarserOrders", name := "byLot", desc := "([B)V" } : Jvm.MethodName)) ∈ lw_all := lw_g (lw_at lw_m6 149 rfl) rfl
theorem q1500 : (Jvm.Cond.code ({ cls := "CoarserOrders", name := "byLot", desc := "([B)V" } : Jvm.MethodName) prog_1_method_116_code (3 : Nat) (Option.none : Option Jvm.ClassFile.FieldType)) ∈ lw_all := lw_g (lw_at lw_m6 150 rfl) rfl
theorem q1501 : (Jvm.Cond.constant "CoarserOrders" (651 : Nat) (1103515245 : Int32)) ∈ lw_all := lw_g (lw_at lw_m6 151 rfl) rfl
theorem q1503 : (Jvm.Cond.instanceMethod ({ cls := "CoarserOrders", name := "prove", desc := "(I)I" } : Jvm.MethodName)) ∈ lw_all := lw_g (lw_at lw_m6 153 rfl) rfl
theorem q1504 : (Jvm.Cond.selects "CoarserOrders" ({ cls := "CoarserOrders", name := "prove", desc := "(I)I" } : Jvm.MethodName) ({ cls := "CoarserOrders", name := "prove", desc := "(I)I" } : Jvm.MethodName)) ∈ lw_all := lw_g (lw_at lw_m6 154 rfl) rfl
theorem q1505 : (Jvm.Cond.code ({ cls := "CoarserOrders", name := "prove", desc := "(I)I" } : Jvm.MethodName) prog_1_method_118_code (4 : Nat) (Option.some Jvm.ClassFile.FieldType.int)) ∈ lw_all := lw_g (lw_at lw_m6 155 rfl) rfl
theorem q1507 : (Jvm.Cond.instanceMethod ({ cls := "CoarserOrders", name := "step", desc := "(II)I" } : Jvm.MethodName)) ∈ lw_all := lw_g (lw_at lw_m6 157 rfl) rfl
theorem q1508 : (Jvm.Cond.selects "CoarserOrders" ({ cls := "CoarserOrders", name := "step", desc := "(II)I" } : Jvm.MethodName) ({ cls := "CoarserOrders", name := "step", desc := "(II)I" } : Jvm.MethodName)) ∈ lw_all := lw_g (lw_at lw_m6 158 rfl) rfl
theorem q1509 : (Jvm.Cond.code ({ cls := "CoarserOrders", name := "step", desc := "(II)I" } : Jvm.MethodName) prog_1_method_120_code (3 : Nat) (Option.some Jvm.ClassFile.FieldType.int)) ∈ lw_all := lw_g (lw_at lw_m6 159 rfl) rfl
theorem q1510 : (Jvm.Cond.methodLink "CoarserOrders" (658 : Nat) ({ cls := "CoarserOrders", name := "isStep", desc := "(II)Z" } : Jvm.MethodName)) ∈ lw_all := lw_g (lw_at lw_m6 160 rfl) rfl
theorem q1511 : (Jvm.Cond.privateMethod ({ cls := "CoarserOrders", name := "isStep", desc := "(II)Z" } : Jvm.MethodName)) ∈ lw_tbl := lw_at lw_m6 161 rfl
theorem q1512 : (Jvm.Cond.instanceMethod ({ cls := "CoarserOrders", name := "isStep", desc := "(II)Z" } : Jvm.MethodName)) ∈ lw_all := lw_g (lw_at lw_m6 162 rfl) rfl
theorem q1513 : (Jvm.Cond.code ({ cls := "CoarserOrders", name := "isStep", desc := "(II)Z" } : Jvm.MethodName) prog_1_method_119_code (3 : Nat) (Option.some Jvm.ClassFile.FieldType.boolean)) ∈ lw_all := lw_g (lw_at lw_m6 163 rfl) rfl
theorem q1515 : (Jvm.Cond.instanceMethod ({ cls := "CoarserOrders", name := "alterStep", desc := "(III)I" } : Jvm.MethodName)) ∈ lw_all := lw_g (lw_at lw_m6 165 rfl) rfl
theorem q1516 : (Jvm.Cond.selects "CoarserOrders" ({ cls := "CoarserOrders", name := "alterStep", desc := "(III)I" } : Jvm.MethodName) ({ cls := "CoarserOrders", name := "alterStep", desc := "(III)I" } : Jvm.MethodName)) ∈ lw_all := lw_g (lw_at lw_m6 166 rfl) rfl
theorem q1517 : (Jvm.Cond.code ({ cls := "CoarserOrders", name := "alterStep", desc := "(III)I" } : Jvm.MethodName) prog_1_method_121_code (6 : Nat) (Option.some Jvm.ClassFile.FieldType.int)) ∈ lw_all := lw_g (lw_at lw_m6 167 rfl) rfl
theorem q1519 : (Jvm.Cond.instanceMethod ({ cls := "CoarserOrders", name := "judge", desc := "(I)I" } : Jvm.MethodName)) ∈ lw_all := lw_g (lw_at lw_m6 169 rfl) rfl
theorem q1520 : (Jvm.Cond.selects "CoarserOrders" ({ cls := "CoarserOrders", name := "judge", desc := "(I)I" } : Jvm.MethodName) ({ cls := "CoarserOrders", name := "judge", desc := "(I)I" } : Jvm.MethodName)) ∈ lw_all := lw_g (lw_at lw_m6 170 rfl) rfl
theorem q1521 : (Jvm.Cond.code ({ cls := "CoarserOrders", name := "judge", desc := "(I)I" } : Jvm.MethodName) prog_1_method_123_code (3 : Nat) (Option.some Jvm.ClassFile.FieldType.int)) ∈ lw_all := lw_g (lw_at lw_m6 171 rfl) rfl
theorem q1522 : (Jvm.Cond.methodLink "CoarserOrders" (661 : Nat) ({ cls := "CoarserOrders", name := "isRight", desc := "([BII)Z" } : Jvm.MethodName)) ∈ lw_all := lw_g (lw_at lw_m6 172 rfl) rfl
theorem q1523 : (Jvm.Cond.privateMethod ({ cls := "CoarserOrders", name := "isRight", desc := "([BII)Z" } : Jvm.MethodName)) ∈ lw_tbl := lw_at lw_m6 173 rfl
theorem q1524 : (Jvm.Cond.instanceMethod ({ cls := "CoarserOrders", name := "isRight", desc := "([BII)Z" } : Jvm.MethodName)) ∈ lw_all := lw_g (lw_at lw_m6 174 rfl) rfl
theorem q1525 : (Jvm.Cond.code ({ cls := "CoarserOrders", name := "isRight", desc := "([BII)Z" } : Jvm.MethodName) prog_1_method_122_code (5 : Nat) (Option.some Jvm.ClassFile.FieldType.boolean)) ∈ lw_all := lw_g (lw_at lw_m6 175 rfl) rfl
theorem q1527 : (Jvm.Cond.instanceMethod ({ cls := "CoarserOrders", name := "sheet", desc := "(III)I" } : Jvm.MethodName)) ∈ lw_all := lw_g (lw_at lw_m6 177 rfl) rfl
theorem q1528 : (Jvm.Cond.selects "CoarserOrders" ({ cls := "CoarserOrders", name := "sheet", desc := "(III)I" } : Jvm.MethodName) ({ cls := "CoarserOrders", name := "sheet", desc := "(III)I" } : Jvm.MethodName)) ∈ lw_all := lw_g (lw_at lw_m6 178 rfl) rfl
theorem q1529 : (Jvm.Cond.codeWith ({ cls := "CoarserOrders", name := "sheet", desc := "(III)I" } : Jvm.MethodName) prog_1_method_126_code (5 : Nat) (Option.some Jvm.ClassFile.FieldType.int) [((28 : Nat), (51 : Nat), (52 : Nat), (668 : Nat))]) ∈ lw_all := lw_g (lw_at lw_m6 179 rfl) rfl
theorem q1530 : (Jvm.Cond.classLink "CoarserOrders" (668 : Nat) "java/lang/NegativeArraySizeException") ∈ lw_all := lw_g (lw_at lw_m6 180 rfl) rfl
theorem q1544 : (Jvm.Cond.methodLink "CoarserOrders" (664 : Nat) ({ cls := "CoarserOrders", name := "rowOfSort", desc := "(II)Ljava/lang/Object;" } : Jvm.MethodName)) ∈ lw_all := lw_g (lw_at lw_m6 194 rfl) rfl
theorem q1545 : (Jvm.Cond.static ({ cls := "CoarserOrders", name := "rowOfSort", desc := "(II)Ljava/lang/Object;" } : Jvm.MethodName)) ∈ lw_all := lw_g (lw_at lw_m6 195 rfl) rfl
theorem q1546 : (Jvm.Cond.code ({ cls := "CoarserOrders", name := "rowOfSort", desc := "(II)Ljava/lang/Object;" } : Jvm.MethodName) prog_1_method_125_code (2 : Nat) (Option.some (Jvm.ClassFile.FieldType.object "java/lang/Object"))) ∈ lw_all := lw_g (lw_at lw_m6 196 rfl) rfl
theorem q1550 : (Jvm.Cond.instanceMethod ({ cls := "CoarserOrders", name := "put", desc := "(IIJ)I" } : Jvm.MethodName)) ∈ lw_all := lw_g (lw_at lw_m6 200 rfl) rfl
theorem q1551 : (Jvm.Cond.selects "CoarserOrders" ({ cls := "CoarserOrders", name := "put", desc := "(IIJ)I" } : Jvm.MethodName) ({ cls := "CoarserOrders", name := "put", desc := "(IIJ)I" } : Jvm.MethodName)) ∈ lw_all := lw_g (lw_at lw_m6 201 rfl) rfl
theorem q1552 : (Jvm.Cond.codeWith ({ cls := "CoarserOrders", name := "put", desc := "(IIJ)I" } : Jvm.MethodName) prog_1_method_129_code (6 : Nat) (Option.some Jvm.ClassFile.FieldType.int) [((9 : Nat), (62 : Nat), (63 : Nat), (8 : Nat))]) ∈ lw_all := lw_g (lw_at lw_m6 202 rfl) rfl
theorem q1553 : (Jvm.Cond.methodLink "CoarserOrders" (674 : Nat) ({ cls := "CoarserOrders", name := "length", desc := "(Ljava/lang/Object;)I" } : Jvm.MethodName)) ∈ lw_all := lw_g (lw_at lw_m6 203 rfl) rfl
theorem q1554 : (Jvm.Cond.static ({ cls := "CoarserOrders", name := "length", desc := "(Ljava/lang/Object;)I" } : Jvm.MethodName)) ∈ lw_all := lw_g (lw_at lw_m6 204 rfl) rfl
theorem q1555 : (Jvm.Cond.code ({ cls := "CoarserOrders", name := "length", desc := "(Ljava/lang/Object;)I" } : Jvm.MethodName) prog_1_method_127_code (1 : Nat) (Option.some Jvm.ClassFile.FieldType.int)) ∈ lw_all := lw_g (lw_at lw_m6 205 rfl) rfl
theorem q1556 : (Jvm.Cond.classLink "CoarserOrders" (670 : Nat) "[S") ∈ lw_all := lw_g (lw_at lw_m6 206 rfl) rfl
theorem q1557 : (Jvm.Cond.classLink "CoarserOrders" (672 : Nat) "[J") ∈ lw_all := lw_g (lw_at lw_m6 207 rfl) rfl
theorem q1558 : (Jvm.Cond.methodLink "CoarserOrders" (677 : Nat) ({ cls := "CoarserOrders", name := "set", desc := "(Ljava/lang/Object;IJ)V" } : Jvm.MethodName)) ∈ lw_all := lw_g (lw_at lw_m6 208 rfl) rfl
theorem q1559 : (Jvm.Cond.static ({ cls := "CoarserOrders", name := "set", desc := "(Ljava/lang/Object;IJ)V" } : Jvm.MethodName)) ∈ lw_all := lw_g (lw_at lw_m6 209 rfl) rfl
theorem q1560 : (Jvm.Cond.code ({ cls := "CoarserOrders", name := "set", desc := "(Ljava/lang/Object;IJ)V" } : Jvm.MethodName) prog_1_method_128_code (4 : Nat) (Option.none : Option Jvm.ClassFile.FieldType)) ∈ lw_all := lw_g (lw_at lw_m6 210 rfl) rfl
theorem q1562 : (Jvm.Cond.instanceMethod ({ cls := "CoarserOrders", name := "item", desc := "(III)I" } : Jvm.MethodName)) ∈ lw_all := lw_g (lw_at lw_m6 212 rfl) rfl
theorem q1563 : (Jvm.Cond.selects "CoarserOrders" ({ cls := "CoarserOrders", name := "item", desc := "(III)I" } : Jvm.MethodName) ({ cls := "CoarserOrders", name := "item", desc := "(III)I" } : Jvm.MethodName)) ∈ lw_all := lw_g (lw_at lw_m6 213 rfl) rfl
theorem q1564 : (Jvm.Cond.codeWith ({ cls := "CoarserOrders", name := "item", desc := "(III)I" } : Jvm.MethodName) prog_1_method_132_code (5 : Nat) (Option.some Jvm.ClassFile.FieldType.int) [((18 : Nat), (33 : Nat), (34 : Nat), (645 : Nat)), ((18 : Nat), (33 : Nat), (39 : Nat), (689 : Nat)), ((18 : Nat), (33 : Nat), (44 : Nat), (8 : Nat))]) ∈ lw_all := lw_g (lw_at lw_m6 214 rfl) rfl
theorem q1565 : (Jvm.Cond.classLink "CoarserOrders" (689 : Nat) "java/lang/NullPointerException") ∈ lw_all := lw_g (lw_at lw_m6 215 rfl) rfl
theorem q1590 : (Jvm.Cond.methodLink "CoarserOrders" (685 : Nat) ({ cls := "CoarserOrders", name := "itemOf", desc := "(Ljava/lang/Object;II)I" } : Jvm.MethodName)) ∈ lw_all := lw_g (lw_at lw_m7 0 rfl) rfl
theorem q1591 : (Jvm.Cond.privateMethod ({ cls := "CoarserOrders", name := "itemOf", desc := "(Ljava/lang/Object;II)I" } : Jvm.MethodName)) ∈ lw_tbl := lw_at lw_m7 1 rfl
theorem q1592 : (Jvm.Cond.instanceMethod ({ cls := "CoarserOrders", name := "itemOf", desc := "(Ljava/lang/Object;II)I" } : Jvm.MethodName)) ∈ lw_all := lw_g (lw_at lw_m7 2 rfl) rfl
theorem q1593 : (Jvm.Cond.code ({ cls := "CoarserOrders", name := "itemOf", desc := "(Ljava/lang/Object;II)I" } : Jvm.MethodName) prog_1_method_131_code (4 : Nat) (Option.some Jvm.ClassFile.FieldType.int)) ∈ lw_all := lw_g (lw_at lw_m7 3 rfl) rfl
theorem q1594 : (Jvm.Cond.methodLink "CoarserOrders" (681 : Nat) ({ cls := "CoarserOrders", name := "manyOf", desc := "(Ljava/lang/Object;I)I" } : Jvm.MethodName)) ∈ lw_all := lw_g (lw_at lw_m7 4 rfl) rfl
theorem q1595 : (Jvm.Cond.static ({ cls := "CoarserOrders", name := "manyOf", desc := "(Ljava/lang/Object;I)I" } : Jvm.MethodName)) ∈ lw_all := lw_g (lw_at lw_m7 5 rfl) rfl
theorem q1596 : (Jvm.Cond.code ({ cls := "CoarserOrders", name := "manyOf", desc := "(Ljava/lang/Object;I)I" } : Jvm.MethodName) prog_1_method_130_code (2 : Nat) (Option.some Jvm.ClassFile.FieldType.int)) ∈ lw_all := lw_g (lw_at lw_m7 6 rfl) rfl
theorem q1598 : (Jvm.Cond.instanceMethod ({ cls := "CoarserOrders", name := "move", desc := "(IIIII)I" } : Jvm.MethodName)) ∈ lw_all := lw_g (lw_at lw_m7 8 rfl) rfl
theorem q1599 : (Jvm.Cond.selects "CoarserOrders" ({ cls := "CoarserOrders", name := "move", desc := "(IIIII)I" } : Jvm.MethodName) ({ cls := "CoarserOrders", name := "move", desc := "(IIIII)I" } : Jvm.MethodName)) ∈ lw_all := lw_g (lw_at lw_m7 9 rfl) rfl
theorem q1600 : (Jvm.Cond.codeWith ({ cls := "CoarserOrders", name := "move", desc := "(IIIII)I" } : Jvm.MethodName) prog_1_method_133_code (7 : Nat) (Option.some Jvm.ClassFile.FieldType.int) [((16 : Nat), (44 : Nat), (45 : Nat), (689 : Nat)), ((16 : Nat), (44 : Nat), (50 : Nat), (691 : Nat)), ((16 : Nat), (44 : Nat), (55 : Nat), (341 : Nat))]) ∈ lw_all := lw_g (lw_at lw_m7 10 rfl) rfl
theorem q1601 : (Jvm.Cond.classLink "CoarserOrders" (691 : Nat) "java/lang/ArrayStoreException") ∈ lw_all := lw_g (lw_at lw_m7 11 rfl) rfl
theorem q1616 : (Jvm.Cond.instanceMethod ({ cls := "CoarserOrders", name := "rowFrom", desc := "(II)I" } : Jvm.MethodName)) ∈ lw_all := lw_g (lw_at lw_m7 26 rfl) rfl
theorem q1617 : (Jvm.Cond.selects "CoarserOrders" ({ cls := "CoarserOrders", name := "rowFrom", desc := "(II)I" } : Jvm.MethodName) ({ cls := "CoarserOrders", name := "rowFrom", desc := "(II)I" } : Jvm.MethodName)) ∈ lw_all := lw_g (lw_at lw_m7 27 rfl) rfl
theorem q1618 : (Jvm.Cond.codeWith ({ cls := "CoarserOrders", name := "rowFrom", desc := "(II)I" } : Jvm.MethodName) prog_1_method_134_code (4 : Nat) (Option.some Jvm.ClassFile.FieldType.int) [((9 : Nat), (47 : Nat), (48 : Nat), (645 : Nat)), ((9 : Nat), (47 : Nat), (52 : Nat), (689 : Nat)), ((9 : Nat), (47 : Nat), (56 : Nat), (341 : Nat))]) ∈ lw_all := lw_g (lw_at lw_m7 28 rfl) rfl
theorem q1619 : (Jvm.Cond.methodLink "CoarserOrders" (693 : Nat) ({ cls := "CoarserOrders", name := "rowTold", desc := "([B)I" } : Jvm.MethodName)) ∈ lw_all := lw_g (lw_at lw_m7 29 rfl) rfl
theorem q1620 : (Jvm.Cond.privateMethod ({ cls := "CoarserOrders", name := "rowTold", desc := "([B)I" } : Jvm.MethodName)) ∈ lw_tbl := lw_at lw_m7 30 rfl
theorem q1621 : (Jvm.Cond.instanceMethod ({ cls := "CoarserOrders", name := "rowTold", desc := "([B)I" } : Jvm.MethodName)) ∈ lw_all := lw_g (lw_at lw_m7 31 rfl) rfl
theorem q1622 : (Jvm.Cond.code ({ cls := "CoarserOrders", name := "rowTold", desc := "([B)I" } : Jvm.MethodName) prog_1_method_135_code (4 : Nat) (Option.some Jvm.ClassFile.FieldType.int)) ∈ lw_all := lw_g (lw_at lw_m7 32 rfl) rfl
theorem q1623 : (Jvm.Cond.methodLink "CoarserOrders" (696 : Nat) ({ cls := "java/lang/Integer", name := "bitCount", desc := "(I)I" } : Jvm.MethodName)) ∈ lw_all := lw_g (lw_at lw_m7 33 rfl) rfl
theorem q1625 : (Jvm.Cond.instanceMethod ({ cls := "CoarserOrders", name := "shelf", desc := "(III)I" } : Jvm.MethodName)) ∈ lw_all := lw_g (lw_at lw_m7 35 rfl) rfl
theorem q1626 : (Jvm.Cond.selects "CoarserOrders" ({ cls := "CoarserOrders", name := "shelf", desc := "(III)I" } : Jvm.MethodName) ({ cls := "CoarserOrders", name := "shelf", desc := "(III)I" } : Jvm.MethodName)) ∈ lw_all := lw_g (lw_at lw_m7 36 rfl) rfl
theorem q1627 : (Jvm.Cond.code ({ cls := "CoarserOrders", name := "shelf", desc := "(III)I" } : Jvm.MethodName) prog_1_method_137_code (4 : Nat) (Option.some Jvm.ClassFile.FieldType.int)) ∈ lw_all := lw_g (lw_at lw_m7 37 rfl) rfl
theorem q1628 : (Jvm.Cond.classLink "CoarserOrders" (701 : Nat) "CoarserOrders$Ticket") ∈ lw_all := lw_g (lw_at lw_m7 38 rfl) rfl
theorem q1630 : (Jvm.Cond.methodLink "CoarserOrders" (703 : Nat) ({ cls := "CoarserOrders$Ticket", name := "<init>", desc := "(I)V" } : Jvm.MethodName)) ∈ lw_all := lw_g (lw_at lw_m7 40 rfl) rfl
theorem q1635 : (Jvm.Cond.fieldLinkNest "CoarserOrders" (705 : Nat) "CoarserOrders$Ticket" "number" "I" "CoarserOrders") ∈ lw_tbl := lw_at lw_m7 45 rfl
theorem q1640 : (Jvm.Cond.instanceMethod ({ cls := "CoarserOrders", name := "taken", desc := "(II)I" } : Jvm.MethodName)) ∈ lw_all := lw_g (lw_at lw_m7 50 rfl) rfl
theorem q1641 : (Jvm.Cond.selects "CoarserOrders" ({ cls := "CoarserOrders", name := "taken", desc := "(II)I" } : Jvm.MethodName) ({ cls := "CoarserOrders", name := "taken", desc := "(II)I" } : Jvm.MethodName)) ∈ lw_all := lw_g (lw_at lw_m7 51 rfl) rfl
theorem q1642 : (Jvm.Cond.codeWith ({ cls := "CoarserOrders", name := "taken", desc := "(II)I" } : Jvm.MethodName) prog_1_method_141_code (4 : Nat) (Option.some Jvm.ClassFile.FieldType.int) [((29 : Nat), (38 : Nat), (39 : Nat), (645 : Nat)), ((29 : Nat), (38 : Nat), (43 : Nat), (689 : Nat))]) ∈ lw_all := lw_g (lw_at lw_m7 52 rfl) rfl
theorem q1643 : (Jvm.Cond.methodLink "CoarserOrders" (717 : Nat) ({ cls := "CoarserOrders", name := "held", desc := "(I)Ljava/lang/Object;" } : Jvm.MethodName)) ∈ lw_all := lw_g (lw_at lw_m7 53 rfl) rfl
theorem q1644 : (Jvm.Cond.privateMethod ({ cls := "CoarserOrders", name := "held", desc := "(I)Ljava/lang/Object;" } : Jvm.MethodName)) ∈ lw_tbl := lw_at lw_m7 54 rfl
theorem q1645 : (Jvm.Cond.instanceMethod ({ cls := "CoarserOrders", name := "held", desc := "(I)Ljava/lang/Object;" } : Jvm.MethodName)) ∈ lw_all := lw_g (lw_at lw_m7 55 rfl) rfl
theorem q1646 : (Jvm.Cond.code ({ cls := "CoarserOrders", name := "held", desc := "(I)Ljava/lang/Object;" } : Jvm.MethodName) prog_1_method_138_code (4 : Nat) (Option.some (Jvm.ClassFile.FieldType.object "java/lang/Object"))) ∈ lw_all := lw_g (lw_at lw_m7 56 rfl) rfl
theorem q1647 : (Jvm.Cond.methodLink "CoarserOrders" (708 : Nat) ({ cls := "CoarserOrders", name := "makerOf", desc := "(I)LCoarserOrders$Plain;" } : Jvm.MethodName)) ∈ lw_all := lw_g (lw_at lw_m7 57 rfl) rfl
theorem q1648 : (Jvm.Cond.privateMethod ({ cls := "CoarserOrders", name := "makerOf", desc := "(I)LCoarserOrders$Plain;" } : Jvm.MethodName)) ∈ lw_tbl := lw_at lw_m7 58 rfl
theorem q1649 : (Jvm.Cond.instanceMethod ({ cls := "CoarserOrders", name := "makerOf", desc := "(I)LCoarserOrders$Plain;" } : Jvm.MethodName)) ∈ lw_all := lw_g (lw_at lw_m7 59 rfl) rfl
theorem q1650 : (Jvm.Cond.code ({ cls := "CoarserOrders", name := "makerOf", desc := "(I)LCoarserOrders$Plain;" } : Jvm.MethodName) prog_1_method_136_code (2 : Nat) (Option.some (Jvm.ClassFile.FieldType.object "CoarserOrders$Plain"))) ∈ lw_all := lw_g (lw_at lw_m7 60 rfl) rfl
theorem q1651 : (Jvm.Cond.methodLink "CoarserOrders" (720 : Nat) ({ cls := "CoarserOrders", name := "takenAs", desc := "(Ljava/lang/Object;I)I" } : Jvm.MethodName)) ∈ lw_all := lw_g (lw_at lw_m7 61 rfl) rfl
theorem q1652 : (Jvm.Cond.static ({ cls := "CoarserOrders", name := "takenAs", desc := "(Ljava/lang/Object;I)I" } : Jvm.MethodName)) ∈ lw_all := lw_g (lw_at lw_m7 62 rfl) rfl
theorem q1653 : (Jvm.Cond.code ({ cls := "CoarserOrders", name := "takenAs", desc := "(Ljava/lang/Object;I)I" } : Jvm.MethodName) prog_1_method_140_code (2 : Nat) (Option.some Jvm.ClassFile.FieldType.int)) ∈ lw_all := lw_g (lw_at lw_m7 63 rfl) rfl
theorem q1654 : (Jvm.Cond.methodLink "CoarserOrders" (711 : Nat) ({ cls := "CoarserOrders", name := "takenFor", desc := "(Ljava/lang/Object;I)LCoarserOrders$Plain;" } : Jvm.MethodName)) ∈ lw_all := lw_g (lw_at lw_m7 64 rfl) rfl
theorem q1655 : (Jvm.Cond.static ({ cls := "CoarserOrders", name := "takenFor", desc := "(Ljava/lang/Object;I)LCoarserOrders$Plain;" } : Jvm.MethodName)) ∈ lw_all := lw_g (lw_at lw_m7 65 rfl) rfl
theorem q1656 : (Jvm.Cond.code ({ cls := "CoarserOrders", name := "takenFor", desc := "(Ljava/lang/Object;I)LCoarserOrders$Plain;" } : Jvm.MethodName) prog_1_method_139_code (2 : Nat) (Option.some (Jvm.ClassFile.FieldType.object "CoarserOrders$Plain"))) ∈ lw_all := lw_g (lw_at lw_m7 66 rfl) rfl
theorem q1657 : (Jvm.Cond.methodLink "CoarserOrders" (715 : Nat) ({ cls := "CoarserOrders$Plain", name := "number", desc := "()I" } : Jvm.MethodName)) ∈ lw_all := lw_g (lw_at lw_m7 67 rfl) rfl
theorem q1668 : (Jvm.Cond.instanceMethod ({ cls := "CoarserOrders", name := "act", desc := "(III)I" } : Jvm.MethodName)) ∈ lw_all := lw_g (lw_at lw_m7 78 rfl) rfl
theorem q1669 : (Jvm.Cond.selects "CoarserOrders" ({ cls := "CoarserOrders", name := "act", desc := "(III)I" } : Jvm.MethodName) ({ cls := "CoarserOrders", name := "act", desc := "(III)I" } : Jvm.MethodName)) ∈ lw_all := lw_g (lw_at lw_m7 79 rfl) rfl
theorem q1670 : (Jvm.Cond.codeWith ({ cls := "CoarserOrders", name := "act", desc := "(III)I" } : Jvm.MethodName) prog_1_method_142_code (7 : Nat) (Option.some Jvm.ClassFile.FieldType.int) [((52 : Nat), (92 : Nat), (132 : Nat), (741 : Nat)), ((93 : Nat), (105 : Nat), (132 : Nat), (741 : Nat)), ((106 : Nat), (118 : Nat), (132 : Nat), (741 : Nat)), ((119 : Nat), (131 : Nat), (132 : Nat), (741 : Nat))]) ∈ lw_all := lw_g (lw_at lw_m7 80 rfl) rfl
theorem q1671 : (Jvm.Cond.classLink "CoarserOrders" (741 : Nat) "java/lang/ArithmeticException") ∈ lw_all := lw_g (lw_at lw_m7 81 rfl) rfl
theorem q1685 : (Jvm.Cond.classLink "CoarserOrders" (726 : Nat) "CoarserOrders$Joins") ∈ lw_all := lw_g (lw_at lw_m7 95 rfl) rfl
theorem q1686 : (Jvm.Cond.interfaceEntry "CoarserOrders" (728 : Nat)) ∈ lw_tbl := lw_at lw_m7 96 rfl
theorem q1742 : (Jvm.Cond.interfaceEntry "CoarserOrders" (732 : Nat)) ∈ lw_tbl := lw_at lw_m7 152 rfl
theorem q1782 : (Jvm.Cond.interfaceEntry "CoarserOrders" (735 : Nat)) ∈ lw_tbl := lw_at lw_m7 192 rfl
theorem q1820 : (Jvm.Cond.interfaceEntry "CoarserOrders" (738 : Nat)) ∈ lw_tbl := lw_at lw_m7 230 rfl
theorem q1821 : (Jvm.Cond.methodLink "CoarserOrders" (738 : Nat) ({ cls := "CoarserOrders$Joins", name := "joins", desc := "(ILCoarserOrders$Trace;)I" } : Jvm.MethodName)) ∈ lw_all := lw_g (lw_at lw_m7 231 rfl) rfl
theorem q1850 : (Jvm.Cond.instanceMethod ({ cls := "CoarserOrders", name := "trace", desc := "(I)I" } : Jvm.MethodName)) ∈ lw_all := lw_g (lw_at lw_m8 20 rfl) rfl
theorem q1851 : (Jvm.Cond.selects "CoarserOrders" ({ cls := "CoarserOrders", name := "trace", desc := "(I)I" } : Jvm.MethodName) ({ cls := "CoarserOrders", name := "trace", desc := "(I)I" } : Jvm.MethodName)) ∈ lw_all := lw_g (lw_at lw_m8 21 rfl) rfl
theorem q1852 : (Jvm.Cond.code ({ cls := "CoarserOrders", name := "trace", desc := "(I)I" } : Jvm.MethodName) prog_1_method_143_code (2 : Nat) (Option.some Jvm.ClassFile.FieldType.int)) ∈ lw_all := lw_g (lw_at lw_m8 22 rfl) rfl
theorem q1854 : (Jvm.Cond.instanceMethod ({ cls := "CoarserOrders", name := "many", desc := "(I)I" } : Jvm.MethodName)) ∈ lw_all := lw_g (lw_at lw_m8 24 rfl) rfl
theorem q1855 : (Jvm.Cond.selects "CoarserOrders" ({ cls := "CoarserOrders", name := "many", desc := "(I)I" } : Jvm.MethodName) ({ cls := "CoarserOrders", name := "many", desc := "(I)I" } : Jvm.MethodName)) ∈ lw_all := lw_g (lw_at lw_m8 25 rfl) rfl
theorem q1856 : (Jvm.Cond.code ({ cls := "CoarserOrders", name := "many", desc := "(I)I" } : Jvm.MethodName) prog_1_method_146_code (2 : Nat) (Option.some Jvm.ClassFile.FieldType.int)) ∈ lw_all := lw_g (lw_at lw_m8 26 rfl) rfl
theorem q1857 : (Jvm.Cond.methodLink "CoarserOrders" (754 : Nat) ({ cls := "CoarserOrders", name := "manyClasses", desc := "()I" } : Jvm.MethodName)) ∈ lw_all := lw_g (lw_at lw_m8 27 rfl) rfl
theorem q1858 : (Jvm.Cond.privateMethod ({ cls := "CoarserOrders", name := "manyClasses", desc := "()I" } : Jvm.MethodName)) ∈ lw_tbl := lw_at lw_m8 28 rfl
theorem q1859 : (Jvm.Cond.instanceMethod ({ cls := "CoarserOrders", name := "manyClasses", desc := "()I" } : Jvm.MethodName)) ∈ lw_all := lw_g (lw_at lw_m8 29 rfl) rfl
theorem q1860 : (Jvm.Cond.code ({ cls := "CoarserOrders", name := "manyClasses", desc := "()I" } : Jvm.MethodName) prog_1_method_144_code (1 : Nat) (Option.some Jvm.ClassFile.FieldType.int)) ∈ lw_all := lw_g (lw_at lw_m8 30 rfl) rfl
theorem q1861 : (Jvm.Cond.classLink "CoarserOrders" (746 : Nat) "CoarserOrders$1") ∈ lw_all := lw_g (lw_at lw_m8 31 rfl) rfl
theorem q1863 : (Jvm.Cond.methodLink "CoarserOrders" (748 : Nat) ({ cls := "CoarserOrders$1", name := "<init>", desc := "(LCoarserOrders;)V" } : Jvm.MethodName)) ∈ lw_all := lw_g (lw_at lw_m8 33 rfl) rfl
theorem q1872 : (Jvm.Cond.methodLink "CoarserOrders" (749 : Nat) ({ cls := "CoarserOrders$1", name := "ofAll", desc := "()I" } : Jvm.MethodName)) ∈ lw_all := lw_g (lw_at lw_m8 42 rfl) rfl
theorem q1875 : (Jvm.Cond.methodLink "CoarserOrders" (757 : Nat) ({ cls := "CoarserOrders", name := "manyRotations", desc := "()I" } : Jvm.MethodName)) ∈ lw_all := lw_g (lw_at lw_m8 45 rfl) rfl
theorem q1876 : (Jvm.Cond.privateMethod ({ cls := "CoarserOrders", name := "manyRotations", desc := "()I" } : Jvm.MethodName)) ∈ lw_tbl := lw_at lw_m8 46 rfl
theorem q1877 : (Jvm.Cond.instanceMethod ({ cls := "CoarserOrders", name := "manyRotations", desc := "()I" } : Jvm.MethodName)) ∈ lw_all := lw_g (lw_at lw_m8 47 rfl) rfl
theorem q1878 : (Jvm.Cond.code ({ cls := "CoarserOrders", name := "manyRotations", desc := "()I" } : Jvm.MethodName) prog_1_method_145_code (1 : Nat) (Option.some Jvm.ClassFile.FieldType.int)) ∈ lw_all := lw_g (lw_at lw_m8 48 rfl) rfl
theorem q1879 : (Jvm.Cond.classLink "CoarserOrders" (750 : Nat) "CoarserOrders$2") ∈ lw_all := lw_g (lw_at lw_m8 49 rfl) rfl
theorem q1881 : (Jvm.Cond.methodLink "CoarserOrders" (752 : Nat) ({ cls := "CoarserOrders$2", name := "<init>", desc := "(LCoarserOrders;)V" } : Jvm.MethodName)) ∈ lw_all := lw_g (lw_at lw_m8 51 rfl) rfl
theorem q1890 : (Jvm.Cond.methodLink "CoarserOrders" (753 : Nat) ({ cls := "CoarserOrders$2", name := "ofAll", desc := "()I" } : Jvm.MethodName)) ∈ lw_all := lw_g (lw_at lw_m8 60 rfl) rfl
theorem q1894 : (Jvm.Cond.instanceMethod ({ cls := "CoarserOrders", name := "keep", desc := "()I" } : Jvm.MethodName)) ∈ lw_all := lw_g (lw_at lw_m8 64 rfl) rfl
theorem q1895 : (Jvm.Cond.selects "CoarserOrders" ({ cls := "CoarserOrders", name := "keep", desc := "()I" } : Jvm.MethodName) ({ cls := "CoarserOrders", name := "keep", desc := "()I" } : Jvm.MethodName)) ∈ lw_all := lw_g (lw_at lw_m8 65 rfl) rfl
theorem q1896 : (Jvm.Cond.code ({ cls := "CoarserOrders", name := "keep", desc := "()I" } : Jvm.MethodName) prog_1_method_147_code (1 : Nat) (Option.some Jvm.ClassFile.FieldType.int)) ∈ lw_all := lw_g (lw_at lw_m8 66 rfl) rfl
theorem q1897 : (Jvm.Cond.methodLink "CoarserOrders" (760 : Nat) ({ cls := "CoarserOrders$Order", name := "become", desc := "(LCoarserOrders$Order;)V" } : Jvm.MethodName)) ∈ lw_all := lw_g (lw_at lw_m8 67 rfl) rfl
theorem q1903 : (Jvm.Cond.instanceMethod ({ cls := "CoarserOrders", name := "again", desc := "()I" } : Jvm.MethodName)) ∈ lw_all := lw_g (lw_at lw_m8 73 rfl) rfl
theorem q1904 : (Jvm.Cond.selects "CoarserOrders" ({ cls := "CoarserOrders", name := "again", desc := "()I" } : Jvm.MethodName) ({ cls := "CoarserOrders", name := "again", desc := "()I" } : Jvm.MethodName)) ∈ lw_all := lw_g (lw_at lw_m8 74 rfl) rfl
theorem q1905 : (Jvm.Cond.code ({ cls := "CoarserOrders", name := "again", desc := "()I" } : Jvm.MethodName) prog_1_method_148_code (2 : Nat) (Option.some Jvm.ClassFile.FieldType.int)) ∈ lw_all := lw_g (lw_at lw_m8 75 rfl) rfl

