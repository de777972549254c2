set_option maxRecDepth 100000
abbrev cX1_init : ByteArray := prog_20_method_1_code
def yX1_init : MethodName := ⟨RX1, "<init>", "()V"⟩
def dkwX1_init_0 : List UInt8 := [42, 1, 1, 3, 3, 183, 0, 1, 177]
abbrev dktX1_init_0 : List UInt8 := dkwX1_init_0 ++ []
theorem dksX1_init_0 : cX1_init.data.toList.drop 0 = dktX1_init_0 := by decide +kernel
theorem dX1_init_0 : decode cX1_init 0 = .ok (.aload_n 0, 1) := dk_42 (dk_at dksX1_init_0 0 rfl rfl)
theorem dX1_init_1 : decode cX1_init 1 = .ok (.aconst_null, 1) := dk_1 (dk_at dksX1_init_0 1 rfl rfl)
theorem dX1_init_2 : decode cX1_init 2 = .ok (.aconst_null, 1) := dk_1 (dk_at dksX1_init_0 2 rfl rfl)
theorem dX1_init_3 : decode cX1_init 3 = .ok (.iconst 0, 1) := dk_3 (dk_at dksX1_init_0 3 rfl rfl)
theorem dX1_init_4 : decode cX1_init 4 = .ok (.iconst 0, 1) := dk_3 (dk_at dksX1_init_0 4 rfl rfl)
theorem dX1_init_5 : decode cX1_init 5 = .ok (.invokespecial 1, 3) := dk_183 0 1 (dk_at dksX1_init_0 5 rfl rfl)
theorem dX1_init_8 : decode cX1_init 8 = .ok (.return_, 1) := dk_177 (dk_at dksX1_init_0 8 rfl rfl)
abbrev cX1_of : ByteArray := prog_20_method_2_code
def yX1_of : MethodName := ⟨RX1, "of", "(I)LCoarserOrders$Refusal;"⟩
def dkwX1_of_0 : List UInt8 := [42, 27, 181, 0, 7, 42, 176]
abbrev dktX1_of_0 : List UInt8 := dkwX1_of_0 ++ []
theorem dksX1_of_0 : cX1_of.data.toList.drop 0 = dktX1_of_0 := by decide +kernel
theorem dX1_of_0 : decode cX1_of 0 = .ok (.aload_n 0, 1) := dk_42 (dk_at dksX1_of_0 0 rfl rfl)
theorem dX1_of_1 : decode cX1_of 1 = .ok (.iload_n 1, 1) := dk_27 (dk_at dksX1_of_0 1 rfl rfl)
theorem dX1_of_2 : decode cX1_of 2 = .ok (.putfield 7, 3) := dk_181 0 7 (dk_at dksX1_of_0 2 rfl rfl)
theorem dX1_of_5 : decode cX1_of 5 = .ok (.aload_n 0, 1) := dk_42 (dk_at dksX1_of_0 5 rfl rfl)
theorem dX1_of_6 : decode cX1_of 6 = .ok (.areturn, 1) := dk_176 (dk_at dksX1_of_0 6 rfl rfl)
theorem q155 : (Jvm.Cond.initialized "CoarserOrders$Refusal") ∈ lw_all := lw_g (lw_at lw_m1 5 rfl) rfl
theorem q204 : (Jvm.Cond.instantiable "CoarserOrders$Refusal" (7 : Nat)) ∈ lw_all := lw_g (lw_at lw_m1 54 rfl) rfl
theorem q205 : (Jvm.Cond.castable "CoarserOrders$Refusal" "CoarserOrders$Refusal") ∈ lw_tbl := lw_at lw_m1 55 rfl
theorem q212 : (Jvm.Cond.selects "CoarserOrders$Refusal" ({ cls := "java/lang/Throwable", name := "fillInStackTrace", desc := "(I)Ljava/lang/Throwable;" } : Jvm.MethodName) ({ cls := "java/lang/Throwable", name := "fillInStackTrace", desc := "(I)Ljava/lang/Throwable;" } : Jvm.MethodName)) ∈ lw_all := lw_g (lw_at lw_m1 62 rfl) rfl
theorem q213 : (Jvm.Cond.selects "CoarserOrders$Refusal" ({ cls := "java/lang/Throwable", name := "fillInStackTrace", desc := "()Ljava/lang/Throwable;" } : Jvm.MethodName) ({ cls := "java/lang/Throwable", name := "fillInStackTrace", desc := "()Ljava/lang/Throwable;" } : Jvm.MethodName)) ∈ lw_all := lw_g (lw_at lw_m1 63 rfl) rfl
theorem q214 : (Jvm.Cond.lays "CoarserOrders$Refusal" "java/lang/Throwable" "cause" "Ljava/lang/Throwable;") ∈ lw_all := lw_g (lw_at lw_m1 64 rfl) rfl
theorem q216 : (Jvm.Cond.lays "CoarserOrders$Refusal" "java/lang/Throwable" "stackTrace" "[Ljava/lang/StackTraceElement;") ∈ lw_all := lw_g (lw_at lw_m1 66 rfl) rfl
theorem q218 : (Jvm.Cond.lays "CoarserOrders$Refusal" "java/lang/Throwable" "suppressedExceptions" "Ljava/util/List;") ∈ lw_all := lw_g (lw_at lw_m1 68 rfl) rfl
theorem q220 : (Jvm.Cond.lays "CoarserOrders$Refusal" "java/lang/Throwable" "detailMessage" "Ljava/lang/String;") ∈ lw_all := lw_g (lw_at lw_m1 70 rfl) rfl
theorem q222 : (Jvm.Cond.lays "CoarserOrders$Refusal" "java/lang/Throwable" "backtrace" "Ljava/lang/Object;") ∈ lw_all := lw_g (lw_at lw_m1 72 rfl) rfl
theorem q263 : (Jvm.Cond.instanceMethod ({ cls := "CoarserOrders$Refusal", name := "<init>", desc := "()V" } : Jvm.MethodName)) ∈ lw_all := lw_g (lw_at lw_m1 113 rfl) rfl
theorem q264 : (Jvm.Cond.code ({ cls := "CoarserOrders$Refusal", name := "<init>", desc := "()V" } : Jvm.MethodName) prog_20_method_1_code (1 : Nat) (Option.none : Option Jvm.ClassFile.FieldType)) ∈ lw_all := lw_g (lw_at lw_m1 114 rfl) rfl
theorem q265 : (Jvm.Cond.methodLink "CoarserOrders$Refusal" (1 : Nat) ({ cls := "java/lang/RuntimeException", name := "<init>", desc := "(Ljava/lang/String;Ljava/lang/Throwable;ZZ)V" } : Jvm.MethodName)) ∈ lw_all := lw_g (lw_at lw_m1 115 rfl) rfl
theorem q274 : (Jvm.Cond.fieldLink "CoarserOrders$Refusal" (7 : Nat) "CoarserOrders$Refusal" "answer" "I") ∈ lw_all := lw_g (lw_at lw_m1 124 rfl) rfl
theorem q283 : (Jvm.Cond.lays "CoarserOrders$Refusal" "CoarserOrders$Refusal" "answer" "I") ∈ lw_all := lw_g (lw_at lw_m1 133 rfl) rfl
theorem q284 : (Jvm.Cond.soleField "CoarserOrders$Refusal" "answer") ∈ lw_all := lw_g (lw_at lw_m1 134 rfl) rfl
theorem q289 : (Jvm.Cond.lays "CoarserOrders$Refusal" "java/lang/Throwable" "depth" "I") ∈ lw_all := lw_g (lw_at lw_m1 139 rfl) rfl
theorem q292 : (Jvm.Cond.superclass "CoarserOrders$Refusal" "java/lang/RuntimeException") ∈ lw_all := lw_g (lw_at lw_m1 142 rfl) rfl
theorem q296 : (Jvm.Cond.declares ({ cls := "CoarserOrders$Refusal", name := "<init>", desc := "()V" } : Jvm.MethodName)) ∈ lw_tbl := lw_at lw_m1 146 rfl
theorem q1122 : (Jvm.Cond.declares ({ cls := "CoarserOrders$Refusal", name := "of", desc := "(I)LCoarserOrders$Refusal;" } : Jvm.MethodName)) ∈ lw_tbl := lw_at lw_m5 12 rfl
theorem q1124 : (Jvm.Cond.instanceMethod ({ cls := "CoarserOrders$Refusal", name := "of", desc := "(I)LCoarserOrders$Refusal;" } : Jvm.MethodName)) ∈ lw_all := lw_g (lw_at lw_m5 14 rfl) rfl
theorem q1125 : (Jvm.Cond.code ({ cls := "CoarserOrders$Refusal", name := "of", desc := "(I)LCoarserOrders$Refusal;" } : Jvm.MethodName) prog_20_method_2_code (2 : Nat) (Option.some (Jvm.ClassFile.FieldType.object "CoarserOrders$Refusal"))) ∈ lw_all := lw_g (lw_at lw_m5 15 rfl) rfl
theorem q2610 : (Jvm.Cond.sameMethod "CoarserOrders$Refusal" "CoarserOrders$Refusal" "of" "(I)LCoarserOrders$Refusal;") ∈ lw_all := lw_g (lw_at lw_m11 60 rfl) rfl
theorem q2612 : (Jvm.Cond.selects "CoarserOrders$Refusal" ({ cls := "CoarserOrders$Refusal", name := "of", desc := "(I)LCoarserOrders$Refusal;" } : Jvm.MethodName) ({ cls := "CoarserOrders$Refusal", name := "of", desc := "(I)LCoarserOrders$Refusal;" } : Jvm.MethodName)) ∈ lw_all := lw_g (lw_at lw_m11 62 rfl) rfl

abbrev cX2_init : ByteArray := prog_10_method_1_code
def yX2_init : MethodName := ⟨RX2, "<init>", "()V"⟩
theorem dX2_init_0 : decode cX2_init 0 = .ok (.aload_n 0, 1) := by decide +kernel
theorem dX2_init_1 : decode cX2_init 1 = .ok (.invokespecial 1, 3) := by decide +kernel
theorem dX2_init_4 : decode cX2_init 4 = .ok (.return_, 1) := by decide +kernel
theorem q156 : (Jvm.Cond.initialized "CoarserOrders$Fault") ∈ lw_all := lw_g (lw_at lw_m1 6 rfl) rfl
theorem q236 : (Jvm.Cond.selects "CoarserOrders$Fault" ({ cls := "java/lang/Throwable", name := "fillInStackTrace", desc := "()Ljava/lang/Throwable;" } : Jvm.MethodName) ({ cls := "java/lang/Throwable", name := "fillInStackTrace", desc := "()Ljava/lang/Throwable;" } : Jvm.MethodName)) ∈ lw_all := lw_g (lw_at lw_m1 86 rfl) rfl
theorem q276 : (Jvm.Cond.sameField "CoarserOrders$Fault" "CoarserOrders$Refusal" "answer" "I") ∈ lw_all := lw_g (lw_at lw_m1 126 rfl) rfl
theorem q294 : (Jvm.Cond.instantiable "CoarserOrders$Fault" (7 : Nat)) ∈ lw_all := lw_g (lw_at lw_m1 144 rfl) rfl
theorem q295 : (Jvm.Cond.castable "CoarserOrders$Fault" "CoarserOrders$Fault") ∈ lw_tbl := lw_at lw_m1 145 rfl
theorem q297 : (Jvm.Cond.selects "CoarserOrders$Fault" ({ cls := "java/lang/Throwable", name := "fillInStackTrace", desc := "(I)Ljava/lang/Throwable;" } : Jvm.MethodName) ({ cls := "java/lang/Throwable", name := "fillInStackTrace", desc := "(I)Ljava/lang/Throwable;" } : Jvm.MethodName)) ∈ lw_all := lw_g (lw_at lw_m1 147 rfl) rfl
theorem q298 : (Jvm.Cond.lays "CoarserOrders$Fault" "java/lang/Throwable" "cause" "Ljava/lang/Throwable;") ∈ lw_all := lw_g (lw_at lw_m1 148 rfl) rfl
theorem q299 : (Jvm.Cond.lays "CoarserOrders$Fault" "java/lang/Throwable" "stackTrace" "[Ljava/lang/StackTraceElement;") ∈ lw_all := lw_g (lw_at lw_m1 149 rfl) rfl
theorem q300 : (Jvm.Cond.lays "CoarserOrders$Fault" "java/lang/Throwable" "suppressedExceptions" "Ljava/util/List;") ∈ lw_all := lw_g (lw_at lw_m1 150 rfl) rfl
theorem q301 : (Jvm.Cond.lays "CoarserOrders$Fault" "java/lang/Throwable" "detailMessage" "Ljava/lang/String;") ∈ lw_all := lw_g (lw_at lw_m1 151 rfl) rfl
theorem q302 : (Jvm.Cond.lays "CoarserOrders$Fault" "java/lang/Throwable" "backtrace" "Ljava/lang/Object;") ∈ lw_all := lw_g (lw_at lw_m1 152 rfl) rfl
theorem q304 : (Jvm.Cond.instanceMethod ({ cls := "CoarserOrders$Fault", name := "<init>", desc := "()V" } : Jvm.MethodName)) ∈ lw_all := lw_g (lw_at lw_m1 154 rfl) rfl
theorem q305 : (Jvm.Cond.code ({ cls := "CoarserOrders$Fault", name := "<init>", desc := "()V" } : Jvm.MethodName) prog_10_method_1_code (1 : Nat) (Option.none : Option Jvm.ClassFile.FieldType)) ∈ lw_all := lw_g (lw_at lw_m1 155 rfl) rfl
theorem q306 : (Jvm.Cond.methodLink "CoarserOrders$Fault" (1 : Nat) ({ cls := "CoarserOrders$Refusal", name := "<init>", desc := "()V" } : Jvm.MethodName)) ∈ lw_all := lw_g (lw_at lw_m1 156 rfl) rfl
theorem q307 : (Jvm.Cond.lays "CoarserOrders$Fault" "CoarserOrders$Refusal" "answer" "I") ∈ lw_all := lw_g (lw_at lw_m1 157 rfl) rfl
theorem q308 : (Jvm.Cond.lays "CoarserOrders$Fault" "java/lang/Throwable" "depth" "I") ∈ lw_all := lw_g (lw_at lw_m1 158 rfl) rfl
theorem q309 : (Jvm.Cond.superclass "CoarserOrders$Fault" "CoarserOrders$Refusal") ∈ lw_all := lw_g (lw_at lw_m1 159 rfl) rfl
theorem q1121 : (Jvm.Cond.sameMethod "CoarserOrders$Fault" "CoarserOrders$Refusal" "of" "(I)LCoarserOrders$Refusal;") ∈ lw_all := lw_g (lw_at lw_m5 11 rfl) rfl
theorem q1123 : (Jvm.Cond.selects "CoarserOrders$Fault" ({ cls := "CoarserOrders$Fault", name := "of", desc := "(I)LCoarserOrders$Refusal;" } : Jvm.MethodName) ({ cls := "CoarserOrders$Refusal", name := "of", desc := "(I)LCoarserOrders$Refusal;" } : Jvm.MethodName)) ∈ lw_all := lw_g (lw_at lw_m5 13 rfl) rfl
theorem q2611 : (Jvm.Cond.selects "CoarserOrders$Fault" ({ cls := "CoarserOrders$Refusal", name := "of", desc := "(I)LCoarserOrders$Refusal;" } : Jvm.MethodName) ({ cls := "CoarserOrders$Refusal", name := "of", desc := "(I)LCoarserOrders$Refusal;" } : Jvm.MethodName)) ∈ lw_all := lw_g (lw_at lw_m11 61 rfl) rfl
theorem q2616 : (Jvm.Cond.castable "CoarserOrders$Fault" "CoarserOrders$Refusal") ∈ lw_tbl := lw_at lw_m11 66 rfl

abbrev cX3_init : ByteArray := prog_17_method_1_code
def yX3_init : MethodName := ⟨RX3, "<init>", "()V"⟩
def dkwX3_init_1 : List UInt8 := [16, 6, 188, 10, 181, 0, 22, 177]
abbrev dktX3_init_1 : List UInt8 := dkwX3_init_1 ++ []
def dkwX3_init_0 : List UInt8 := [42, 183, 0, 3, 42, 7, 181, 0, 9, 42, 4, 181, 0, 15, 42, 16, 6, 188, 10, 181, 0, 18, 42]
abbrev dktX3_init_0 : List UInt8 := dkwX3_init_0 ++ dktX3_init_1
theorem dksX3_init_0 : cX3_init.data.toList.drop 0 = dktX3_init_0 := by decide +kernel
theorem dksX3_init_1 : cX3_init.data.toList.drop 23 = dktX3_init_1 := dk_seg dksX3_init_0 23 rfl rfl
theorem dX3_init_0 : decode cX3_init 0 = .ok (.aload_n 0, 1) := dk_42 (dk_at dksX3_init_0 0 rfl rfl)
theorem dX3_init_1 : decode cX3_init 1 = .ok (.invokespecial 3, 3) := dk_183 0 3 (dk_at dksX3_init_0 1 rfl rfl)
theorem dX3_init_4 : decode cX3_init 4 = .ok (.aload_n 0, 1) := dk_42 (dk_at dksX3_init_0 4 rfl rfl)
theorem dX3_init_5 : decode cX3_init 5 = .ok (.iconst 4, 1) := dk_7 (dk_at dksX3_init_0 5 rfl rfl)
theorem dX3_init_6 : decode cX3_init 6 = .ok (.putfield 9, 3) := dk_181 0 9 (dk_at dksX3_init_0 6 rfl rfl)
theorem dX3_init_9 : decode cX3_init 9 = .ok (.aload_n 0, 1) := dk_42 (dk_at dksX3_init_0 9 rfl rfl)
theorem dX3_init_10 : decode cX3_init 10 = .ok (.iconst 1, 1) := dk_4 (dk_at dksX3_init_0 10 rfl rfl)
theorem dX3_init_11 : decode cX3_init 11 = .ok (.putfield 15, 3) := dk_181 0 15 (dk_at dksX3_init_0 11 rfl rfl)
theorem dX3_init_14 : decode cX3_init 14 = .ok (.aload_n 0, 1) := dk_42 (dk_at dksX3_init_0 14 rfl rfl)
theorem dX3_init_15 : decode cX3_init 15 = .ok (.bipush 6, 2) := dk_16 6 (dk_at dksX3_init_0 15 rfl rfl)
theorem dX3_init_17 : decode cX3_init 17 = .ok (.newarray .int, 2) := dk_188_10 (dk_at dksX3_init_0 17 rfl rfl)
theorem dX3_init_19 : decode cX3_init 19 = .ok (.putfield 18, 3) := dk_181 0 18 (dk_at dksX3_init_0 19 rfl rfl)
theorem dX3_init_22 : decode cX3_init 22 = .ok (.aload_n 0, 1) := dk_42 (dk_at dksX3_init_0 22 rfl rfl)
theorem dX3_init_23 : decode cX3_init 23 = .ok (.bipush 6, 2) := dk_16 6 (dk_at dksX3_init_1 0 rfl rfl)
theorem dX3_init_25 : decode cX3_init 25 = .ok (.newarray .int, 2) := dk_188_10 (dk_at dksX3_init_1 2 rfl rfl)
theorem dX3_init_27 : decode cX3_init 27 = .ok (.putfield 22, 3) := dk_181 0 22 (dk_at dksX3_init_1 4 rfl rfl)
theorem dX3_init_30 : decode cX3_init 30 = .ok (.return_, 1) := dk_177 (dk_at dksX3_init_1 7 rfl rfl)
abbrev cX3_become : ByteArray := prog_17_method_2_code
def yX3_become : MethodName := ⟨RX3, "become", "(LCoarserOrders$Order;)V"⟩
def dkwX3_become_2 : List UInt8 := [180, 0, 22, 3, 42, 180, 0, 22, 3, 16, 6, 184, 0, 32, 177]
abbrev dktX3_become_2 : List UInt8 := dkwX3_become_2 ++ []
def dkwX3_become_1 : List UInt8 := [42, 43, 180, 0, 28, 181, 0, 28, 43, 180, 0, 18, 3, 42, 180, 0, 18, 3, 16, 6, 184, 0, 32, 43]
abbrev dktX3_become_1 : List UInt8 := dkwX3_become_1 ++ dktX3_become_2
def dkwX3_become_0 : List UInt8 := [42, 43, 180, 0, 9, 181, 0, 9, 42, 43, 180, 0, 25, 181, 0, 25, 42, 43, 180, 0, 15, 181, 0, 15]
abbrev dktX3_become_0 : List UInt8 := dkwX3_become_0 ++ dktX3_become_1
theorem dksX3_become_0 : cX3_become.data.toList.drop 0 = dktX3_become_0 := by decide +kernel
theorem dksX3_become_1 : cX3_become.data.toList.drop 24 = dktX3_become_1 := dk_seg dksX3_become_0 24 rfl rfl
theorem dksX3_become_2 : cX3_become.data.toList.drop 48 = dktX3_become_2 := dk_seg dksX3_become_1 24 rfl rfl
theorem dX3_become_0 : decode cX3_become 0 = .ok (.aload_n 0, 1) := dk_42 (dk_at dksX3_become_0 0 rfl rfl)
theorem dX3_become_1 : decode cX3_become 1 = .ok (.aload_n 1, 1) := dk_43 (dk_at dksX3_become_0 1 rfl rfl)
theorem dX3_become_2 : decode cX3_become 2 = .ok (.getfield 9, 3) := dk_180 0 9 (dk_at dksX3_become_0 2 rfl rfl)
theorem dX3_become_5 : decode cX3_become 5 = .ok (.putfield 9, 3) := dk_181 0 9 (dk_at dksX3_become_0 5 rfl rfl)
theorem dX3_become_8 : decode cX3_become 8 = .ok (.aload_n 0, 1) := dk_42 (dk_at dksX3_become_0 8 rfl rfl)
theorem dX3_become_9 : decode cX3_become 9 = .ok (.aload_n 1, 1) := dk_43 (dk_at dksX3_become_0 9 rfl rfl)
theorem dX3_become_10 : decode cX3_become 10 = .ok (.getfield 25, 3) := dk_180 0 25 (dk_at dksX3_become_0 10 rfl rfl)
theorem dX3_become_13 : decode cX3_become 13 = .ok (.putfield 25, 3) := dk_181 0 25 (dk_at dksX3_become_0 13 rfl rfl)
theorem dX3_become_16 : decode cX3_become 16 = .ok (.aload_n 0, 1) := dk_42 (dk_at dksX3_become_0 16 rfl rfl)
theorem dX3_become_17 : decode cX3_become 17 = .ok (.aload_n 1, 1) := dk_43 (dk_at dksX3_become_0 17 rfl rfl)
theorem dX3_become_18 : decode cX3_become 18 = .ok (.getfield 15, 3) := dk_180 0 15 (dk_at dksX3_become_0 18 rfl rfl)
theorem dX3_become_21 : decode cX3_become 21 = .ok (.putfield 15, 3) := dk_181 0 15 (dk_at dksX3_become_0 21 rfl rfl)
theorem dX3_become_24 : decode cX3_become 24 = .ok (.aload_n 0, 1) := dk_42 (dk_at dksX3_become_1 0 rfl rfl)
theorem dX3_become_25 : decode cX3_become 25 = .ok (.aload_n 1, 1) := dk_43 (dk_at dksX3_become_1 1 rfl rfl)
theorem dX3_become_26 : decode cX3_become 26 = .ok (.getfield 28, 3) := dk_180 0 28 (dk_at dksX3_become_1 2 rfl rfl)
theorem dX3_become_29 : decode cX3_become 29 = .ok (.putfield 28, 3) := dk_181 0 28 (dk_at dksX3_become_1 5 rfl rfl)
theorem dX3_become_32 : decode cX3_become 32 = .ok (.aload_n 1, 1) := dk_43 (dk_at dksX3_become_1 8 rfl rfl)
theorem dX3_become_33 : decode cX3_become 33 = .ok (.getfield 18, 3) := dk_180 0 18 (dk_at dksX3_become_1 9 rfl rfl)
theorem dX3_become_36 : decode cX3_become 36 = .ok (.iconst 0, 1) := dk_3 (dk_at dksX3_become_1 12 rfl rfl)
theorem dX3_become_37 : decode cX3_become 37 = .ok (.aload_n 0, 1) := dk_42 (dk_at dksX3_become_1 13 rfl rfl)
theorem dX3_become_38 : decode cX3_become 38 = .ok (.getfield 18, 3) := dk_180 0 18 (dk_at dksX3_become_1 14 rfl rfl)
theorem dX3_become_41 : decode cX3_become 41 = .ok (.iconst 0, 1) := dk_3 (dk_at dksX3_become_1 17 rfl rfl)
theorem dX3_become_42 : decode cX3_become 42 = .ok (.bipush 6, 2) := dk_16 6 (dk_at dksX3_become_1 18 rfl rfl)
theorem dX3_become_44 : decode cX3_become 44 = .ok (.invokestatic 32, 3) := dk_184 0 32 (dk_at dksX3_become_1 20 rfl rfl)
theorem dX3_become_47 : decode cX3_become 47 = .ok (.aload_n 1, 1) := dk_43 (dk_at dksX3_become_1 23 rfl rfl)
theorem dX3_become_48 : decode cX3_become 48 = .ok (.getfield 22, 3) := dk_180 0 22 (dk_at dksX3_become_2 0 rfl rfl)
theorem dX3_become_51 : decode cX3_become 51 = .ok (.iconst 0, 1) := dk_3 (dk_at dksX3_become_2 3 rfl rfl)
theorem dX3_become_52 : decode cX3_become 52 = .ok (.aload_n 0, 1) := dk_42 (dk_at dksX3_become_2 4 rfl rfl)
theorem dX3_become_53 : decode cX3_become 53 = .ok (.getfield 22, 3) := dk_180 0 22 (dk_at dksX3_become_2 5 rfl rfl)
theorem dX3_become_56 : decode cX3_become 56 = .ok (.iconst 0, 1) := dk_3 (dk_at dksX3_become_2 8 rfl rfl)
theorem dX3_become_57 : decode cX3_become 57 = .ok (.bipush 6, 2) := dk_16 6 (dk_at dksX3_become_2 9 rfl rfl)
theorem dX3_become_59 : decode cX3_become 59 = .ok (.invokestatic 32, 3) := dk_184 0 32 (dk_at dksX3_become_2 11 rfl rfl)
theorem dX3_become_62 : decode cX3_become 62 = .ok (.return_, 1) := dk_177 (dk_at dksX3_become_2 14 rfl rfl)
theorem q157 : (Jvm.Cond.initialized "CoarserOrders$Order") ∈ lw_all := lw_g (lw_at lw_m1 7 rfl) rfl
theorem q314 : (Jvm.Cond.instantiable "CoarserOrders$Order" (6 : Nat)) ∈ lw_all := lw_g (lw_at lw_m1 164 rfl) rfl
theorem q316 : (Jvm.Cond.instanceMethod ({ cls := "CoarserOrders$Order", name := "<init>", desc := "()V" } : Jvm.MethodName)) ∈ lw_all := lw_g (lw_at lw_m1 166 rfl) rfl
theorem q317 : (Jvm.Cond.code ({ cls := "CoarserOrders$Order", name := "<init>", desc := "()V" } : Jvm.MethodName) prog_17_method_1_code (1 : Nat) (Option.none : Option Jvm.ClassFile.FieldType)) ∈ lw_all := lw_g (lw_at lw_m1 167 rfl) rfl
theorem q318 : (Jvm.Cond.methodLink "CoarserOrders$Order" (3 : Nat) ({ cls := "java/lang/Object", name := "<init>", desc := "()V" } : Jvm.MethodName)) ∈ lw_all := lw_g (lw_at lw_m1 168 rfl) rfl
theorem q319 : (Jvm.Cond.fieldLink "CoarserOrders$Order" (9 : Nat) "CoarserOrders$Order" "n" "I") ∈ lw_all := lw_g (lw_at lw_m1 169 rfl) rfl
theorem q322 : (Jvm.Cond.fieldLink "CoarserOrders$Order" (25 : Nat) "CoarserOrders$Order" "makers" "I") ∈ lw_all := lw_g (lw_at lw_m1 172 rfl) rfl
theorem q324 : (Jvm.Cond.fieldLink "CoarserOrders$Order" (15 : Nat) "CoarserOrders$Order" "z" "I") ∈ lw_all := lw_g (lw_at lw_m1 174 rfl) rfl
theorem q326 : (Jvm.Cond.fieldLink "CoarserOrders$Order" (28 : Nat) "CoarserOrders$Order" "gone" "J") ∈ lw_all := lw_g (lw_at lw_m1 176 rfl) rfl
theorem q328 : (Jvm.Cond.fieldLink "CoarserOrders$Order" (18 : Nat) "CoarserOrders$Order" "kind" "[I") ∈ lw_all := lw_g (lw_at lw_m1 178 rfl) rfl
theorem q330 : (Jvm.Cond.fieldLink "CoarserOrders$Order" (22 : Nat) "CoarserOrders$Order" "mark" "[I") ∈ lw_all := lw_g (lw_at lw_m1 180 rfl) rfl
theorem q332 : (Jvm.Cond.lays "CoarserOrders$Order" "CoarserOrders$Order" "n" "I") ∈ lw_all := lw_g (lw_at lw_m1 182 rfl) rfl
theorem q333 : (Jvm.Cond.soleField "CoarserOrders$Order" "n") ∈ lw_all := lw_g (lw_at lw_m1 183 rfl) rfl
theorem q334 : (Jvm.Cond.lays "CoarserOrders$Order" "CoarserOrders$Order" "makers" "I") ∈ lw_all := lw_g (lw_at lw_m1 184 rfl) rfl
theorem q335 : (Jvm.Cond.soleField "CoarserOrders$Order" "makers") ∈ lw_all := lw_g (lw_at lw_m1 185 rfl) rfl
theorem q336 : (Jvm.Cond.lays "CoarserOrders$Order" "CoarserOrders$Order" "z" "I") ∈ lw_all := lw_g (lw_at lw_m1 186 rfl) rfl
theorem q337 : (Jvm.Cond.soleField "CoarserOrders$Order" "z") ∈ lw_all := lw_g (lw_at lw_m1 187 rfl) rfl
theorem q338 : (Jvm.Cond.lays "CoarserOrders$Order" "CoarserOrders$Order" "gone" "J") ∈ lw_all := lw_g (lw_at lw_m1 188 rfl) rfl
theorem q339 : (Jvm.Cond.soleField "CoarserOrders$Order" "gone") ∈ lw_all := lw_g (lw_at lw_m1 189 rfl) rfl
theorem q340 : (Jvm.Cond.laysFinal "CoarserOrders$Order" "CoarserOrders$Order" "kind" "[I") ∈ lw_all := lw_g (lw_at lw_m1 190 rfl) rfl
theorem q341 : (Jvm.Cond.soleField "CoarserOrders$Order" "kind") ∈ lw_all := lw_g (lw_at lw_m1 191 rfl) rfl
theorem q342 : (Jvm.Cond.laysFinal "CoarserOrders$Order" "CoarserOrders$Order" "mark" "[I") ∈ lw_all := lw_g (lw_at lw_m1 192 rfl) rfl
theorem q343 : (Jvm.Cond.soleField "CoarserOrders$Order" "mark") ∈ lw_all := lw_g (lw_at lw_m1 193 rfl) rfl
theorem q344 : (Jvm.Cond.superclass "CoarserOrders$Order" "java/lang/Object") ∈ lw_all := lw_g (lw_at lw_m1 194 rfl) rfl
theorem q1898 : (Jvm.Cond.instanceMethod ({ cls := "CoarserOrders$Order", name := "become", desc := "(LCoarserOrders$Order;)V" } : Jvm.MethodName)) ∈ lw_all := lw_g (lw_at lw_m8 68 rfl) rfl
theorem q1899 : (Jvm.Cond.selects "CoarserOrders$Order" ({ cls := "CoarserOrders$Order", name := "become", desc := "(LCoarserOrders$Order;)V" } : Jvm.MethodName) ({ cls := "CoarserOrders$Order", name := "become", desc := "(LCoarserOrders$Order;)V" } : Jvm.MethodName)) ∈ lw_all := lw_g (lw_at lw_m8 69 rfl) rfl
theorem q1900 : (Jvm.Cond.code ({ cls := "CoarserOrders$Order", name := "become", desc := "(LCoarserOrders$Order;)V" } : Jvm.MethodName) prog_17_method_2_code (2 : Nat) (Option.none : Option Jvm.ClassFile.FieldType)) ∈ lw_all := lw_g (lw_at lw_m8 70 rfl) rfl
theorem q1901 : (Jvm.Cond.methodLink "CoarserOrders$Order" (32 : Nat) ({ cls := "java/lang/System", name := "arraycopy", desc := "(Ljava/lang/Object;ILjava/lang/Object;II)V" } : Jvm.MethodName)) ∈ lw_all := lw_g (lw_at lw_m8 71 rfl) rfl

abbrev cX4_init : ByteArray := prog_27_method_1_code
def yX4_init : MethodName := ⟨RX4, "<init>", "()V"⟩
def dkwX4_init_0 : List UInt8 := [42, 183, 0, 1, 42, 16, 30, 188, 10, 181, 0, 7, 177]
abbrev dktX4_init_0 : List UInt8 := dkwX4_init_0 ++ []
theorem dksX4_init_0 : cX4_init.data.toList.drop 0 = dktX4_init_0 := by decide +kernel
theorem dX4_init_0 : decode cX4_init 0 = .ok (.aload_n 0, 1) := dk_42 (dk_at dksX4_init_0 0 rfl rfl)
theorem dX4_init_1 : decode cX4_init 1 = .ok (.invokespecial 1, 3) := dk_183 0 1 (dk_at dksX4_init_0 1 rfl rfl)
theorem dX4_init_4 : decode cX4_init 4 = .ok (.aload_n 0, 1) := dk_42 (dk_at dksX4_init_0 4 rfl rfl)
theorem dX4_init_5 : decode cX4_init 5 = .ok (.bipush 30, 2) := dk_16 30 (dk_at dksX4_init_0 5 rfl rfl)
theorem dX4_init_7 : decode cX4_init 7 = .ok (.newarray .int, 2) := dk_188_10 (dk_at dksX4_init_0 7 rfl rfl)
theorem dX4_init_9 : decode cX4_init 9 = .ok (.putfield 7, 3) := dk_181 0 7 (dk_at dksX4_init_0 9 rfl rfl)
theorem dX4_init_12 : decode cX4_init 12 = .ok (.return_, 1) := dk_177 (dk_at dksX4_init_0 12 rfl rfl)
abbrev cX4_ran : ByteArray := prog_27_method_2_code
def yX4_ran : MethodName := ⟨RX4, "ran", "(I)V"⟩
def dkwX4_ran_1 : List UInt8 := [89, 180, 0, 13, 4, 96, 181, 0, 13, 177]
abbrev dktX4_ran_1 : List UInt8 := dkwX4_ran_1 ++ []
def dkwX4_ran_0 : List UInt8 := [42, 180, 0, 13, 42, 180, 0, 7, 190, 160, 0, 4, 177, 42, 180, 0, 7, 42, 180, 0, 13, 27, 79, 42]
abbrev dktX4_ran_0 : List UInt8 := dkwX4_ran_0 ++ dktX4_ran_1
theorem dksX4_ran_0 : cX4_ran.data.toList.drop 0 = dktX4_ran_0 := by decide +kernel
theorem dksX4_ran_1 : cX4_ran.data.toList.drop 24 = dktX4_ran_1 := dk_seg dksX4_ran_0 24 rfl rfl
theorem dX4_ran_0 : decode cX4_ran 0 = .ok (.aload_n 0, 1) := dk_42 (dk_at dksX4_ran_0 0 rfl rfl)
theorem dX4_ran_1 : decode cX4_ran 1 = .ok (.getfield 13, 3) := dk_180 0 13 (dk_at dksX4_ran_0 1 rfl rfl)
theorem dX4_ran_4 : decode cX4_ran 4 = .ok (.aload_n 0, 1) := dk_42 (dk_at dksX4_ran_0 4 rfl rfl)
theorem dX4_ran_5 : decode cX4_ran 5 = .ok (.getfield 7, 3) := dk_180 0 7 (dk_at dksX4_ran_0 5 rfl rfl)
theorem dX4_ran_8 : decode cX4_ran 8 = .ok (.arraylength, 1) := dk_190 (dk_at dksX4_ran_0 8 rfl rfl)
theorem dX4_ran_9 : decode cX4_ran 9 = .ok (.if_icmp .ne 4, 3) := dk_160 0 4 (dk_at dksX4_ran_0 9 rfl rfl)
theorem dX4_ran_12 : decode cX4_ran 12 = .ok (.return_, 1) := dk_177 (dk_at dksX4_ran_0 12 rfl rfl)
theorem dX4_ran_13 : decode cX4_ran 13 = .ok (.aload_n 0, 1) := dk_42 (dk_at dksX4_ran_0 13 rfl rfl)
theorem dX4_ran_14 : decode cX4_ran 14 = .ok (.getfield 7, 3) := dk_180 0 7 (dk_at dksX4_ran_0 14 rfl rfl)
theorem dX4_ran_17 : decode cX4_ran 17 = .ok (.aload_n 0, 1) := dk_42 (dk_at dksX4_ran_0 17 rfl rfl)
theorem dX4_ran_18 : decode cX4_ran 18 = .ok (.getfield 13, 3) := dk_180 0 13 (dk_at dksX4_ran_0 18 rfl rfl)
theorem dX4_ran_21 : decode cX4_ran 21 = .ok (.iload_n 1, 1) := dk_27 (dk_at dksX4_ran_0 21 rfl rfl)
theorem dX4_ran_22 : decode cX4_ran 22 = .ok (.iastore, 1) := dk_79 (dk_at dksX4_ran_0 22 rfl rfl)
theorem dX4_ran_23 : decode cX4_ran 23 = .ok (.aload_n 0, 1) := dk_42 (dk_at dksX4_ran_0 23 rfl rfl)
theorem dX4_ran_24 : decode cX4_ran 24 = .ok (.dup, 1) := dk_89 (dk_at dksX4_ran_1 0 rfl rfl)
theorem dX4_ran_25 : decode cX4_ran 25 = .ok (.getfield 13, 3) := dk_180 0 13 (dk_at dksX4_ran_1 1 rfl rfl)
theorem dX4_ran_28 : decode cX4_ran 28 = .ok (.iconst 1, 1) := dk_4 (dk_at dksX4_ran_1 4 rfl rfl)
theorem dX4_ran_29 : decode cX4_ran 29 = .ok (.iadd, 1) := dk_96 (dk_at dksX4_ran_1 5 rfl rfl)
theorem dX4_ran_30 : decode cX4_ran 30 = .ok (.putfield 13, 3) := dk_181 0 13 (dk_at dksX4_ran_1 6 rfl rfl)
theorem dX4_ran_33 : decode cX4_ran 33 = .ok (.return_, 1) := dk_177 (dk_at dksX4_ran_1 9 rfl rfl)
theorem q158 : (Jvm.Cond.initialized "CoarserOrders$Trace") ∈ lw_all := lw_g (lw_at lw_m1 8 rfl) rfl
theorem q360 : (Jvm.Cond.instantiable "CoarserOrders$Trace" (2 : Nat)) ∈ lw_all := lw_g (lw_at lw_m1 210 rfl) rfl
theorem q362 : (Jvm.Cond.instanceMethod ({ cls := "CoarserOrders$Trace", name := "<init>", desc := "()V" } : Jvm.MethodName)) ∈ lw_all := lw_g (lw_at lw_m1 212 rfl) rfl
theorem q363 : (Jvm.Cond.code ({ cls := "CoarserOrders$Trace", name := "<init>", desc := "()V" } : Jvm.MethodName) prog_27_method_1_code (1 : Nat) (Option.none : Option Jvm.ClassFile.FieldType)) ∈ lw_all := lw_g (lw_at lw_m1 213 rfl) rfl
theorem q364 : (Jvm.Cond.methodLink "CoarserOrders$Trace" (1 : Nat) ({ cls := "java/lang/Object", name := "<init>", desc := "()V" } : Jvm.MethodName)) ∈ lw_all := lw_g (lw_at lw_m1 214 rfl) rfl
theorem q365 : (Jvm.Cond.fieldLink "CoarserOrders$Trace" (7 : Nat) "CoarserOrders$Trace" "bodies" "[I") ∈ lw_all := lw_g (lw_at lw_m1 215 rfl) rfl
theorem q367 : (Jvm.Cond.fieldLink "CoarserOrders$Trace" (13 : Nat) "CoarserOrders$Trace" "many" "I") ∈ lw_all := lw_g (lw_at lw_m1 217 rfl) rfl
theorem q369 : (Jvm.Cond.laysFinal "CoarserOrders$Trace" "CoarserOrders$Trace" "bodies" "[I") ∈ lw_all := lw_g (lw_at lw_m1 219 rfl) rfl
theorem q370 : (Jvm.Cond.soleField "CoarserOrders$Trace" "bodies") ∈ lw_all := lw_g (lw_at lw_m1 220 rfl) rfl
theorem q371 : (Jvm.Cond.lays "CoarserOrders$Trace" "CoarserOrders$Trace" "many" "I") ∈ lw_all := lw_g (lw_at lw_m1 221 rfl) rfl
theorem q372 : (Jvm.Cond.soleField "CoarserOrders$Trace" "many") ∈ lw_all := lw_g (lw_at lw_m1 222 rfl) rfl
theorem q373 : (Jvm.Cond.superclass "CoarserOrders$Trace" "java/lang/Object") ∈ lw_all := lw_g (lw_at lw_m1 223 rfl) rfl
theorem q1695 : (Jvm.Cond.instanceMethod ({ cls := "CoarserOrders$Trace", name := "ran", desc := "(I)V" } : Jvm.MethodName)) ∈ lw_all := lw_g (lw_at lw_m7 105 rfl) rfl
theorem q1696 : (Jvm.Cond.selects "CoarserOrders$Trace" ({ cls := "CoarserOrders$Trace", name := "ran", desc := "(I)V" } : Jvm.MethodName) ({ cls := "CoarserOrders$Trace", name := "ran", desc := "(I)V" } : Jvm.MethodName)) ∈ lw_all := lw_g (lw_at lw_m7 106 rfl) rfl
theorem q1697 : (Jvm.Cond.code ({ cls := "CoarserOrders$Trace", name := "ran", desc := "(I)V" } : Jvm.MethodName) prog_27_method_2_code (2 : Nat) (Option.none : Option Jvm.ClassFile.FieldType)) ∈ lw_all := lw_g (lw_at lw_m7 107 rfl) rfl

abbrev cX5_init : ByteArray := prog_22_method_1_code
def yX5_init : MethodName := ⟨RX5, "<init>", "()V"⟩
theorem dX5_init_0 : decode cX5_init 0 = .ok (.aload_n 0, 1) := by decide +kernel
theorem dX5_init_1 : decode cX5_init 1 = .ok (.invokespecial 1, 3) := by decide +kernel
theorem dX5_init_4 : decode cX5_init 4 = .ok (.return_, 1) := by decide +kernel
theorem q159 : (Jvm.Cond.initialized "CoarserOrders$Shelf") ∈ lw_all := lw_g (lw_at lw_m1 9 rfl) rfl
theorem q376 : (Jvm.Cond.instantiable "CoarserOrders$Shelf" (1 : Nat)) ∈ lw_all := lw_g (lw_at lw_m1 226 rfl) rfl
theorem q378 : (Jvm.Cond.instanceMethod ({ cls := "CoarserOrders$Shelf", name := "<init>", desc := "()V" } : Jvm.MethodName)) ∈ lw_all := lw_g (lw_at lw_m1 228 rfl) rfl
theorem q379 : (Jvm.Cond.code ({ cls := "CoarserOrders$Shelf", name := "<init>", desc := "()V" } : Jvm.MethodName) prog_22_method_1_code (1 : Nat) (Option.none : Option Jvm.ClassFile.FieldType)) ∈ lw_all := lw_g (lw_at lw_m1 229 rfl) rfl
theorem q380 : (Jvm.Cond.methodLink "CoarserOrders$Shelf" (1 : Nat) ({ cls := "java/lang/Object", name := "<init>", desc := "()V" } : Jvm.MethodName)) ∈ lw_all := lw_g (lw_at lw_m1 230 rfl) rfl
theorem q382 : (Jvm.Cond.lays "CoarserOrders$Shelf" "CoarserOrders$Shelf" "held" "Ljava/lang/Object;") ∈ lw_all := lw_g (lw_at lw_m1 232 rfl) rfl
theorem q383 : (Jvm.Cond.soleField "CoarserOrders$Shelf" "held") ∈ lw_all := lw_g (lw_at lw_m1 233 rfl) rfl
theorem q384 : (Jvm.Cond.superclass "CoarserOrders$Shelf" "java/lang/Object") ∈ lw_all := lw_g (lw_at lw_m1 234 rfl) rfl

abbrev cX6_init : ByteArray := prog_6_method_1_code
def yX6_init : MethodName := ⟨RX6, "<init>", "(IIII)V"⟩
def dkwX6_init_1 : List UInt8 := [181, 0, 19, 177]
abbrev dktX6_init_1 : List UInt8 := dkwX6_init_1 ++ []
def dkwX6_init_0 : List UInt8 := [42, 183, 0, 1, 42, 27, 181, 0, 7, 42, 28, 181, 0, 13, 42, 29, 181, 0, 16, 42, 21, 4]
abbrev dktX6_init_0 : List UInt8 := dkwX6_init_0 ++ dktX6_init_1
theorem dksX6_init_0 : cX6_init.data.toList.drop 0 = dktX6_init_0 := by decide +kernel
theorem dksX6_init_1 : cX6_init.data.toList.drop 22 = dktX6_init_1 := dk_seg dksX6_init_0 22 rfl rfl
theorem dX6_init_0 : decode cX6_init 0 = .ok (.aload_n 0, 1) := dk_42 (dk_at dksX6_init_0 0 rfl rfl)
theorem dX6_init_1 : decode cX6_init 1 = .ok (.invokespecial 1, 3) := dk_183 0 1 (dk_at dksX6_init_0 1 rfl rfl)
theorem dX6_init_4 : decode cX6_init 4 = .ok (.aload_n 0, 1) := dk_42 (dk_at dksX6_init_0 4 rfl rfl)
theorem dX6_init_5 : decode cX6_init 5 = .ok (.iload_n 1, 1) := dk_27 (dk_at dksX6_init_0 5 rfl rfl)
theorem dX6_init_6 : decode cX6_init 6 = .ok (.putfield 7, 3) := dk_181 0 7 (dk_at dksX6_init_0 6 rfl rfl)
theorem dX6_init_9 : decode cX6_init 9 = .ok (.aload_n 0, 1) := dk_42 (dk_at dksX6_init_0 9 rfl rfl)
theorem dX6_init_10 : decode cX6_init 10 = .ok (.iload_n 2, 1) := dk_28 (dk_at dksX6_init_0 10 rfl rfl)
theorem dX6_init_11 : decode cX6_init 11 = .ok (.putfield 13, 3) := dk_181 0 13 (dk_at dksX6_init_0 11 rfl rfl)
theorem dX6_init_14 : decode cX6_init 14 = .ok (.aload_n 0, 1) := dk_42 (dk_at dksX6_init_0 14 rfl rfl)
theorem dX6_init_15 : decode cX6_init 15 = .ok (.iload_n 3, 1) := dk_29 (dk_at dksX6_init_0 15 rfl rfl)
theorem dX6_init_16 : decode cX6_init 16 = .ok (.putfield 16, 3) := dk_181 0 16 (dk_at dksX6_init_0 16 rfl rfl)
theorem dX6_init_19 : decode cX6_init 19 = .ok (.aload_n 0, 1) := dk_42 (dk_at dksX6_init_0 19 rfl rfl)
theorem dX6_init_20 : decode cX6_init 20 = .ok (.iload 4, 2) := dk_21 4 (dk_at dksX6_init_0 20 rfl rfl)
theorem dX6_init_22 : decode cX6_init 22 = .ok (.putfield 19, 3) := dk_181 0 19 (dk_at dksX6_init_1 0 rfl rfl)
theorem dX6_init_25 : decode cX6_init 25 = .ok (.return_, 1) := dk_177 (dk_at dksX6_init_1 3 rfl rfl)
abbrev cX6_with : ByteArray := prog_6_method_6_code
def yX6_with : MethodName := ⟨RX6, "with", "(JZ)J"⟩
def dkwX6_with_3 : List UInt8 := [180, 0, 53, 42, 180, 0, 56, 22, 4, 4, 184, 0, 43, 4, 184, 0, 43, 173]
abbrev dktX6_with_3 : List UInt8 := dkwX6_with_3 ++ []
def dkwX6_with_2 : List UInt8 := [173, 42, 180, 0, 47, 42, 180, 0, 50, 22, 4, 4, 184, 0, 43, 4, 184, 0, 43, 55, 4, 42]
abbrev dktX6_with_2 : List UInt8 := dkwX6_with_2 ++ dktX6_with_3
def dkwX6_with_1 : List UInt8 := [55, 4, 29, 154, 0, 22, 42, 180, 0, 36, 42, 180, 0, 40, 22, 4, 3, 184, 0, 43, 3, 184, 0, 43]
abbrev dktX6_with_1 : List UInt8 := dkwX6_with_1 ++ dktX6_with_2
def dkwX6_with_0 : List UInt8 := [31, 42, 180, 0, 7, 125, 10, 127, 9, 148, 158, 0, 5, 31, 173, 31, 10, 42, 180, 0, 7, 121, 129]
abbrev dktX6_with_0 : List UInt8 := dkwX6_with_0 ++ dktX6_with_1
theorem dksX6_with_0 : cX6_with.data.toList.drop 0 = dktX6_with_0 := by decide +kernel
theorem dksX6_with_1 : cX6_with.data.toList.drop 23 = dktX6_with_1 := dk_seg dksX6_with_0 23 rfl rfl
theorem dksX6_with_2 : cX6_with.data.toList.drop 47 = dktX6_with_2 := dk_seg dksX6_with_1 24 rfl rfl
theorem dksX6_with_3 : cX6_with.data.toList.drop 69 = dktX6_with_3 := dk_seg dksX6_with_2 22 rfl rfl
theorem dX6_with_0 : decode cX6_with 0 = .ok (.lload_n 1, 1) := dk_31 (dk_at dksX6_with_0 0 rfl rfl)
theorem dX6_with_1 : decode cX6_with 1 = .ok (.aload_n 0, 1) := dk_42 (dk_at dksX6_with_0 1 rfl rfl)
theorem dX6_with_2 : decode cX6_with 2 = .ok (.getfield 7, 3) := dk_180 0 7 (dk_at dksX6_with_0 2 rfl rfl)
theorem dX6_with_5 : decode cX6_with 5 = .ok (.lushr, 1) := dk_125 (dk_at dksX6_with_0 5 rfl rfl)
theorem dX6_with_6 : decode cX6_with 6 = .ok (.lconst 1, 1) := dk_10 (dk_at dksX6_with_0 6 rfl rfl)
theorem dX6_with_7 : decode cX6_with 7 = .ok (.land, 1) := dk_127 (dk_at dksX6_with_0 7 rfl rfl)
theorem dX6_with_8 : decode cX6_with 8 = .ok (.lconst 0, 1) := dk_9 (dk_at dksX6_with_0 8 rfl rfl)
theorem dX6_with_9 : decode cX6_with 9 = .ok (.lcmp, 1) := dk_148 (dk_at dksX6_with_0 9 rfl rfl)
theorem dX6_with_10 : decode cX6_with 10 = .ok (.ifCond .le 5, 3) := dk_158 0 5 (dk_at dksX6_with_0 10 rfl rfl)
theorem dX6_with_13 : decode cX6_with 13 = .ok (.lload_n 1, 1) := dk_31 (dk_at dksX6_with_0 13 rfl rfl)
theorem dX6_with_14 : decode cX6_with 14 = .ok (.lreturn, 1) := dk_173 (dk_at dksX6_with_0 14 rfl rfl)
theorem dX6_with_15 : decode cX6_with 15 = .ok (.lload_n 1, 1) := dk_31 (dk_at dksX6_with_0 15 rfl rfl)
theorem dX6_with_16 : decode cX6_with 16 = .ok (.lconst 1, 1) := dk_10 (dk_at dksX6_with_0 16 rfl rfl)
theorem dX6_with_17 : decode cX6_with 17 = .ok (.aload_n 0, 1) := dk_42 (dk_at dksX6_with_0 17 rfl rfl)
theorem dX6_with_18 : decode cX6_with 18 = .ok (.getfield 7, 3) := dk_180 0 7 (dk_at dksX6_with_0 18 rfl rfl)
theorem dX6_with_21 : decode cX6_with 21 = .ok (.lshl, 1) := dk_121 (dk_at dksX6_with_0 21 rfl rfl)
theorem dX6_with_22 : decode cX6_with 22 = .ok (.lor, 1) := dk_129 (dk_at dksX6_with_0 22 rfl rfl)
theorem dX6_with_23 : decode cX6_with 23 = .ok (.lstore 4, 2) := dk_55 4 (dk_at dksX6_with_1 0 rfl rfl)
theorem dX6_with_25 : decode cX6_with 25 = .ok (.iload_n 3, 1) := dk_29 (dk_at dksX6_with_1 2 rfl rfl)
theorem dX6_with_26 : decode cX6_with 26 = .ok (.ifCond .ne 22, 3) := dk_154 0 22 (dk_at dksX6_with_1 3 rfl rfl)
theorem dX6_with_29 : decode cX6_with 29 = .ok (.aload_n 0, 1) := dk_42 (dk_at dksX6_with_1 6 rfl rfl)
theorem dX6_with_30 : decode cX6_with 30 = .ok (.getfield 36, 3) := dk_180 0 36 (dk_at dksX6_with_1 7 rfl rfl)
theorem dX6_with_33 : decode cX6_with 33 = .ok (.aload_n 0, 1) := dk_42 (dk_at dksX6_with_1 10 rfl rfl)
theorem dX6_with_34 : decode cX6_with 34 = .ok (.getfield 40, 3) := dk_180 0 40 (dk_at dksX6_with_1 11 rfl rfl)
theorem dX6_with_37 : decode cX6_with 37 = .ok (.lload 4, 2) := dk_22 4 (dk_at dksX6_with_1 14 rfl rfl)
theorem dX6_with_39 : decode cX6_with 39 = .ok (.iconst 0, 1) := dk_3 (dk_at dksX6_with_1 16 rfl rfl)
theorem dX6_with_40 : decode cX6_with 40 = .ok (.invokestatic 43, 3) := dk_184 0 43 (dk_at dksX6_with_1 17 rfl rfl)
theorem dX6_with_43 : decode cX6_with 43 = .ok (.iconst 0, 1) := dk_3 (dk_at dksX6_with_1 20 rfl rfl)
theorem dX6_with_44 : decode cX6_with 44 = .ok (.invokestatic 43, 3) := dk_184 0 43 (dk_at dksX6_with_1 21 rfl rfl)
theorem dX6_with_47 : decode cX6_with 47 = .ok (.lreturn, 1) := dk_173 (dk_at dksX6_with_2 0 rfl rfl)
theorem dX6_with_48 : decode cX6_with 48 = .ok (.aload_n 0, 1) := dk_42 (dk_at dksX6_with_2 1 rfl rfl)
theorem dX6_with_49 : decode cX6_with 49 = .ok (.getfield 47, 3) := dk_180 0 47 (dk_at dksX6_with_2 2 rfl rfl)
theorem dX6_with_52 : decode cX6_with 52 = .ok (.aload_n 0, 1) := dk_42 (dk_at dksX6_with_2 5 rfl rfl)
theorem dX6_with_53 : decode cX6_with 53 = .ok (.getfield 50, 3) := dk_180 0 50 (dk_at dksX6_with_2 6 rfl rfl)
theorem dX6_with_56 : decode cX6_with 56 = .ok (.lload 4, 2) := dk_22 4 (dk_at dksX6_with_2 9 rfl rfl)
theorem dX6_with_58 : decode cX6_with 58 = .ok (.iconst 1, 1) := dk_4 (dk_at dksX6_with_2 11 rfl rfl)
theorem dX6_with_59 : decode cX6_with 59 = .ok (.invokestatic 43, 3) := dk_184 0 43 (dk_at dksX6_with_2 12 rfl rfl)
theorem dX6_with_62 : decode cX6_with 62 = .ok (.iconst 1, 1) := dk_4 (dk_at dksX6_with_2 15 rfl rfl)
theorem dX6_with_63 : decode cX6_with 63 = .ok (.invokestatic 43, 3) := dk_184 0 43 (dk_at dksX6_with_2 16 rfl rfl)
theorem dX6_with_66 : decode cX6_with 66 = .ok (.lstore 4, 2) := dk_55 4 (dk_at dksX6_with_2 19 rfl rfl)
theorem dX6_with_68 : decode cX6_with 68 = .ok (.aload_n 0, 1) := dk_42 (dk_at dksX6_with_2 21 rfl rfl)
theorem dX6_with_69 : decode cX6_with 69 = .ok (.getfield 53, 3) := dk_180 0 53 (dk_at dksX6_with_3 0 rfl rfl)
theorem dX6_with_72 : decode cX6_with 72 = .ok (.aload_n 0, 1) := dk_42 (dk_at dksX6_with_3 3 rfl rfl)
theorem dX6_with_73 : decode cX6_with 73 = .ok (.getfield 56, 3) := dk_180 0 56 (dk_at dksX6_with_3 4 rfl rfl)
theorem dX6_with_76 : decode cX6_with 76 = .ok (.lload 4, 2) := dk_22 4 (dk_at dksX6_with_3 7 rfl rfl)
theorem dX6_with_78 : decode cX6_with 78 = .ok (.iconst 1, 1) := dk_4 (dk_at dksX6_with_3 9 rfl rfl)
theorem dX6_with_79 : decode cX6_with 79 = .ok (.invokestatic 43, 3) := dk_184 0 43 (dk_at dksX6_with_3 10 rfl rfl)
theorem dX6_with_82 : decode cX6_with 82 = .ok (.iconst 1, 1) := dk_4 (dk_at dksX6_with_3 13 rfl rfl)
theorem dX6_with_83 : decode cX6_with 83 = .ok (.invokestatic 43, 3) := dk_184 0 43 (dk_at dksX6_with_3 14 rfl rfl)
theorem dX6_with_86 : decode cX6_with 86 = .ok (.lreturn, 1) := dk_173 (dk_at dksX6_with_3 17 rfl rfl)
abbrev cX6_goesOn : ByteArray := prog_6_method_5_code
def yX6_goesOn : MethodName := ⟨RX6, "goesOn", "(LCoarserOrders$Arc;JZ)J"⟩
def dkwX6_goesOn_0 : List UInt8 := [42, 199, 0, 7, 31, 167, 0, 9, 42, 31, 29, 182, 0, 32, 173]
abbrev dktX6_goesOn_0 : List UInt8 := dkwX6_goesOn_0 ++ []
theorem dksX6_goesOn_0 : cX6_goesOn.data.toList.drop 0 = dktX6_goesOn_0 := by decide +kernel
theorem dX6_goesOn_0 : decode cX6_goesOn 0 = .ok (.aload_n 0, 1) := dk_42 (dk_at dksX6_goesOn_0 0 rfl rfl)
theorem dX6_goesOn_1 : decode cX6_goesOn 1 = .ok (.ifnonnull 7, 3) := dk_199 0 7 (dk_at dksX6_goesOn_0 1 rfl rfl)
theorem dX6_goesOn_4 : decode cX6_goesOn 4 = .ok (.lload_n 1, 1) := dk_31 (dk_at dksX6_goesOn_0 4 rfl rfl)
theorem dX6_goesOn_5 : decode cX6_goesOn 5 = .ok (.goto 9, 3) := dk_167 0 9 (dk_at dksX6_goesOn_0 5 rfl rfl)
theorem dX6_goesOn_8 : decode cX6_goesOn 8 = .ok (.aload_n 0, 1) := dk_42 (dk_at dksX6_goesOn_0 8 rfl rfl)
theorem dX6_goesOn_9 : decode cX6_goesOn 9 = .ok (.lload_n 1, 1) := dk_31 (dk_at dksX6_goesOn_0 9 rfl rfl)
theorem dX6_goesOn_10 : decode cX6_goesOn 10 = .ok (.iload_n 3, 1) := dk_29 (dk_at dksX6_goesOn_0 10 rfl rfl)
theorem dX6_goesOn_11 : decode cX6_goesOn 11 = .ok (.invokevirtual 32, 3) := dk_182 0 32 (dk_at dksX6_goesOn_0 11 rfl rfl)
theorem dX6_goesOn_14 : decode cX6_goesOn 14 = .ok (.lreturn, 1) := dk_173 (dk_at dksX6_goesOn_0 14 rfl rfl)
abbrev cX6_isLeft : ByteArray := prog_6_method_4_code
def yX6_isLeft : MethodName := ⟨RX6, "isLeft", "(I)Z"⟩
def dkwX6_isLeft_0 : List UInt8 := [42, 180, 0, 19, 27, 42, 180, 0, 13, 100, 4, 100, 122, 4, 126, 158, 0, 7, 4, 167, 0, 4, 3, 172]
abbrev dktX6_isLeft_0 : List UInt8 := dkwX6_isLeft_0 ++ []
theorem dksX6_isLeft_0 : cX6_isLeft.data.toList.drop 0 = dktX6_isLeft_0 := by decide +kernel
theorem dX6_isLeft_0 : decode cX6_isLeft 0 = .ok (.aload_n 0, 1) := dk_42 (dk_at dksX6_isLeft_0 0 rfl rfl)
theorem dX6_isLeft_1 : decode cX6_isLeft 1 = .ok (.getfield 19, 3) := dk_180 0 19 (dk_at dksX6_isLeft_0 1 rfl rfl)
theorem dX6_isLeft_4 : decode cX6_isLeft 4 = .ok (.iload_n 1, 1) := dk_27 (dk_at dksX6_isLeft_0 4 rfl rfl)
theorem dX6_isLeft_5 : decode cX6_isLeft 5 = .ok (.aload_n 0, 1) := dk_42 (dk_at dksX6_isLeft_0 5 rfl rfl)
theorem dX6_isLeft_6 : decode cX6_isLeft 6 = .ok (.getfield 13, 3) := dk_180 0 13 (dk_at dksX6_isLeft_0 6 rfl rfl)
theorem dX6_isLeft_9 : decode cX6_isLeft 9 = .ok (.isub, 1) := dk_100 (dk_at dksX6_isLeft_0 9 rfl rfl)
theorem dX6_isLeft_10 : decode cX6_isLeft 10 = .ok (.iconst 1, 1) := dk_4 (dk_at dksX6_isLeft_0 10 rfl rfl)
theorem dX6_isLeft_11 : decode cX6_isLeft 11 = .ok (.isub, 1) := dk_100 (dk_at dksX6_isLeft_0 11 rfl rfl)
theorem dX6_isLeft_12 : decode cX6_isLeft 12 = .ok (.ishr, 1) := dk_122 (dk_at dksX6_isLeft_0 12 rfl rfl)
theorem dX6_isLeft_13 : decode cX6_isLeft 13 = .ok (.iconst 1, 1) := dk_4 (dk_at dksX6_isLeft_0 13 rfl rfl)
theorem dX6_isLeft_14 : decode cX6_isLeft 14 = .ok (.iand, 1) := dk_126 (dk_at dksX6_isLeft_0 14 rfl rfl)
theorem dX6_isLeft_15 : decode cX6_isLeft 15 = .ok (.ifCond .le 7, 3) := dk_158 0 7 (dk_at dksX6_isLeft_0 15 rfl rfl)
theorem dX6_isLeft_18 : decode cX6_isLeft 18 = .ok (.iconst 1, 1) := dk_4 (dk_at dksX6_isLeft_0 18 rfl rfl)
theorem dX6_isLeft_19 : decode cX6_isLeft 19 = .ok (.goto 4, 3) := dk_167 0 4 (dk_at dksX6_isLeft_0 19 rfl rfl)
theorem dX6_isLeft_22 : decode cX6_isLeft 22 = .ok (.iconst 0, 1) := dk_3 (dk_at dksX6_isLeft_0 22 rfl rfl)
theorem dX6_isLeft_23 : decode cX6_isLeft 23 = .ok (.ireturn, 1) := dk_172 (dk_at dksX6_isLeft_0 23 rfl rfl)
abbrev cX6_lefts : ByteArray := prog_6_method_2_code
def yX6_lefts : MethodName := ⟨RX6, "lefts", "()I"⟩
def dkwX6_lefts_0 : List UInt8 := [42, 180, 0, 19, 184, 0, 22, 172]
abbrev dktX6_lefts_0 : List UInt8 := dkwX6_lefts_0 ++ []
theorem dksX6_lefts_0 : cX6_lefts.data.toList.drop 0 = dktX6_lefts_0 := by decide +kernel
theorem dX6_lefts_0 : decode cX6_lefts 0 = .ok (.aload_n 0, 1) := dk_42 (dk_at dksX6_lefts_0 0 rfl rfl)
theorem dX6_lefts_1 : decode cX6_lefts 1 = .ok (.getfield 19, 3) := dk_180 0 19 (dk_at dksX6_lefts_0 1 rfl rfl)
theorem dX6_lefts_4 : decode cX6_lefts 4 = .ok (.invokestatic 22, 3) := dk_184 0 22 (dk_at dksX6_lefts_0 4 rfl rfl)
theorem dX6_lefts_7 : decode cX6_lefts 7 = .ok (.ireturn, 1) := dk_172 (dk_at dksX6_lefts_0 7 rfl rfl)
abbrev cX6_rights : ByteArray := prog_6_method_3_code
def yX6_rights : MethodName := ⟨RX6, "rights", "()I"⟩
def dkwX6_rights_0 : List UInt8 := [42, 180, 0, 16, 42, 180, 0, 13, 100, 4, 100, 42, 182, 0, 28, 100, 172]
abbrev dktX6_rights_0 : List UInt8 := dkwX6_rights_0 ++ []
theorem dksX6_rights_0 : cX6_rights.data.toList.drop 0 = dktX6_rights_0 := by decide +kernel
theorem dX6_rights_0 : decode cX6_rights 0 = .ok (.aload_n 0, 1) := dk_42 (dk_at dksX6_rights_0 0 rfl rfl)
theorem dX6_rights_1 : decode cX6_rights 1 = .ok (.getfield 16, 3) := dk_180 0 16 (dk_at dksX6_rights_0 1 rfl rfl)
theorem dX6_rights_4 : decode cX6_rights 4 = .ok (.aload_n 0, 1) := dk_42 (dk_at dksX6_rights_0 4 rfl rfl)
theorem dX6_rights_5 : decode cX6_rights 5 = .ok (.getfield 13, 3) := dk_180 0 13 (dk_at dksX6_rights_0 5 rfl rfl)
theorem dX6_rights_8 : decode cX6_rights 8 = .ok (.isub, 1) := dk_100 (dk_at dksX6_rights_0 8 rfl rfl)
theorem dX6_rights_9 : decode cX6_rights 9 = .ok (.iconst 1, 1) := dk_4 (dk_at dksX6_rights_0 9 rfl rfl)
theorem dX6_rights_10 : decode cX6_rights 10 = .ok (.isub, 1) := dk_100 (dk_at dksX6_rights_0 10 rfl rfl)
theorem dX6_rights_11 : decode cX6_rights 11 = .ok (.aload_n 0, 1) := dk_42 (dk_at dksX6_rights_0 11 rfl rfl)
theorem dX6_rights_12 : decode cX6_rights 12 = .ok (.invokevirtual 28, 3) := dk_182 0 28 (dk_at dksX6_rights_0 12 rfl rfl)
theorem dX6_rights_15 : decode cX6_rights 15 = .ok (.isub, 1) := dk_100 (dk_at dksX6_rights_0 15 rfl rfl)
theorem dX6_rights_16 : decode cX6_rights 16 = .ok (.ireturn, 1) := dk_172 (dk_at dksX6_rights_0 16 rfl rfl)
theorem q160 : (Jvm.Cond.initialized "CoarserOrders$Arc") ∈ lw_all := lw_g (lw_at lw_m1 10 rfl) rfl
theorem q397 : (Jvm.Cond.instantiable "CoarserOrders$Arc" (12 : Nat)) ∈ lw_all := lw_g (lw_at lw_m2 7 rfl) rfl
theorem q399 : (Jvm.Cond.instanceMethod ({ cls := "CoarserOrders$Arc", name := "<init>", desc := "(IIII)V" } : Jvm.MethodName)) ∈ lw_all := lw_g (lw_at lw_m2 9 rfl) rfl
theorem q400 : (Jvm.Cond.code ({ cls := "CoarserOrders$Arc", name := "<init>", desc := "(IIII)V" } : Jvm.MethodName) prog_6_method_1_code (5 : Nat) (Option.none : Option Jvm.ClassFile.FieldType)) ∈ lw_all := lw_g (lw_at lw_m2 10 rfl) rfl
theorem q401 : (Jvm.Cond.methodLink "CoarserOrders$Arc" (1 : Nat) ({ cls := "java/lang/Object", name := "<init>", desc := "()V" } : Jvm.MethodName)) ∈ lw_all := lw_g (lw_at lw_m2 11 rfl) rfl
theorem q402 : (Jvm.Cond.fieldLink "CoarserOrders$Arc" (7 : Nat) "CoarserOrders$Arc" "number" "I") ∈ lw_all := lw_g (lw_at lw_m2 12 rfl) rfl
theorem q403 : (Jvm.Cond.fieldLink "CoarserOrders$Arc" (13 : Nat) "CoarserOrders$Arc" "low" "I") ∈ lw_all := lw_g (lw_at lw_m2 13 rfl) rfl
theorem q407 : (Jvm.Cond.fieldLink "CoarserOrders$Arc" (16 : Nat) "CoarserOrders$Arc" "high" "I") ∈ lw_all := lw_g (lw_at lw_m2 17 rfl) rfl
theorem q411 : (Jvm.Cond.fieldLink "CoarserOrders$Arc" (19 : Nat) "CoarserOrders$Arc" "left" "I") ∈ lw_all := lw_g (lw_at lw_m2 21 rfl) rfl
theorem q413 : (Jvm.Cond.fieldLink "CoarserOrders$Arc" (50 : Nat) "CoarserOrders$Arc" "lowerFree" "LCoarserOrders$Arc;") ∈ lw_all := lw_g (lw_at lw_m2 23 rfl) rfl
theorem q415 : (Jvm.Cond.fieldLink "CoarserOrders$Arc" (47 : Nat) "CoarserOrders$Arc" "lowerLeft" "LCoarserOrders$Arc;") ∈ lw_all := lw_g (lw_at lw_m2 25 rfl) rfl
theorem q417 : (Jvm.Cond.fieldLink "CoarserOrders$Arc" (56 : Nat) "CoarserOrders$Arc" "higherFree" "LCoarserOrders$Arc;") ∈ lw_all := lw_g (lw_at lw_m2 27 rfl) rfl
theorem q419 : (Jvm.Cond.fieldLink "CoarserOrders$Arc" (53 : Nat) "CoarserOrders$Arc" "higherLeft" "LCoarserOrders$Arc;") ∈ lw_all := lw_g (lw_at lw_m2 29 rfl) rfl
theorem q421 : (Jvm.Cond.fieldLink "CoarserOrders$Arc" (40 : Nat) "CoarserOrders$Arc" "without" "LCoarserOrders$Arc;") ∈ lw_all := lw_g (lw_at lw_m2 31 rfl) rfl
theorem q423 : (Jvm.Cond.fieldLink "CoarserOrders$Arc" (36 : Nat) "CoarserOrders$Arc" "within" "LCoarserOrders$Arc;") ∈ lw_all := lw_g (lw_at lw_m2 33 rfl) rfl
theorem q427 : (Jvm.Cond.laysFinal "CoarserOrders$Arc" "CoarserOrders$Arc" "number" "I") ∈ lw_all := lw_g (lw_at lw_m2 37 rfl) rfl
theorem q428 : (Jvm.Cond.soleField "CoarserOrders$Arc" "number") ∈ lw_all := lw_g (lw_at lw_m2 38 rfl) rfl
theorem q429 : (Jvm.Cond.laysFinal "CoarserOrders$Arc" "CoarserOrders$Arc" "low" "I") ∈ lw_all := lw_g (lw_at lw_m2 39 rfl) rfl
theorem q430 : (Jvm.Cond.soleField "CoarserOrders$Arc" "low") ∈ lw_all := lw_g (lw_at lw_m2 40 rfl) rfl
theorem q431 : (Jvm.Cond.laysFinal "CoarserOrders$Arc" "CoarserOrders$Arc" "high" "I") ∈ lw_all := lw_g (lw_at lw_m2 41 rfl) rfl
theorem q432 : (Jvm.Cond.soleField "CoarserOrders$Arc" "high") ∈ lw_all := lw_g (lw_at lw_m2 42 rfl) rfl
theorem q433 : (Jvm.Cond.laysFinal "CoarserOrders$Arc" "CoarserOrders$Arc" "left" "I") ∈ lw_all := lw_g (lw_at lw_m2 43 rfl) rfl
theorem q434 : (Jvm.Cond.soleField "CoarserOrders$Arc" "left") ∈ lw_all := lw_g (lw_at lw_m2 44 rfl) rfl
theorem q435 : (Jvm.Cond.lays "CoarserOrders$Arc" "CoarserOrders$Arc" "lowerFree" "LCoarserOrders$Arc;") ∈ lw_all := lw_g (lw_at lw_m2 45 rfl) rfl
theorem q436 : (Jvm.Cond.soleField "CoarserOrders$Arc" "lowerFree") ∈ lw_all := lw_g (lw_at lw_m2 46 rfl) rfl
theorem q437 : (Jvm.Cond.lays "CoarserOrders$Arc" "CoarserOrders$Arc" "lowerLeft" "LCoarserOrders$Arc;") ∈ lw_all := lw_g (lw_at lw_m2 47 rfl) rfl
theorem q438 : (Jvm.Cond.soleField "CoarserOrders$Arc" "lowerLeft") ∈ lw_all := lw_g (lw_at lw_m2 48 rfl) rfl
theorem q439 : (Jvm.Cond.lays "CoarserOrders$Arc" "CoarserOrders$Arc" "higherFree" "LCoarserOrders$Arc;") ∈ lw_all := lw_g (lw_at lw_m2 49 rfl) rfl
theorem q440 : (Jvm.Cond.soleField "CoarserOrders$Arc" "higherFree") ∈ lw_all := lw_g (lw_at lw_m2 50 rfl) rfl
theorem q441 : (Jvm.Cond.lays "CoarserOrders$Arc" "CoarserOrders$Arc" "higherLeft" "LCoarserOrders$Arc;") ∈ lw_all := lw_g (lw_at lw_m2 51 rfl) rfl
theorem q442 : (Jvm.Cond.soleField "CoarserOrders$Arc" "higherLeft") ∈ lw_all := lw_g (lw_at lw_m2 52 rfl) rfl
theorem q443 : (Jvm.Cond.lays "CoarserOrders$Arc" "CoarserOrders$Arc" "without" "LCoarserOrders$Arc;") ∈ lw_all := lw_g (lw_at lw_m2 53 rfl) rfl
theorem q444 : (Jvm.Cond.soleField "CoarserOrders$Arc" "without") ∈ lw_all := lw_g (lw_at lw_m2 54 rfl) rfl
theorem q445 : (Jvm.Cond.lays "CoarserOrders$Arc" "CoarserOrders$Arc" "within" "LCoarserOrders$Arc;") ∈ lw_all := lw_g (lw_at lw_m2 55 rfl) rfl
theorem q446 : (Jvm.Cond.soleField "CoarserOrders$Arc" "within") ∈ lw_all := lw_g (lw_at lw_m2 56 rfl) rfl
theorem q447 : (Jvm.Cond.lays "CoarserOrders$Arc" "CoarserOrders$Arc" "forced" "J") ∈ lw_all := lw_g (lw_at lw_m2 57 rfl) rfl
theorem q448 : (Jvm.Cond.soleField "CoarserOrders$Arc" "forced") ∈ lw_all := lw_g (lw_at lw_m2 58 rfl) rfl
theorem q449 : (Jvm.Cond.lays "CoarserOrders$Arc" "CoarserOrders$Arc" "forcing" "J") ∈ lw_all := lw_g (lw_at lw_m2 59 rfl) rfl
theorem q450 : (Jvm.Cond.soleField "CoarserOrders$Arc" "forcing") ∈ lw_all := lw_g (lw_at lw_m2 60 rfl) rfl
theorem q451 : (Jvm.Cond.superclass "CoarserOrders$Arc" "java/lang/Object") ∈ lw_all := lw_g (lw_at lw_m2 61 rfl) rfl
theorem q461 : (Jvm.Cond.instanceMethod ({ cls := "CoarserOrders$Arc", name := "with", desc := "(JZ)J" } : Jvm.MethodName)) ∈ lw_all := lw_g (lw_at lw_m2 71 rfl) rfl
theorem q462 : (Jvm.Cond.selects "CoarserOrders$Arc" ({ cls := "CoarserOrders$Arc", name := "with", desc := "(JZ)J" } : Jvm.MethodName) ({ cls := "CoarserOrders$Arc", name := "with", desc := "(JZ)J" } : Jvm.MethodName)) ∈ lw_all := lw_g (lw_at lw_m2 72 rfl) rfl
theorem q463 : (Jvm.Cond.code ({ cls := "CoarserOrders$Arc", name := "with", desc := "(JZ)J" } : Jvm.MethodName) prog_6_method_6_code (6 : Nat) (Option.some Jvm.ClassFile.FieldType.long)) ∈ lw_all := lw_g (lw_at lw_m2 73 rfl) rfl
theorem q464 : (Jvm.Cond.methodLink "CoarserOrders$Arc" (43 : Nat) ({ cls := "CoarserOrders$Arc", name := "goesOn", desc := "(LCoarserOrders$Arc;JZ)J" } : Jvm.MethodName)) ∈ lw_all := lw_g (lw_at lw_m2 74 rfl) rfl
theorem q465 : (Jvm.Cond.static ({ cls := "CoarserOrders$Arc", name := "goesOn", desc := "(LCoarserOrders$Arc;JZ)J" } : Jvm.MethodName)) ∈ lw_all := lw_g (lw_at lw_m2 75 rfl) rfl
theorem q466 : (Jvm.Cond.code ({ cls := "CoarserOrders$Arc", name := "goesOn", desc := "(LCoarserOrders$Arc;JZ)J" } : Jvm.MethodName) prog_6_method_5_code (4 : Nat) (Option.some Jvm.ClassFile.FieldType.long)) ∈ lw_all := lw_g (lw_at lw_m2 76 rfl) rfl
theorem q467 : (Jvm.Cond.methodLink "CoarserOrders$Arc" (32 : Nat) ({ cls := "CoarserOrders$Arc", name := "with", desc := "(JZ)J" } : Jvm.MethodName)) ∈ lw_all := lw_g (lw_at lw_m2 77 rfl) rfl
theorem q777 : (Jvm.Cond.instanceMethod ({ cls := "CoarserOrders$Arc", name := "isLeft", desc := "(I)Z" } : Jvm.MethodName)) ∈ lw_all := lw_g (lw_at lw_m3 147 rfl) rfl
theorem q778 : (Jvm.Cond.selects "CoarserOrders$Arc" ({ cls := "CoarserOrders$Arc", name := "isLeft", desc := "(I)Z" } : Jvm.MethodName) ({ cls := "CoarserOrders$Arc", name := "isLeft", desc := "(I)Z" } : Jvm.MethodName)) ∈ lw_all := lw_g (lw_at lw_m3 148 rfl) rfl
theorem q779 : (Jvm.Cond.code ({ cls := "CoarserOrders$Arc", name := "isLeft", desc := "(I)Z" } : Jvm.MethodName) prog_6_method_4_code (2 : Nat) (Option.some Jvm.ClassFile.FieldType.boolean)) ∈ lw_all := lw_g (lw_at lw_m3 149 rfl) rfl
theorem q947 : (Jvm.Cond.instanceMethod ({ cls := "CoarserOrders$Arc", name := "lefts", desc := "()I" } : Jvm.MethodName)) ∈ lw_all := lw_g (lw_at lw_m4 77 rfl) rfl
theorem q948 : (Jvm.Cond.selects "CoarserOrders$Arc" ({ cls := "CoarserOrders$Arc", name := "lefts", desc := "()I" } : Jvm.MethodName) ({ cls := "CoarserOrders$Arc", name := "lefts", desc := "()I" } : Jvm.MethodName)) ∈ lw_all := lw_g (lw_at lw_m4 78 rfl) rfl
theorem q949 : (Jvm.Cond.code ({ cls := "CoarserOrders$Arc", name := "lefts", desc := "()I" } : Jvm.MethodName) prog_6_method_2_code (1 : Nat) (Option.some Jvm.ClassFile.FieldType.int)) ∈ lw_all := lw_g (lw_at lw_m4 79 rfl) rfl
theorem q950 : (Jvm.Cond.methodLink "CoarserOrders$Arc" (22 : Nat) ({ cls := "java/lang/Integer", name := "bitCount", desc := "(I)I" } : Jvm.MethodName)) ∈ lw_all := lw_g (lw_at lw_m4 80 rfl) rfl
theorem q970 : (Jvm.Cond.instanceMethod ({ cls := "CoarserOrders$Arc", name := "rights", desc := "()I" } : Jvm.MethodName)) ∈ lw_all := lw_g (lw_at lw_m4 100 rfl) rfl
theorem q971 : (Jvm.Cond.selects "CoarserOrders$Arc" ({ cls := "CoarserOrders$Arc", name := "rights", desc := "()I" } : Jvm.MethodName) ({ cls := "CoarserOrders$Arc", name := "rights", desc := "()I" } : Jvm.MethodName)) ∈ lw_all := lw_g (lw_at lw_m4 101 rfl) rfl
theorem q972 : (Jvm.Cond.code ({ cls := "CoarserOrders$Arc", name := "rights", desc := "()I" } : Jvm.MethodName) prog_6_method_3_code (1 : Nat) (Option.some Jvm.ClassFile.FieldType.int)) ∈ lw_all := lw_g (lw_at lw_m4 102 rfl) rfl
theorem q973 : (Jvm.Cond.methodLink "CoarserOrders$Arc" (28 : Nat) ({ cls := "CoarserOrders$Arc", name := "lefts", desc := "()I" } : Jvm.MethodName)) ∈ lw_all := lw_g (lw_at lw_m4 103 rfl) rfl

abbrev cX8_init : ByteArray := prog_19_method_1_code
def yX8_init : MethodName := ⟨RX8, "<init>", "(II)V"⟩
def dkwX8_init_0 : List UInt8 := [42, 183, 0, 1, 42, 27, 181, 0, 7, 42, 28, 181, 0, 13, 177]
abbrev dktX8_init_0 : List UInt8 := dkwX8_init_0 ++ []
theorem dksX8_init_0 : cX8_init.data.toList.drop 0 = dktX8_init_0 := by decide +kernel
theorem dX8_init_0 : decode cX8_init 0 = .ok (.aload_n 0, 1) := dk_42 (dk_at dksX8_init_0 0 rfl rfl)
theorem dX8_init_1 : decode cX8_init 1 = .ok (.invokespecial 1, 3) := dk_183 0 1 (dk_at dksX8_init_0 1 rfl rfl)
theorem dX8_init_4 : decode cX8_init 4 = .ok (.aload_n 0, 1) := dk_42 (dk_at dksX8_init_0 4 rfl rfl)
theorem dX8_init_5 : decode cX8_init 5 = .ok (.iload_n 1, 1) := dk_27 (dk_at dksX8_init_0 5 rfl rfl)
theorem dX8_init_6 : decode cX8_init 6 = .ok (.putfield 7, 3) := dk_181 0 7 (dk_at dksX8_init_0 6 rfl rfl)
theorem dX8_init_9 : decode cX8_init 9 = .ok (.aload_n 0, 1) := dk_42 (dk_at dksX8_init_0 9 rfl rfl)
theorem dX8_init_10 : decode cX8_init 10 = .ok (.iload_n 2, 1) := dk_28 (dk_at dksX8_init_0 10 rfl rfl)
theorem dX8_init_11 : decode cX8_init 11 = .ok (.putfield 13, 3) := dk_181 0 13 (dk_at dksX8_init_0 11 rfl rfl)
theorem dX8_init_14 : decode cX8_init 14 = .ok (.return_, 1) := dk_177 (dk_at dksX8_init_0 14 rfl rfl)
abbrev cX8_kind : ByteArray := prog_19_method_4_code
def yX8_kind : MethodName := ⟨RX8, "kind", "()I"⟩
theorem dX8_kind_0 : decode cX8_kind 0 = .ok (.iconst 0, 1) := by decide +kernel
theorem dX8_kind_1 : decode cX8_kind 1 = .ok (.ireturn, 1) := by decide +kernel
abbrev cX8_mark : ByteArray := prog_19_method_3_code
def yX8_mark : MethodName := ⟨RX8, "mark", "()I"⟩
theorem dX8_mark_0 : decode cX8_mark 0 = .ok (.aload_n 0, 1) := by decide +kernel
theorem dX8_mark_1 : decode cX8_mark 1 = .ok (.getfield 13, 3) := by decide +kernel
theorem dX8_mark_4 : decode cX8_mark 4 = .ok (.ireturn, 1) := by decide +kernel
abbrev cX8_takes : ByteArray := prog_19_method_5_code
def yX8_takes : MethodName := ⟨RX8, "takes", "(LCoarserOrders$Arc;)Z"⟩
theorem dX8_takes_0 : decode cX8_takes 0 = .ok (.iconst 0, 1) := by decide +kernel
theorem dX8_takes_1 : decode cX8_takes 1 = .ok (.ireturn, 1) := by decide +kernel
abbrev cX8_number : ByteArray := prog_19_method_2_code
def yX8_number : MethodName := ⟨RX8, "number", "()I"⟩
theorem dX8_number_0 : decode cX8_number 0 = .ok (.aload_n 0, 1) := by decide +kernel
theorem dX8_number_1 : decode cX8_number 1 = .ok (.getfield 7, 3) := by decide +kernel
theorem dX8_number_4 : decode cX8_number 4 = .ok (.ireturn, 1) := by decide +kernel
theorem q167 : (Jvm.Cond.initialized "CoarserOrders$Plain") ∈ lw_all := lw_g (lw_at lw_m1 17 rfl) rfl
theorem q846 : (Jvm.Cond.instanceMethod ({ cls := "CoarserOrders$Plain", name := "<init>", desc := "(II)V" } : Jvm.MethodName)) ∈ lw_all := lw_g (lw_at lw_m3 216 rfl) rfl
theorem q847 : (Jvm.Cond.code ({ cls := "CoarserOrders$Plain", name := "<init>", desc := "(II)V" } : Jvm.MethodName) prog_19_method_1_code (3 : Nat) (Option.none : Option Jvm.ClassFile.FieldType)) ∈ lw_all := lw_g (lw_at lw_m3 217 rfl) rfl
theorem q848 : (Jvm.Cond.methodLink "CoarserOrders$Plain" (1 : Nat) ({ cls := "java/lang/Object", name := "<init>", desc := "()V" } : Jvm.MethodName)) ∈ lw_all := lw_g (lw_at lw_m3 218 rfl) rfl
theorem q849 : (Jvm.Cond.fieldLink "CoarserOrders$Plain" (7 : Nat) "CoarserOrders$Plain" "number" "I") ∈ lw_all := lw_g (lw_at lw_m3 219 rfl) rfl
theorem q850 : (Jvm.Cond.fieldLink "CoarserOrders$Plain" (13 : Nat) "CoarserOrders$Plain" "mark" "I") ∈ lw_all := lw_g (lw_at lw_m3 220 rfl) rfl
theorem q852 : (Jvm.Cond.soleField "CoarserOrders$Plain" "number") ∈ lw_all := lw_g (lw_at lw_m3 222 rfl) rfl
theorem q854 : (Jvm.Cond.soleField "CoarserOrders$Plain" "mark") ∈ lw_all := lw_g (lw_at lw_m3 224 rfl) rfl
theorem q892 : (Jvm.Cond.instantiable "CoarserOrders$Plain" (2 : Nat)) ∈ lw_all := lw_g (lw_at lw_m4 22 rfl) rfl
theorem q894 : (Jvm.Cond.laysFinal "CoarserOrders$Plain" "CoarserOrders$Plain" "number" "I") ∈ lw_all := lw_g (lw_at lw_m4 24 rfl) rfl
theorem q895 : (Jvm.Cond.laysFinal "CoarserOrders$Plain" "CoarserOrders$Plain" "mark" "I") ∈ lw_all := lw_g (lw_at lw_m4 25 rfl) rfl
theorem q896 : (Jvm.Cond.superclass "CoarserOrders$Plain" "java/lang/Object") ∈ lw_all := lw_g (lw_at lw_m4 26 rfl) rfl
theorem q906 : (Jvm.Cond.instanceMethod ({ cls := "CoarserOrders$Plain", name := "kind", desc := "()I" } : Jvm.MethodName)) ∈ lw_all := lw_g (lw_at lw_m4 36 rfl) rfl
theorem q907 : (Jvm.Cond.selects "CoarserOrders$Plain" ({ cls := "CoarserOrders$Plain", name := "kind", desc := "()I" } : Jvm.MethodName) ({ cls := "CoarserOrders$Plain", name := "kind", desc := "()I" } : Jvm.MethodName)) ∈ lw_all := lw_g (lw_at lw_m4 37 rfl) rfl
theorem q908 : (Jvm.Cond.sameMethod "CoarserOrders$Plain" "CoarserOrders$Plain" "kind" "()I") ∈ lw_all := lw_g (lw_at lw_m4 38 rfl) rfl
theorem q924 : (Jvm.Cond.code ({ cls := "CoarserOrders$Plain", name := "kind", desc := "()I" } : Jvm.MethodName) prog_19_method_4_code (1 : Nat) (Option.some Jvm.ClassFile.FieldType.int)) ∈ lw_all := lw_g (lw_at lw_m4 54 rfl) rfl
theorem q926 : (Jvm.Cond.instanceMethod ({ cls := "CoarserOrders$Plain", name := "mark", desc := "()I" } : Jvm.MethodName)) ∈ lw_all := lw_g (lw_at lw_m4 56 rfl) rfl
theorem q927 : (Jvm.Cond.selects "CoarserOrders$Plain" ({ cls := "CoarserOrders$Plain", name := "mark", desc := "()I" } : Jvm.MethodName) ({ cls := "CoarserOrders$Plain", name := "mark", desc := "()I" } : Jvm.MethodName)) ∈ lw_all := lw_g (lw_at lw_m4 57 rfl) rfl
theorem q928 : (Jvm.Cond.sameMethod "CoarserOrders$Plain" "CoarserOrders$Plain" "mark" "()I") ∈ lw_all := lw_g (lw_at lw_m4 58 rfl) rfl
theorem q934 : (Jvm.Cond.code ({ cls := "CoarserOrders$Plain", name := "mark", desc := "()I" } : Jvm.MethodName) prog_19_method_3_code (1 : Nat) (Option.some Jvm.ClassFile.FieldType.int)) ∈ lw_all := lw_g (lw_at lw_m4 64 rfl) rfl
theorem q940 : (Jvm.Cond.instanceMethod ({ cls := "CoarserOrders$Plain", name := "takes", desc := "(LCoarserOrders$Arc;)Z" } : Jvm.MethodName)) ∈ lw_all := lw_g (lw_at lw_m4 70 rfl) rfl
theorem q941 : (Jvm.Cond.selects "CoarserOrders$Plain" ({ cls := "CoarserOrders$Plain", name := "takes", desc := "(LCoarserOrders$Arc;)Z" } : Jvm.MethodName) ({ cls := "CoarserOrders$Plain", name := "takes", desc := "(LCoarserOrders$Arc;)Z" } : Jvm.MethodName)) ∈ lw_all := lw_g (lw_at lw_m4 71 rfl) rfl
theorem q942 : (Jvm.Cond.sameMethod "CoarserOrders$Plain" "CoarserOrders$Plain" "takes" "(LCoarserOrders$Arc;)Z") ∈ lw_all := lw_g (lw_at lw_m4 72 rfl) rfl
theorem q961 : (Jvm.Cond.declares ({ cls := "CoarserOrders$Plain", name := "mark", desc := "()I" } : Jvm.MethodName)) ∈ lw_tbl := lw_at lw_m4 91 rfl
theorem q986 : (Jvm.Cond.code ({ cls := "CoarserOrders$Plain", name := "takes", desc := "(LCoarserOrders$Arc;)Z" } : Jvm.MethodName) prog_19_method_5_code (2 : Nat) (Option.some Jvm.ClassFile.FieldType.boolean)) ∈ lw_all := lw_g (lw_at lw_m4 116 rfl) rfl
theorem q1658 : (Jvm.Cond.instanceMethod ({ cls := "CoarserOrders$Plain", name := "number", desc := "()I" } : Jvm.MethodName)) ∈ lw_all := lw_g (lw_at lw_m7 68 rfl) rfl
theorem q1659 : (Jvm.Cond.selects "CoarserOrders$Plain" ({ cls := "CoarserOrders$Plain", name := "number", desc := "()I" } : Jvm.MethodName) ({ cls := "CoarserOrders$Plain", name := "number", desc := "()I" } : Jvm.MethodName)) ∈ lw_all := lw_g (lw_at lw_m7 69 rfl) rfl
theorem q1660 : (Jvm.Cond.sameMethod "CoarserOrders$Plain" "CoarserOrders$Plain" "number" "()I") ∈ lw_all := lw_g (lw_at lw_m7 70 rfl) rfl
theorem q1666 : (Jvm.Cond.code ({ cls := "CoarserOrders$Plain", name := "number", desc := "()I" } : Jvm.MethodName) prog_19_method_2_code (1 : Nat) (Option.some Jvm.ClassFile.FieldType.int)) ∈ lw_all := lw_g (lw_at lw_m7 76 rfl) rfl
theorem q1708 : (Jvm.Cond.publicMethod ({ cls := "CoarserOrders$Plain", name := "number", desc := "()I" } : Jvm.MethodName)) ∈ lw_tbl := lw_at lw_m7 118 rfl
theorem q1715 : (Jvm.Cond.castable "CoarserOrders$Plain" "CoarserOrders$Turns") ∈ lw_tbl := lw_at lw_m7 125 rfl
theorem q1716 : (Jvm.Cond.selects "CoarserOrders$Plain" ({ cls := "CoarserOrders$Turns", name := "number", desc := "()I" } : Jvm.MethodName) ({ cls := "CoarserOrders$Plain", name := "number", desc := "()I" } : Jvm.MethodName)) ∈ lw_all := lw_g (lw_at lw_m7 126 rfl) rfl
theorem q1717 : (Jvm.Cond.unhidden "CoarserOrders$Plain" "number" "()I") ∈ lw_tbl := lw_at lw_m7 127 rfl
theorem q1729 : (Jvm.Cond.castable "CoarserOrders$Plain" "CoarserOrders$Joins") ∈ lw_tbl := lw_at lw_m7 139 rfl
theorem q1730 : (Jvm.Cond.unhidden "CoarserOrders$Plain" "turns" "(ILCoarserOrders$Trace;)I") ∈ lw_tbl := lw_at lw_m7 140 rfl
theorem q1753 : (Jvm.Cond.castable "CoarserOrders$Plain" "CoarserOrders$Bends") ∈ lw_tbl := lw_at lw_m7 163 rfl
theorem q1760 : (Jvm.Cond.publicMethod ({ cls := "CoarserOrders$Plain", name := "mark", desc := "()I" } : Jvm.MethodName)) ∈ lw_tbl := lw_at lw_m7 170 rfl
theorem q1765 : (Jvm.Cond.selects "CoarserOrders$Plain" ({ cls := "CoarserOrders$Turns", name := "mark", desc := "()I" } : Jvm.MethodName) ({ cls := "CoarserOrders$Plain", name := "mark", desc := "()I" } : Jvm.MethodName)) ∈ lw_all := lw_g (lw_at lw_m7 175 rfl) rfl
theorem q1766 : (Jvm.Cond.unhidden "CoarserOrders$Plain" "mark" "()I") ∈ lw_tbl := lw_at lw_m7 176 rfl
theorem q1779 : (Jvm.Cond.unhidden "CoarserOrders$Plain" "bends" "(ILCoarserOrders$Trace;)I") ∈ lw_tbl := lw_at lw_m7 189 rfl
theorem q1793 : (Jvm.Cond.castable "CoarserOrders$Plain" "CoarserOrders$Parts") ∈ lw_tbl := lw_at lw_m7 203 rfl
theorem q1804 : (Jvm.Cond.declares ({ cls := "CoarserOrders$Plain", name := "number", desc := "()I" } : Jvm.MethodName)) ∈ lw_tbl := lw_at lw_m7 214 rfl
theorem q1817 : (Jvm.Cond.unhidden "CoarserOrders$Plain" "parts" "(ILCoarserOrders$Trace;)I") ∈ lw_tbl := lw_at lw_m7 227 rfl
theorem q1841 : (Jvm.Cond.unhidden "CoarserOrders$Plain" "joins" "(ILCoarserOrders$Trace;)I") ∈ lw_tbl := lw_at lw_m8 11 rfl

abbrev cX9_init : ByteArray := prog_12_method_1_code
def yX9_init : MethodName := ⟨RX9, "<init>", "(II)V"⟩
def dkwX9_init_0 : List UInt8 := [42, 27, 28, 183, 0, 3, 177]
abbrev dktX9_init_0 : List UInt8 := dkwX9_init_0 ++ []
theorem dksX9_init_0 : cX9_init.data.toList.drop 0 = dktX9_init_0 := by decide +kernel
theorem dX9_init_0 : decode cX9_init 0 = .ok (.aload_n 0, 1) := dk_42 (dk_at dksX9_init_0 0 rfl rfl)
theorem dX9_init_1 : decode cX9_init 1 = .ok (.iload_n 1, 1) := dk_27 (dk_at dksX9_init_0 1 rfl rfl)
theorem dX9_init_2 : decode cX9_init 2 = .ok (.iload_n 2, 1) := dk_28 (dk_at dksX9_init_0 2 rfl rfl)
theorem dX9_init_3 : decode cX9_init 3 = .ok (.invokespecial 3, 3) := dk_183 0 3 (dk_at dksX9_init_0 3 rfl rfl)
theorem dX9_init_6 : decode cX9_init 6 = .ok (.return_, 1) := dk_177 (dk_at dksX9_init_0 6 rfl rfl)
abbrev cX9_kind : ByteArray := prog_12_method_2_code
def yX9_kind : MethodName := ⟨RX9, "kind", "()I"⟩
theorem dX9_kind_0 : decode cX9_kind 0 = .ok (.iconst 1, 1) := by decide +kernel
theorem dX9_kind_1 : decode cX9_kind 1 = .ok (.ireturn, 1) := by decide +kernel
abbrev cX9_takes : ByteArray := prog_12_method_3_code
def yX9_takes : MethodName := ⟨RX9, "takes", "(LCoarserOrders$Arc;)Z"⟩
def dkwX9_takes_0 : List UInt8 := [43, 182, 0, 9, 158, 0, 7, 4, 167, 0, 4, 3, 172]
abbrev dktX9_takes_0 : List UInt8 := dkwX9_takes_0 ++ []
theorem dksX9_takes_0 : cX9_takes.data.toList.drop 0 = dktX9_takes_0 := by decide +kernel
theorem dX9_takes_0 : decode cX9_takes 0 = .ok (.aload_n 1, 1) := dk_43 (dk_at dksX9_takes_0 0 rfl rfl)
theorem dX9_takes_1 : decode cX9_takes 1 = .ok (.invokevirtual 9, 3) := dk_182 0 9 (dk_at dksX9_takes_0 1 rfl rfl)
theorem dX9_takes_4 : decode cX9_takes 4 = .ok (.ifCond .le 7, 3) := dk_158 0 7 (dk_at dksX9_takes_0 4 rfl rfl)
theorem dX9_takes_7 : decode cX9_takes 7 = .ok (.iconst 1, 1) := dk_4 (dk_at dksX9_takes_0 7 rfl rfl)
theorem dX9_takes_8 : decode cX9_takes 8 = .ok (.goto 4, 3) := dk_167 0 4 (dk_at dksX9_takes_0 8 rfl rfl)
theorem dX9_takes_11 : decode cX9_takes 11 = .ok (.iconst 0, 1) := dk_3 (dk_at dksX9_takes_0 11 rfl rfl)
theorem dX9_takes_12 : decode cX9_takes 12 = .ok (.ireturn, 1) := dk_172 (dk_at dksX9_takes_0 12 rfl rfl)
abbrev cX9_turns : ByteArray := prog_12_method_4_code
def yX9_turns : MethodName := ⟨RX9, "turns", "(ILCoarserOrders$Trace;)I"⟩
def dkwX9_turns_0 : List UInt8 := [44, 16, 20, 182, 0, 15, 42, 27, 44, 183, 0, 21, 16, 9, 130, 172]
abbrev dktX9_turns_0 : List UInt8 := dkwX9_turns_0 ++ []
theorem dksX9_turns_0 : cX9_turns.data.toList.drop 0 = dktX9_turns_0 := by decide +kernel
theorem dX9_turns_0 : decode cX9_turns 0 = .ok (.aload_n 2, 1) := dk_44 (dk_at dksX9_turns_0 0 rfl rfl)
theorem dX9_turns_1 : decode cX9_turns 1 = .ok (.bipush 20, 2) := dk_16 20 (dk_at dksX9_turns_0 1 rfl rfl)
theorem dX9_turns_3 : decode cX9_turns 3 = .ok (.invokevirtual 15, 3) := dk_182 0 15 (dk_at dksX9_turns_0 3 rfl rfl)
theorem dX9_turns_6 : decode cX9_turns 6 = .ok (.aload_n 0, 1) := dk_42 (dk_at dksX9_turns_0 6 rfl rfl)
theorem dX9_turns_7 : decode cX9_turns 7 = .ok (.iload_n 1, 1) := dk_27 (dk_at dksX9_turns_0 7 rfl rfl)
theorem dX9_turns_8 : decode cX9_turns 8 = .ok (.aload_n 2, 1) := dk_44 (dk_at dksX9_turns_0 8 rfl rfl)
theorem dX9_turns_9 : decode cX9_turns 9 = .ok (.invokespecial 21, 3) := dk_183 0 21 (dk_at dksX9_turns_0 9 rfl rfl)
theorem dX9_turns_12 : decode cX9_turns 12 = .ok (.bipush 9, 2) := dk_16 9 (dk_at dksX9_turns_0 12 rfl rfl)
theorem dX9_turns_14 : decode cX9_turns 14 = .ok (.ixor, 1) := dk_130 (dk_at dksX9_turns_0 14 rfl rfl)
theorem dX9_turns_15 : decode cX9_turns 15 = .ok (.ireturn, 1) := dk_172 (dk_at dksX9_turns_0 15 rfl rfl)
theorem q168 : (Jvm.Cond.initialized "CoarserOrders$Lefty") ∈ lw_all := lw_g (lw_at lw_m1 18 rfl) rfl
theorem q841 : (Jvm.Cond.instantiable "CoarserOrders$Lefty" (2 : Nat)) ∈ lw_all := lw_g (lw_at lw_m3 211 rfl) rfl
theorem q843 : (Jvm.Cond.instanceMethod ({ cls := "CoarserOrders$Lefty", name := "<init>", desc := "(II)V" } : Jvm.MethodName)) ∈ lw_all := lw_g (lw_at lw_m3 213 rfl) rfl
theorem q844 : (Jvm.Cond.code ({ cls := "CoarserOrders$Lefty", name := "<init>", desc := "(II)V" } : Jvm.MethodName) prog_12_method_1_code (3 : Nat) (Option.none : Option Jvm.ClassFile.FieldType)) ∈ lw_all := lw_g (lw_at lw_m3 214 rfl) rfl
theorem q845 : (Jvm.Cond.methodLink "CoarserOrders$Lefty" (3 : Nat) ({ cls := "CoarserOrders$Plain", name := "<init>", desc := "(II)V" } : Jvm.MethodName)) ∈ lw_all := lw_g (lw_at lw_m3 215 rfl) rfl
theorem q851 : (Jvm.Cond.laysFinal "CoarserOrders$Lefty" "CoarserOrders$Plain" "number" "I") ∈ lw_all := lw_g (lw_at lw_m3 221 rfl) rfl
theorem q853 : (Jvm.Cond.laysFinal "CoarserOrders$Lefty" "CoarserOrders$Plain" "mark" "I") ∈ lw_all := lw_g (lw_at lw_m3 223 rfl) rfl
theorem q855 : (Jvm.Cond.superclass "CoarserOrders$Lefty" "CoarserOrders$Plain") ∈ lw_all := lw_g (lw_at lw_m3 225 rfl) rfl
theorem q909 : (Jvm.Cond.selects "CoarserOrders$Lefty" ({ cls := "CoarserOrders$Plain", name := "kind", desc := "()I" } : Jvm.MethodName) ({ cls := "CoarserOrders$Lefty", name := "kind", desc := "()I" } : Jvm.MethodName)) ∈ lw_all := lw_g (lw_at lw_m4 39 rfl) rfl
theorem q910 : (Jvm.Cond.instanceMethod ({ cls := "CoarserOrders$Lefty", name := "kind", desc := "()I" } : Jvm.MethodName)) ∈ lw_all := lw_g (lw_at lw_m4 40 rfl) rfl
theorem q911 : (Jvm.Cond.code ({ cls := "CoarserOrders$Lefty", name := "kind", desc := "()I" } : Jvm.MethodName) prog_12_method_2_code (1 : Nat) (Option.some Jvm.ClassFile.FieldType.int)) ∈ lw_all := lw_g (lw_at lw_m4 41 rfl) rfl
theorem q929 : (Jvm.Cond.selects "CoarserOrders$Lefty" ({ cls := "CoarserOrders$Plain", name := "mark", desc := "()I" } : Jvm.MethodName) ({ cls := "CoarserOrders$Plain", name := "mark", desc := "()I" } : Jvm.MethodName)) ∈ lw_all := lw_g (lw_at lw_m4 59 rfl) rfl
theorem q943 : (Jvm.Cond.selects "CoarserOrders$Lefty" ({ cls := "CoarserOrders$Plain", name := "takes", desc := "(LCoarserOrders$Arc;)Z" } : Jvm.MethodName) ({ cls := "CoarserOrders$Lefty", name := "takes", desc := "(LCoarserOrders$Arc;)Z" } : Jvm.MethodName)) ∈ lw_all := lw_g (lw_at lw_m4 73 rfl) rfl
theorem q944 : (Jvm.Cond.instanceMethod ({ cls := "CoarserOrders$Lefty", name := "takes", desc := "(LCoarserOrders$Arc;)Z" } : Jvm.MethodName)) ∈ lw_all := lw_g (lw_at lw_m4 74 rfl) rfl
theorem q945 : (Jvm.Cond.code ({ cls := "CoarserOrders$Lefty", name := "takes", desc := "(LCoarserOrders$Arc;)Z" } : Jvm.MethodName) prog_12_method_3_code (2 : Nat) (Option.some Jvm.ClassFile.FieldType.boolean)) ∈ lw_all := lw_g (lw_at lw_m4 75 rfl) rfl
theorem q946 : (Jvm.Cond.methodLink "CoarserOrders$Lefty" (9 : Nat) ({ cls := "CoarserOrders$Arc", name := "lefts", desc := "()I" } : Jvm.MethodName)) ∈ lw_all := lw_g (lw_at lw_m4 76 rfl) rfl
theorem q1661 : (Jvm.Cond.selects "CoarserOrders$Lefty" ({ cls := "CoarserOrders$Plain", name := "number", desc := "()I" } : Jvm.MethodName) ({ cls := "CoarserOrders$Plain", name := "number", desc := "()I" } : Jvm.MethodName)) ∈ lw_all := lw_g (lw_at lw_m7 71 rfl) rfl
theorem q1688 : (Jvm.Cond.castable "CoarserOrders$Lefty" "CoarserOrders$Joins") ∈ lw_tbl := lw_at lw_m7 98 rfl
theorem q1689 : (Jvm.Cond.selects "CoarserOrders$Lefty" ({ cls := "CoarserOrders$Turns", name := "turns", desc := "(ILCoarserOrders$Trace;)I" } : Jvm.MethodName) ({ cls := "CoarserOrders$Lefty", name := "turns", desc := "(ILCoarserOrders$Trace;)I" } : Jvm.MethodName)) ∈ lw_all := lw_g (lw_at lw_m7 99 rfl) rfl
theorem q1690 : (Jvm.Cond.unhidden "CoarserOrders$Lefty" "turns" "(ILCoarserOrders$Trace;)I") ∈ lw_tbl := lw_at lw_m7 100 rfl
theorem q1691 : (Jvm.Cond.instanceMethod ({ cls := "CoarserOrders$Lefty", name := "turns", desc := "(ILCoarserOrders$Trace;)I" } : Jvm.MethodName)) ∈ lw_all := lw_g (lw_at lw_m7 101 rfl) rfl
theorem q1692 : (Jvm.Cond.publicMethod ({ cls := "CoarserOrders$Lefty", name := "turns", desc := "(ILCoarserOrders$Trace;)I" } : Jvm.MethodName)) ∈ lw_tbl := lw_at lw_m7 102 rfl
theorem q1693 : (Jvm.Cond.code ({ cls := "CoarserOrders$Lefty", name := "turns", desc := "(ILCoarserOrders$Trace;)I" } : Jvm.MethodName) prog_12_method_4_code (3 : Nat) (Option.some Jvm.ClassFile.FieldType.int)) ∈ lw_all := lw_g (lw_at lw_m7 103 rfl) rfl
theorem q1694 : (Jvm.Cond.methodLink "CoarserOrders$Lefty" (15 : Nat) ({ cls := "CoarserOrders$Trace", name := "ran", desc := "(I)V" } : Jvm.MethodName)) ∈ lw_all := lw_g (lw_at lw_m7 104 rfl) rfl
theorem q1705 : (Jvm.Cond.castable "CoarserOrders$Lefty" "CoarserOrders$Turns") ∈ lw_tbl := lw_at lw_m7 115 rfl
theorem q1706 : (Jvm.Cond.selects "CoarserOrders$Lefty" ({ cls := "CoarserOrders$Turns", name := "number", desc := "()I" } : Jvm.MethodName) ({ cls := "CoarserOrders$Plain", name := "number", desc := "()I" } : Jvm.MethodName)) ∈ lw_all := lw_g (lw_at lw_m7 116 rfl) rfl
theorem q1707 : (Jvm.Cond.unhidden "CoarserOrders$Lefty" "number" "()I") ∈ lw_tbl := lw_at lw_m7 117 rfl
theorem q1744 : (Jvm.Cond.unhidden "CoarserOrders$Lefty" "bends" "(ILCoarserOrders$Trace;)I") ∈ lw_tbl := lw_at lw_m7 154 rfl
theorem q1750 : (Jvm.Cond.castable "CoarserOrders$Lefty" "CoarserOrders$Bends") ∈ lw_tbl := lw_at lw_m7 160 rfl
theorem q1758 : (Jvm.Cond.selects "CoarserOrders$Lefty" ({ cls := "CoarserOrders$Turns", name := "mark", desc := "()I" } : Jvm.MethodName) ({ cls := "CoarserOrders$Plain", name := "mark", desc := "()I" } : Jvm.MethodName)) ∈ lw_all := lw_g (lw_at lw_m7 168 rfl) rfl
theorem q1759 : (Jvm.Cond.unhidden "CoarserOrders$Lefty" "mark" "()I") ∈ lw_tbl := lw_at lw_m7 169 rfl
theorem q1784 : (Jvm.Cond.unhidden "CoarserOrders$Lefty" "parts" "(ILCoarserOrders$Trace;)I") ∈ lw_tbl := lw_at lw_m7 194 rfl
theorem q1790 : (Jvm.Cond.castable "CoarserOrders$Lefty" "CoarserOrders$Parts") ∈ lw_tbl := lw_at lw_m7 200 rfl
theorem q1824 : (Jvm.Cond.unhidden "CoarserOrders$Lefty" "joins" "(ILCoarserOrders$Trace;)I") ∈ lw_tbl := lw_at lw_m7 234 rfl
theorem q2609 : (Jvm.Cond.sameMethod "CoarserOrders$Lefty" "CoarserOrders$Lefty" "takes" "(LCoarserOrders$Arc;)Z") ∈ lw_all := lw_g (lw_at lw_m11 59 rfl) rfl
theorem q2613 : (Jvm.Cond.sameMethod "CoarserOrders$Lefty" "CoarserOrders$Lefty" "turns" "(ILCoarserOrders$Trace;)I") ∈ lw_all := lw_g (lw_at lw_m11 63 rfl) rfl
theorem q2617 : (Jvm.Cond.castable "CoarserOrders$Lefty" "CoarserOrders$Plain") ∈ lw_tbl := lw_at lw_m11 67 rfl

abbrev cX10_init : ByteArray := prog_14_method_1_code
def yX10_init : MethodName := ⟨RX10, "<init>", "(II)V"⟩
def dkwX10_init_0 : List UInt8 := [42, 27, 28, 183, 0, 3, 177]
abbrev dktX10_init_0 : List UInt8 := dkwX10_init_0 ++ []
theorem dksX10_init_0 : cX10_init.data.toList.drop 0 = dktX10_init_0 := by decide +kernel
theorem dX10_init_0 : decode cX10_init 0 = .ok (.aload_n 0, 1) := dk_42 (dk_at dksX10_init_0 0 rfl rfl)
theorem dX10_init_1 : decode cX10_init 1 = .ok (.iload_n 1, 1) := dk_27 (dk_at dksX10_init_0 1 rfl rfl)
theorem dX10_init_2 : decode cX10_init 2 = .ok (.iload_n 2, 1) := dk_28 (dk_at dksX10_init_0 2 rfl rfl)
theorem dX10_init_3 : decode cX10_init 3 = .ok (.invokespecial 3, 3) := dk_183 0 3 (dk_at dksX10_init_0 3 rfl rfl)
theorem dX10_init_6 : decode cX10_init 6 = .ok (.return_, 1) := dk_177 (dk_at dksX10_init_0 6 rfl rfl)
abbrev cX10_kind : ByteArray := prog_14_method_2_code
def yX10_kind : MethodName := ⟨RX10, "kind", "()I"⟩
theorem dX10_kind_0 : decode cX10_kind 0 = .ok (.iconst 2, 1) := by decide +kernel
theorem dX10_kind_1 : decode cX10_kind 1 = .ok (.ireturn, 1) := by decide +kernel
abbrev cX10_takes : ByteArray := prog_14_method_3_code
def yX10_takes : MethodName := ⟨RX10, "takes", "(LCoarserOrders$Arc;)Z"⟩
def dkwX10_takes_0 : List UInt8 := [43, 180, 0, 9, 43, 180, 0, 15, 100, 42, 182, 0, 18, 164, 0, 7, 4, 167, 0, 4, 3, 172]
abbrev dktX10_takes_0 : List UInt8 := dkwX10_takes_0 ++ []
theorem dksX10_takes_0 : cX10_takes.data.toList.drop 0 = dktX10_takes_0 := by decide +kernel
theorem dX10_takes_0 : decode cX10_takes 0 = .ok (.aload_n 1, 1) := dk_43 (dk_at dksX10_takes_0 0 rfl rfl)
theorem dX10_takes_1 : decode cX10_takes 1 = .ok (.getfield 9, 3) := dk_180 0 9 (dk_at dksX10_takes_0 1 rfl rfl)
theorem dX10_takes_4 : decode cX10_takes 4 = .ok (.aload_n 1, 1) := dk_43 (dk_at dksX10_takes_0 4 rfl rfl)
theorem dX10_takes_5 : decode cX10_takes 5 = .ok (.getfield 15, 3) := dk_180 0 15 (dk_at dksX10_takes_0 5 rfl rfl)
theorem dX10_takes_8 : decode cX10_takes 8 = .ok (.isub, 1) := dk_100 (dk_at dksX10_takes_0 8 rfl rfl)
theorem dX10_takes_9 : decode cX10_takes 9 = .ok (.aload_n 0, 1) := dk_42 (dk_at dksX10_takes_0 9 rfl rfl)
theorem dX10_takes_10 : decode cX10_takes 10 = .ok (.invokevirtual 18, 3) := dk_182 0 18 (dk_at dksX10_takes_0 10 rfl rfl)
theorem dX10_takes_13 : decode cX10_takes 13 = .ok (.if_icmp .le 7, 3) := dk_164 0 7 (dk_at dksX10_takes_0 13 rfl rfl)
theorem dX10_takes_16 : decode cX10_takes 16 = .ok (.iconst 1, 1) := dk_4 (dk_at dksX10_takes_0 16 rfl rfl)
theorem dX10_takes_17 : decode cX10_takes 17 = .ok (.goto 4, 3) := dk_167 0 4 (dk_at dksX10_takes_0 17 rfl rfl)
theorem dX10_takes_20 : decode cX10_takes 20 = .ok (.iconst 0, 1) := dk_3 (dk_at dksX10_takes_0 20 rfl rfl)
theorem dX10_takes_21 : decode cX10_takes 21 = .ok (.ireturn, 1) := dk_172 (dk_at dksX10_takes_0 21 rfl rfl)
abbrev cX10_bends : ByteArray := prog_14_method_4_code
def yX10_bends : MethodName := ⟨RX10, "bends", "(ILCoarserOrders$Trace;)I"⟩
def dkwX10_bends_0 : List UInt8 := [44, 16, 30, 182, 0, 24, 42, 27, 44, 183, 0, 30, 6, 104, 172]
abbrev dktX10_bends_0 : List UInt8 := dkwX10_bends_0 ++ []
theorem dksX10_bends_0 : cX10_bends.data.toList.drop 0 = dktX10_bends_0 := by decide +kernel
theorem dX10_bends_0 : decode cX10_bends 0 = .ok (.aload_n 2, 1) := dk_44 (dk_at dksX10_bends_0 0 rfl rfl)
theorem dX10_bends_1 : decode cX10_bends 1 = .ok (.bipush 30, 2) := dk_16 30 (dk_at dksX10_bends_0 1 rfl rfl)
theorem dX10_bends_3 : decode cX10_bends 3 = .ok (.invokevirtual 24, 3) := dk_182 0 24 (dk_at dksX10_bends_0 3 rfl rfl)
theorem dX10_bends_6 : decode cX10_bends 6 = .ok (.aload_n 0, 1) := dk_42 (dk_at dksX10_bends_0 6 rfl rfl)
theorem dX10_bends_7 : decode cX10_bends 7 = .ok (.iload_n 1, 1) := dk_27 (dk_at dksX10_bends_0 7 rfl rfl)
theorem dX10_bends_8 : decode cX10_bends 8 = .ok (.aload_n 2, 1) := dk_44 (dk_at dksX10_bends_0 8 rfl rfl)
theorem dX10_bends_9 : decode cX10_bends 9 = .ok (.invokespecial 30, 3) := dk_183 0 30 (dk_at dksX10_bends_0 9 rfl rfl)
theorem dX10_bends_12 : decode cX10_bends 12 = .ok (.iconst 3, 1) := dk_6 (dk_at dksX10_bends_0 12 rfl rfl)
theorem dX10_bends_13 : decode cX10_bends 13 = .ok (.imul, 1) := dk_104 (dk_at dksX10_bends_0 13 rfl rfl)
theorem dX10_bends_14 : decode cX10_bends 14 = .ok (.ireturn, 1) := dk_172 (dk_at dksX10_bends_0 14 rfl rfl)
abbrev cX10_parts : ByteArray := prog_14_method_5_code
def yX10_parts : MethodName := ⟨RX10, "parts", "(ILCoarserOrders$Trace;)I"⟩
def dkwX10_parts_1 : List UInt8 := [172]
abbrev dktX10_parts_1 : List UInt8 := dkwX10_parts_1 ++ []
def dkwX10_parts_0 : List UInt8 := [44, 16, 31, 182, 0, 24, 42, 27, 44, 183, 0, 34, 62, 29, 42, 42, 182, 0, 37, 44, 182, 0, 40, 96]
abbrev dktX10_parts_0 : List UInt8 := dkwX10_parts_0 ++ dktX10_parts_1
theorem dksX10_parts_0 : cX10_parts.data.toList.drop 0 = dktX10_parts_0 := by decide +kernel
theorem dksX10_parts_1 : cX10_parts.data.toList.drop 24 = dktX10_parts_1 := dk_seg dksX10_parts_0 24 rfl rfl
theorem dX10_parts_0 : decode cX10_parts 0 = .ok (.aload_n 2, 1) := dk_44 (dk_at dksX10_parts_0 0 rfl rfl)
theorem dX10_parts_1 : decode cX10_parts 1 = .ok (.bipush 31, 2) := dk_16 31 (dk_at dksX10_parts_0 1 rfl rfl)
theorem dX10_parts_3 : decode cX10_parts 3 = .ok (.invokevirtual 24, 3) := dk_182 0 24 (dk_at dksX10_parts_0 3 rfl rfl)
theorem dX10_parts_6 : decode cX10_parts 6 = .ok (.aload_n 0, 1) := dk_42 (dk_at dksX10_parts_0 6 rfl rfl)
theorem dX10_parts_7 : decode cX10_parts 7 = .ok (.iload_n 1, 1) := dk_27 (dk_at dksX10_parts_0 7 rfl rfl)
theorem dX10_parts_8 : decode cX10_parts 8 = .ok (.aload_n 2, 1) := dk_44 (dk_at dksX10_parts_0 8 rfl rfl)
theorem dX10_parts_9 : decode cX10_parts 9 = .ok (.invokespecial 34, 3) := dk_183 0 34 (dk_at dksX10_parts_0 9 rfl rfl)
theorem dX10_parts_12 : decode cX10_parts 12 = .ok (.istore_n 3, 1) := dk_62 (dk_at dksX10_parts_0 12 rfl rfl)
theorem dX10_parts_13 : decode cX10_parts 13 = .ok (.iload_n 3, 1) := dk_29 (dk_at dksX10_parts_0 13 rfl rfl)
theorem dX10_parts_14 : decode cX10_parts 14 = .ok (.aload_n 0, 1) := dk_42 (dk_at dksX10_parts_0 14 rfl rfl)
theorem dX10_parts_15 : decode cX10_parts 15 = .ok (.aload_n 0, 1) := dk_42 (dk_at dksX10_parts_0 15 rfl rfl)
theorem dX10_parts_16 : decode cX10_parts 16 = .ok (.invokevirtual 37, 3) := dk_182 0 37 (dk_at dksX10_parts_0 16 rfl rfl)
theorem dX10_parts_19 : decode cX10_parts 19 = .ok (.aload_n 2, 1) := dk_44 (dk_at dksX10_parts_0 19 rfl rfl)
theorem dX10_parts_20 : decode cX10_parts 20 = .ok (.invokevirtual 40, 3) := dk_182 0 40 (dk_at dksX10_parts_0 20 rfl rfl)
theorem dX10_parts_23 : decode cX10_parts 23 = .ok (.iadd, 1) := dk_96 (dk_at dksX10_parts_0 23 rfl rfl)
theorem dX10_parts_24 : decode cX10_parts 24 = .ok (.ireturn, 1) := dk_172 (dk_at dksX10_parts_1 0 rfl rfl)
theorem q169 : (Jvm.Cond.initialized "CoarserOrders$Longer") ∈ lw_all := lw_g (lw_at lw_m1 19 rfl) rfl
theorem q405 : (Jvm.Cond.fieldLinkNest "CoarserOrders$Longer" (15 : Nat) "CoarserOrders$Arc" "low" "I" "CoarserOrders") ∈ lw_tbl := lw_at lw_m2 15 rfl
theorem q408 : (Jvm.Cond.fieldLinkNest "CoarserOrders$Longer" (9 : Nat) "CoarserOrders$Arc" "high" "I" "CoarserOrders") ∈ lw_tbl := lw_at lw_m2 18 rfl
theorem q857 : (Jvm.Cond.instantiable "CoarserOrders$Longer" (2 : Nat)) ∈ lw_all := lw_g (lw_at lw_m3 227 rfl) rfl
theorem q859 : (Jvm.Cond.instanceMethod ({ cls := "CoarserOrders$Longer", name := "<init>", desc := "(II)V" } : Jvm.MethodName)) ∈ lw_all := lw_g (lw_at lw_m3 229 rfl) rfl
theorem q860 : (Jvm.Cond.code ({ cls := "CoarserOrders$Longer", name := "<init>", desc := "(II)V" } : Jvm.MethodName) prog_14_method_1_code (3 : Nat) (Option.none : Option Jvm.ClassFile.FieldType)) ∈ lw_all := lw_g (lw_at lw_m3 230 rfl) rfl
theorem q861 : (Jvm.Cond.methodLink "CoarserOrders$Longer" (3 : Nat) ({ cls := "CoarserOrders$Plain", name := "<init>", desc := "(II)V" } : Jvm.MethodName)) ∈ lw_all := lw_g (lw_at lw_m3 231 rfl) rfl
theorem q862 : (Jvm.Cond.laysFinal "CoarserOrders$Longer" "CoarserOrders$Plain" "number" "I") ∈ lw_all := lw_g (lw_at lw_m3 232 rfl) rfl
theorem q863 : (Jvm.Cond.laysFinal "CoarserOrders$Longer" "CoarserOrders$Plain" "mark" "I") ∈ lw_all := lw_g (lw_at lw_m3 233 rfl) rfl
theorem q864 : (Jvm.Cond.superclass "CoarserOrders$Longer" "CoarserOrders$Plain") ∈ lw_all := lw_g (lw_at lw_m3 234 rfl) rfl
theorem q912 : (Jvm.Cond.selects "CoarserOrders$Longer" ({ cls := "CoarserOrders$Plain", name := "kind", desc := "()I" } : Jvm.MethodName) ({ cls := "CoarserOrders$Longer", name := "kind", desc := "()I" } : Jvm.MethodName)) ∈ lw_all := lw_g (lw_at lw_m4 42 rfl) rfl
theorem q913 : (Jvm.Cond.instanceMethod ({ cls := "CoarserOrders$Longer", name := "kind", desc := "()I" } : Jvm.MethodName)) ∈ lw_all := lw_g (lw_at lw_m4 43 rfl) rfl
theorem q914 : (Jvm.Cond.code ({ cls := "CoarserOrders$Longer", name := "kind", desc := "()I" } : Jvm.MethodName) prog_14_method_2_code (1 : Nat) (Option.some Jvm.ClassFile.FieldType.int)) ∈ lw_all := lw_g (lw_at lw_m4 44 rfl) rfl
theorem q930 : (Jvm.Cond.selects "CoarserOrders$Longer" ({ cls := "CoarserOrders$Plain", name := "mark", desc := "()I" } : Jvm.MethodName) ({ cls := "CoarserOrders$Plain", name := "mark", desc := "()I" } : Jvm.MethodName)) ∈ lw_all := lw_g (lw_at lw_m4 60 rfl) rfl
theorem q956 : (Jvm.Cond.selects "CoarserOrders$Longer" ({ cls := "CoarserOrders$Plain", name := "takes", desc := "(LCoarserOrders$Arc;)Z" } : Jvm.MethodName) ({ cls := "CoarserOrders$Longer", name := "takes", desc := "(LCoarserOrders$Arc;)Z" } : Jvm.MethodName)) ∈ lw_all := lw_g (lw_at lw_m4 86 rfl) rfl
theorem q957 : (Jvm.Cond.instanceMethod ({ cls := "CoarserOrders$Longer", name := "takes", desc := "(LCoarserOrders$Arc;)Z" } : Jvm.MethodName)) ∈ lw_all := lw_g (lw_at lw_m4 87 rfl) rfl
theorem q958 : (Jvm.Cond.code ({ cls := "CoarserOrders$Longer", name := "takes", desc := "(LCoarserOrders$Arc;)Z" } : Jvm.MethodName) prog_14_method_3_code (2 : Nat) (Option.some Jvm.ClassFile.FieldType.boolean)) ∈ lw_all := lw_g (lw_at lw_m4 88 rfl) rfl
theorem q959 : (Jvm.Cond.methodLink "CoarserOrders$Longer" (18 : Nat) ({ cls := "CoarserOrders$Longer", name := "mark", desc := "()I" } : Jvm.MethodName)) ∈ lw_all := lw_g (lw_at lw_m4 89 rfl) rfl
theorem q960 : (Jvm.Cond.sameMethod "CoarserOrders$Longer" "CoarserOrders$Plain" "mark" "()I") ∈ lw_all := lw_g (lw_at lw_m4 90 rfl) rfl
theorem q962 : (Jvm.Cond.selects "CoarserOrders$Longer" ({ cls := "CoarserOrders$Longer", name := "mark", desc := "()I" } : Jvm.MethodName) ({ cls := "CoarserOrders$Plain", name := "mark", desc := "()I" } : Jvm.MethodName)) ∈ lw_all := lw_g (lw_at lw_m4 92 rfl) rfl
theorem q1662 : (Jvm.Cond.selects "CoarserOrders$Longer" ({ cls := "CoarserOrders$Plain", name := "number", desc := "()I" } : Jvm.MethodName) ({ cls := "CoarserOrders$Plain", name := "number", desc := "()I" } : Jvm.MethodName)) ∈ lw_all := lw_g (lw_at lw_m7 72 rfl) rfl
theorem q1709 : (Jvm.Cond.castable "CoarserOrders$Longer" "CoarserOrders$Turns") ∈ lw_tbl := lw_at lw_m7 119 rfl
theorem q1710 : (Jvm.Cond.selects "CoarserOrders$Longer" ({ cls := "CoarserOrders$Turns", name := "number", desc := "()I" } : Jvm.MethodName) ({ cls := "CoarserOrders$Plain", name := "number", desc := "()I" } : Jvm.MethodName)) ∈ lw_all := lw_g (lw_at lw_m7 120 rfl) rfl
theorem q1711 : (Jvm.Cond.unhidden "CoarserOrders$Longer" "number" "()I") ∈ lw_tbl := lw_at lw_m7 121 rfl
theorem q1724 : (Jvm.Cond.castable "CoarserOrders$Longer" "CoarserOrders$Joins") ∈ lw_tbl := lw_at lw_m7 134 rfl
theorem q1725 : (Jvm.Cond.unhidden "CoarserOrders$Longer" "turns" "(ILCoarserOrders$Trace;)I") ∈ lw_tbl := lw_at lw_m7 135 rfl
theorem q1751 : (Jvm.Cond.castable "CoarserOrders$Longer" "CoarserOrders$Bends") ∈ lw_tbl := lw_at lw_m7 161 rfl
theorem q1761 : (Jvm.Cond.selects "CoarserOrders$Longer" ({ cls := "CoarserOrders$Turns", name := "mark", desc := "()I" } : Jvm.MethodName) ({ cls := "CoarserOrders$Plain", name := "mark", desc := "()I" } : Jvm.MethodName)) ∈ lw_all := lw_g (lw_at lw_m7 171 rfl) rfl
theorem q1762 : (Jvm.Cond.unhidden "CoarserOrders$Longer" "mark" "()I") ∈ lw_tbl := lw_at lw_m7 172 rfl
theorem q1771 : (Jvm.Cond.selects "CoarserOrders$Longer" ({ cls := "CoarserOrders$Bends", name := "bends", desc := "(ILCoarserOrders$Trace;)I" } : Jvm.MethodName) ({ cls := "CoarserOrders$Longer", name := "bends", desc := "(ILCoarserOrders$Trace;)I" } : Jvm.MethodName)) ∈ lw_all := lw_g (lw_at lw_m7 181 rfl) rfl
theorem q1772 : (Jvm.Cond.unhidden "CoarserOrders$Longer" "bends" "(ILCoarserOrders$Trace;)I") ∈ lw_tbl := lw_at lw_m7 182 rfl
theorem q1773 : (Jvm.Cond.instanceMethod ({ cls := "CoarserOrders$Longer", name := "bends", desc := "(ILCoarserOrders$Trace;)I" } : Jvm.MethodName)) ∈ lw_all := lw_g (lw_at lw_m7 183 rfl) rfl
theorem q1774 : (Jvm.Cond.publicMethod ({ cls := "CoarserOrders$Longer", name := "bends", desc := "(ILCoarserOrders$Trace;)I" } : Jvm.MethodName)) ∈ lw_tbl := lw_at lw_m7 184 rfl
theorem q1775 : (Jvm.Cond.code ({ cls := "CoarserOrders$Longer", name := "bends", desc := "(ILCoarserOrders$Trace;)I" } : Jvm.MethodName) prog_14_method_4_code (3 : Nat) (Option.some Jvm.ClassFile.FieldType.int)) ∈ lw_all := lw_g (lw_at lw_m7 185 rfl) rfl
theorem q1776 : (Jvm.Cond.methodLink "CoarserOrders$Longer" (24 : Nat) ({ cls := "CoarserOrders$Trace", name := "ran", desc := "(I)V" } : Jvm.MethodName)) ∈ lw_all := lw_g (lw_at lw_m7 186 rfl) rfl
theorem q1791 : (Jvm.Cond.castable "CoarserOrders$Longer" "CoarserOrders$Parts") ∈ lw_tbl := lw_at lw_m7 201 rfl
theorem q1797 : (Jvm.Cond.selects "CoarserOrders$Longer" ({ cls := "CoarserOrders$Parts", name := "parts", desc := "(ILCoarserOrders$Trace;)I" } : Jvm.MethodName) ({ cls := "CoarserOrders$Longer", name := "parts", desc := "(ILCoarserOrders$Trace;)I" } : Jvm.MethodName)) ∈ lw_all := lw_g (lw_at lw_m7 207 rfl) rfl
theorem q1798 : (Jvm.Cond.unhidden "CoarserOrders$Longer" "parts" "(ILCoarserOrders$Trace;)I") ∈ lw_tbl := lw_at lw_m7 208 rfl
theorem q1799 : (Jvm.Cond.instanceMethod ({ cls := "CoarserOrders$Longer", name := "parts", desc := "(ILCoarserOrders$Trace;)I" } : Jvm.MethodName)) ∈ lw_all := lw_g (lw_at lw_m7 209 rfl) rfl
theorem q1800 : (Jvm.Cond.publicMethod ({ cls := "CoarserOrders$Longer", name := "parts", desc := "(ILCoarserOrders$Trace;)I" } : Jvm.MethodName)) ∈ lw_tbl := lw_at lw_m7 210 rfl
theorem q1801 : (Jvm.Cond.code ({ cls := "CoarserOrders$Longer", name := "parts", desc := "(ILCoarserOrders$Trace;)I" } : Jvm.MethodName) prog_14_method_5_code (4 : Nat) (Option.some Jvm.ClassFile.FieldType.int)) ∈ lw_all := lw_g (lw_at lw_m7 211 rfl) rfl
theorem q1802 : (Jvm.Cond.methodLink "CoarserOrders$Longer" (37 : Nat) ({ cls := "CoarserOrders$Longer", name := "number", desc := "()I" } : Jvm.MethodName)) ∈ lw_all := lw_g (lw_at lw_m7 212 rfl) rfl
theorem q1803 : (Jvm.Cond.sameMethod "CoarserOrders$Longer" "CoarserOrders$Plain" "number" "()I") ∈ lw_all := lw_g (lw_at lw_m7 213 rfl) rfl
theorem q1805 : (Jvm.Cond.selects "CoarserOrders$Longer" ({ cls := "CoarserOrders$Longer", name := "number", desc := "()I" } : Jvm.MethodName) ({ cls := "CoarserOrders$Plain", name := "number", desc := "()I" } : Jvm.MethodName)) ∈ lw_all := lw_g (lw_at lw_m7 215 rfl) rfl
theorem q1831 : (Jvm.Cond.unhidden "CoarserOrders$Longer" "joins" "(ILCoarserOrders$Trace;)I") ∈ lw_tbl := lw_at lw_m8 1 rfl
theorem q1839 : (Jvm.Cond.declares ({ cls := "CoarserOrders$Longer", name := "bends", desc := "(ILCoarserOrders$Trace;)I" } : Jvm.MethodName)) ∈ lw_tbl := lw_at lw_m8 9 rfl
theorem q2608 : (Jvm.Cond.sameMethod "CoarserOrders$Longer" "CoarserOrders$Longer" "takes" "(LCoarserOrders$Arc;)Z") ∈ lw_all := lw_g (lw_at lw_m11 58 rfl) rfl
theorem q2614 : (Jvm.Cond.sameMethod "CoarserOrders$Longer" "CoarserOrders$Longer" "parts" "(ILCoarserOrders$Trace;)I") ∈ lw_all := lw_g (lw_at lw_m11 64 rfl) rfl
theorem q2618 : (Jvm.Cond.castable "CoarserOrders$Longer" "CoarserOrders$Plain") ∈ lw_tbl := lw_at lw_m11 68 rfl

abbrev cX11_init : ByteArray := prog_29_method_1_code
def yX11_init : MethodName := ⟨RX11, "<init>", "(II)V"⟩
def dkwX11_init_0 : List UInt8 := [42, 27, 28, 183, 0, 3, 177]
abbrev dktX11_init_0 : List UInt8 := dkwX11_init_0 ++ []
theorem dksX11_init_0 : cX11_init.data.toList.drop 0 = dktX11_init_0 := by decide +kernel
theorem dX11_init_0 : decode cX11_init 0 = .ok (.aload_n 0, 1) := dk_42 (dk_at dksX11_init_0 0 rfl rfl)
theorem dX11_init_1 : decode cX11_init 1 = .ok (.iload_n 1, 1) := dk_27 (dk_at dksX11_init_0 1 rfl rfl)
theorem dX11_init_2 : decode cX11_init 2 = .ok (.iload_n 2, 1) := dk_28 (dk_at dksX11_init_0 2 rfl rfl)
theorem dX11_init_3 : decode cX11_init 3 = .ok (.invokespecial 3, 3) := dk_183 0 3 (dk_at dksX11_init_0 3 rfl rfl)
theorem dX11_init_6 : decode cX11_init 6 = .ok (.return_, 1) := dk_177 (dk_at dksX11_init_0 6 rfl rfl)
abbrev cX11_kind : ByteArray := prog_29_method_2_code
def yX11_kind : MethodName := ⟨RX11, "kind", "()I"⟩
theorem dX11_kind_0 : decode cX11_kind 0 = .ok (.iconst 3, 1) := by decide +kernel
theorem dX11_kind_1 : decode cX11_kind 1 = .ok (.ireturn, 1) := by decide +kernel
abbrev cX11_takes : ByteArray := prog_29_method_3_code
def yX11_takes : MethodName := ⟨RX11, "takes", "(LCoarserOrders$Arc;)Z"⟩
def dkwX11_takes_0 : List UInt8 := [42, 43, 183, 0, 9, 153, 0, 14, 43, 182, 0, 13, 158, 0, 7, 4, 167, 0, 4, 3, 172]
abbrev dktX11_takes_0 : List UInt8 := dkwX11_takes_0 ++ []
theorem dksX11_takes_0 : cX11_takes.data.toList.drop 0 = dktX11_takes_0 := by decide +kernel
theorem dX11_takes_0 : decode cX11_takes 0 = .ok (.aload_n 0, 1) := dk_42 (dk_at dksX11_takes_0 0 rfl rfl)
theorem dX11_takes_1 : decode cX11_takes 1 = .ok (.aload_n 1, 1) := dk_43 (dk_at dksX11_takes_0 1 rfl rfl)
theorem dX11_takes_2 : decode cX11_takes 2 = .ok (.invokespecial 9, 3) := dk_183 0 9 (dk_at dksX11_takes_0 2 rfl rfl)
theorem dX11_takes_5 : decode cX11_takes 5 = .ok (.ifCond .eq 14, 3) := dk_153 0 14 (dk_at dksX11_takes_0 5 rfl rfl)
theorem dX11_takes_8 : decode cX11_takes 8 = .ok (.aload_n 1, 1) := dk_43 (dk_at dksX11_takes_0 8 rfl rfl)
theorem dX11_takes_9 : decode cX11_takes 9 = .ok (.invokevirtual 13, 3) := dk_182 0 13 (dk_at dksX11_takes_0 9 rfl rfl)
theorem dX11_takes_12 : decode cX11_takes 12 = .ok (.ifCond .le 7, 3) := dk_158 0 7 (dk_at dksX11_takes_0 12 rfl rfl)
theorem dX11_takes_15 : decode cX11_takes 15 = .ok (.iconst 1, 1) := dk_4 (dk_at dksX11_takes_0 15 rfl rfl)
theorem dX11_takes_16 : decode cX11_takes 16 = .ok (.goto 4, 3) := dk_167 0 4 (dk_at dksX11_takes_0 16 rfl rfl)
theorem dX11_takes_19 : decode cX11_takes 19 = .ok (.iconst 0, 1) := dk_3 (dk_at dksX11_takes_0 19 rfl rfl)
theorem dX11_takes_20 : decode cX11_takes 20 = .ok (.ireturn, 1) := dk_172 (dk_at dksX11_takes_0 20 rfl rfl)
abbrev cX11_turns : ByteArray := prog_29_method_4_code
def yX11_turns : MethodName := ⟨RX11, "turns", "(ILCoarserOrders$Trace;)I"⟩
def dkwX11_turns_0 : List UInt8 := [44, 16, 40, 182, 0, 19, 3, 42, 27, 5, 96, 44, 183, 0, 25, 100, 172]
abbrev dktX11_turns_0 : List UInt8 := dkwX11_turns_0 ++ []
theorem dksX11_turns_0 : cX11_turns.data.toList.drop 0 = dktX11_turns_0 := by decide +kernel
theorem dX11_turns_0 : decode cX11_turns 0 = .ok (.aload_n 2, 1) := dk_44 (dk_at dksX11_turns_0 0 rfl rfl)
theorem dX11_turns_1 : decode cX11_turns 1 = .ok (.bipush 40, 2) := dk_16 40 (dk_at dksX11_turns_0 1 rfl rfl)
theorem dX11_turns_3 : decode cX11_turns 3 = .ok (.invokevirtual 19, 3) := dk_182 0 19 (dk_at dksX11_turns_0 3 rfl rfl)
theorem dX11_turns_6 : decode cX11_turns 6 = .ok (.iconst 0, 1) := dk_3 (dk_at dksX11_turns_0 6 rfl rfl)
theorem dX11_turns_7 : decode cX11_turns 7 = .ok (.aload_n 0, 1) := dk_42 (dk_at dksX11_turns_0 7 rfl rfl)
theorem dX11_turns_8 : decode cX11_turns 8 = .ok (.iload_n 1, 1) := dk_27 (dk_at dksX11_turns_0 8 rfl rfl)
theorem dX11_turns_9 : decode cX11_turns 9 = .ok (.iconst 2, 1) := dk_5 (dk_at dksX11_turns_0 9 rfl rfl)
theorem dX11_turns_10 : decode cX11_turns 10 = .ok (.iadd, 1) := dk_96 (dk_at dksX11_turns_0 10 rfl rfl)
theorem dX11_turns_11 : decode cX11_turns 11 = .ok (.aload_n 2, 1) := dk_44 (dk_at dksX11_turns_0 11 rfl rfl)
theorem dX11_turns_12 : decode cX11_turns 12 = .ok (.invokespecial 25, 3) := dk_183 0 25 (dk_at dksX11_turns_0 12 rfl rfl)
theorem dX11_turns_15 : decode cX11_turns 15 = .ok (.isub, 1) := dk_100 (dk_at dksX11_turns_0 15 rfl rfl)
theorem dX11_turns_16 : decode cX11_turns 16 = .ok (.ireturn, 1) := dk_172 (dk_at dksX11_turns_0 16 rfl rfl)
theorem q170 : (Jvm.Cond.initialized "CoarserOrders$Twosided") ∈ lw_all := lw_g (lw_at lw_m1 20 rfl) rfl
theorem q866 : (Jvm.Cond.instantiable "CoarserOrders$Twosided" (2 : Nat)) ∈ lw_all := lw_g (lw_at lw_m3 236 rfl) rfl
theorem q868 : (Jvm.Cond.instanceMethod ({ cls := "CoarserOrders$Twosided", name := "<init>", desc := "(II)V" } : Jvm.MethodName)) ∈ lw_all := lw_g (lw_at lw_m3 238 rfl) rfl
theorem q869 : (Jvm.Cond.code ({ cls := "CoarserOrders$Twosided", name := "<init>", desc := "(II)V" } : Jvm.MethodName) prog_29_method_1_code (3 : Nat) (Option.none : Option Jvm.ClassFile.FieldType)) ∈ lw_all := lw_g (lw_at lw_m3 239 rfl) rfl
theorem q870 : (Jvm.Cond.methodLink "CoarserOrders$Twosided" (3 : Nat) ({ cls := "CoarserOrders$Lefty", name := "<init>", desc := "(II)V" } : Jvm.MethodName)) ∈ lw_all := lw_g (lw_at lw_m4 0 rfl) rfl
theorem q871 : (Jvm.Cond.laysFinal "CoarserOrders$Twosided" "CoarserOrders$Plain" "number" "I") ∈ lw_all := lw_g (lw_at lw_m4 1 rfl) rfl
theorem q872 : (Jvm.Cond.laysFinal "CoarserOrders$Twosided" "CoarserOrders$Plain" "mark" "I") ∈ lw_all := lw_g (lw_at lw_m4 2 rfl) rfl
theorem q873 : (Jvm.Cond.superclass "CoarserOrders$Twosided" "CoarserOrders$Lefty") ∈ lw_all := lw_g (lw_at lw_m4 3 rfl) rfl
theorem q921 : (Jvm.Cond.selects "CoarserOrders$Twosided" ({ cls := "CoarserOrders$Plain", name := "kind", desc := "()I" } : Jvm.MethodName) ({ cls := "CoarserOrders$Twosided", name := "kind", desc := "()I" } : Jvm.MethodName)) ∈ lw_all := lw_g (lw_at lw_m4 51 rfl) rfl
theorem q922 : (Jvm.Cond.instanceMethod ({ cls := "CoarserOrders$Twosided", name := "kind", desc := "()I" } : Jvm.MethodName)) ∈ lw_all := lw_g (lw_at lw_m4 52 rfl) rfl
theorem q923 : (Jvm.Cond.code ({ cls := "CoarserOrders$Twosided", name := "kind", desc := "()I" } : Jvm.MethodName) prog_29_method_2_code (1 : Nat) (Option.some Jvm.ClassFile.FieldType.int)) ∈ lw_all := lw_g (lw_at lw_m4 53 rfl) rfl
theorem q933 : (Jvm.Cond.selects "CoarserOrders$Twosided" ({ cls := "CoarserOrders$Plain", name := "mark", desc := "()I" } : Jvm.MethodName) ({ cls := "CoarserOrders$Plain", name := "mark", desc := "()I" } : Jvm.MethodName)) ∈ lw_all := lw_g (lw_at lw_m4 63 rfl) rfl
theorem q981 : (Jvm.Cond.selects "CoarserOrders$Twosided" ({ cls := "CoarserOrders$Plain", name := "takes", desc := "(LCoarserOrders$Arc;)Z" } : Jvm.MethodName) ({ cls := "CoarserOrders$Twosided", name := "takes", desc := "(LCoarserOrders$Arc;)Z" } : Jvm.MethodName)) ∈ lw_all := lw_g (lw_at lw_m4 111 rfl) rfl
theorem q982 : (Jvm.Cond.instanceMethod ({ cls := "CoarserOrders$Twosided", name := "takes", desc := "(LCoarserOrders$Arc;)Z" } : Jvm.MethodName)) ∈ lw_all := lw_g (lw_at lw_m4 112 rfl) rfl
theorem q983 : (Jvm.Cond.code ({ cls := "CoarserOrders$Twosided", name := "takes", desc := "(LCoarserOrders$Arc;)Z" } : Jvm.MethodName) prog_29_method_3_code (2 : Nat) (Option.some Jvm.ClassFile.FieldType.boolean)) ∈ lw_all := lw_g (lw_at lw_m4 113 rfl) rfl
theorem q984 : (Jvm.Cond.methodLink "CoarserOrders$Twosided" (9 : Nat) ({ cls := "CoarserOrders$Lefty", name := "takes", desc := "(LCoarserOrders$Arc;)Z" } : Jvm.MethodName)) ∈ lw_all := lw_g (lw_at lw_m4 114 rfl) rfl
theorem q985 : (Jvm.Cond.methodLink "CoarserOrders$Twosided" (13 : Nat) ({ cls := "CoarserOrders$Arc", name := "rights", desc := "()I" } : Jvm.MethodName)) ∈ lw_all := lw_g (lw_at lw_m4 115 rfl) rfl
theorem q1665 : (Jvm.Cond.selects "CoarserOrders$Twosided" ({ cls := "CoarserOrders$Plain", name := "number", desc := "()I" } : Jvm.MethodName) ({ cls := "CoarserOrders$Plain", name := "number", desc := "()I" } : Jvm.MethodName)) ∈ lw_all := lw_g (lw_at lw_m7 75 rfl) rfl
theorem q1721 : (Jvm.Cond.castable "CoarserOrders$Twosided" "CoarserOrders$Turns") ∈ lw_tbl := lw_at lw_m7 131 rfl
theorem q1722 : (Jvm.Cond.selects "CoarserOrders$Twosided" ({ cls := "CoarserOrders$Turns", name := "number", desc := "()I" } : Jvm.MethodName) ({ cls := "CoarserOrders$Plain", name := "number", desc := "()I" } : Jvm.MethodName)) ∈ lw_all := lw_g (lw_at lw_m7 132 rfl) rfl
theorem q1723 : (Jvm.Cond.unhidden "CoarserOrders$Twosided" "number" "()I") ∈ lw_tbl := lw_at lw_m7 133 rfl
theorem q1734 : (Jvm.Cond.castable "CoarserOrders$Twosided" "CoarserOrders$Joins") ∈ lw_tbl := lw_at lw_m7 144 rfl
theorem q1735 : (Jvm.Cond.selects "CoarserOrders$Twosided" ({ cls := "CoarserOrders$Turns", name := "turns", desc := "(ILCoarserOrders$Trace;)I" } : Jvm.MethodName) ({ cls := "CoarserOrders$Twosided", name := "turns", desc := "(ILCoarserOrders$Trace;)I" } : Jvm.MethodName)) ∈ lw_all := lw_g (lw_at lw_m7 145 rfl) rfl
theorem q1736 : (Jvm.Cond.unhidden "CoarserOrders$Twosided" "turns" "(ILCoarserOrders$Trace;)I") ∈ lw_tbl := lw_at lw_m7 146 rfl
theorem q1737 : (Jvm.Cond.instanceMethod ({ cls := "CoarserOrders$Twosided", name := "turns", desc := "(ILCoarserOrders$Trace;)I" } : Jvm.MethodName)) ∈ lw_all := lw_g (lw_at lw_m7 147 rfl) rfl
theorem q1738 : (Jvm.Cond.publicMethod ({ cls := "CoarserOrders$Twosided", name := "turns", desc := "(ILCoarserOrders$Trace;)I" } : Jvm.MethodName)) ∈ lw_tbl := lw_at lw_m7 148 rfl
theorem q1739 : (Jvm.Cond.code ({ cls := "CoarserOrders$Twosided", name := "turns", desc := "(ILCoarserOrders$Trace;)I" } : Jvm.MethodName) prog_29_method_4_code (3 : Nat) (Option.some Jvm.ClassFile.FieldType.int)) ∈ lw_all := lw_g (lw_at lw_m7 149 rfl) rfl
theorem q1740 : (Jvm.Cond.methodLink "CoarserOrders$Twosided" (19 : Nat) ({ cls := "CoarserOrders$Trace", name := "ran", desc := "(I)V" } : Jvm.MethodName)) ∈ lw_all := lw_g (lw_at lw_m7 150 rfl) rfl
theorem q1741 : (Jvm.Cond.methodLink "CoarserOrders$Twosided" (25 : Nat) ({ cls := "CoarserOrders$Lefty", name := "turns", desc := "(ILCoarserOrders$Trace;)I" } : Jvm.MethodName)) ∈ lw_all := lw_g (lw_at lw_m7 151 rfl) rfl
theorem q1755 : (Jvm.Cond.castable "CoarserOrders$Twosided" "CoarserOrders$Bends") ∈ lw_tbl := lw_at lw_m7 165 rfl
theorem q1769 : (Jvm.Cond.selects "CoarserOrders$Twosided" ({ cls := "CoarserOrders$Turns", name := "mark", desc := "()I" } : Jvm.MethodName) ({ cls := "CoarserOrders$Plain", name := "mark", desc := "()I" } : Jvm.MethodName)) ∈ lw_all := lw_g (lw_at lw_m7 179 rfl) rfl
theorem q1770 : (Jvm.Cond.unhidden "CoarserOrders$Twosided" "mark" "()I") ∈ lw_tbl := lw_at lw_m7 180 rfl
theorem q1781 : (Jvm.Cond.unhidden "CoarserOrders$Twosided" "bends" "(ILCoarserOrders$Trace;)I") ∈ lw_tbl := lw_at lw_m7 191 rfl
theorem q1795 : (Jvm.Cond.castable "CoarserOrders$Twosided" "CoarserOrders$Parts") ∈ lw_tbl := lw_at lw_m7 205 rfl
theorem q1819 : (Jvm.Cond.unhidden "CoarserOrders$Twosided" "parts" "(ILCoarserOrders$Trace;)I") ∈ lw_tbl := lw_at lw_m7 229 rfl
theorem q1848 : (Jvm.Cond.unhidden "CoarserOrders$Twosided" "joins" "(ILCoarserOrders$Trace;)I") ∈ lw_tbl := lw_at lw_m8 18 rfl
theorem q2621 : (Jvm.Cond.castable "CoarserOrders$Twosided" "CoarserOrders$Plain") ∈ lw_tbl := lw_at lw_m11 71 rfl
theorem q2623 : (Jvm.Cond.castable "CoarserOrders$Twosided" "CoarserOrders$Lefty") ∈ lw_tbl := lw_at lw_m11 73 rfl

abbrev cX12_init : ByteArray := prog_23_method_1_code
def yX12_init : MethodName := ⟨RX12, "<init>", "(II)V"⟩
def dkwX12_init_0 : List UInt8 := [42, 27, 28, 183, 0, 3, 177]
abbrev dktX12_init_0 : List UInt8 := dkwX12_init_0 ++ []
theorem dksX12_init_0 : cX12_init.data.toList.drop 0 = dktX12_init_0 := by decide +kernel
theorem dX12_init_0 : decode cX12_init 0 = .ok (.aload_n 0, 1) := dk_42 (dk_at dksX12_init_0 0 rfl rfl)
theorem dX12_init_1 : decode cX12_init 1 = .ok (.iload_n 1, 1) := dk_27 (dk_at dksX12_init_0 1 rfl rfl)
theorem dX12_init_2 : decode cX12_init 2 = .ok (.iload_n 2, 1) := dk_28 (dk_at dksX12_init_0 2 rfl rfl)
theorem dX12_init_3 : decode cX12_init 3 = .ok (.invokespecial 3, 3) := dk_183 0 3 (dk_at dksX12_init_0 3 rfl rfl)
theorem dX12_init_6 : decode cX12_init 6 = .ok (.return_, 1) := dk_177 (dk_at dksX12_init_0 6 rfl rfl)
abbrev cX12_kind : ByteArray := prog_23_method_2_code
def yX12_kind : MethodName := ⟨RX12, "kind", "()I"⟩
theorem dX12_kind_0 : decode cX12_kind 0 = .ok (.iconst 4, 1) := by decide +kernel
theorem dX12_kind_1 : decode cX12_kind 1 = .ok (.ireturn, 1) := by decide +kernel
abbrev cX12_takes : ByteArray := prog_23_method_3_code
def yX12_takes : MethodName := ⟨RX12, "takes", "(LCoarserOrders$Arc;)Z"⟩
def dkwX12_takes_2 : List UInt8 := [167, 255, 216, 3, 172]
abbrev dktX12_takes_2 : List UInt8 := dkwX12_takes_2 ++ []
def dkwX12_takes_1 : List UInt8 := [28, 5, 100, 122, 4, 126, 4, 162, 0, 7, 4, 167, 0, 4, 3, 160, 0, 5, 4, 172, 132, 2, 1]
abbrev dktX12_takes_1 : List UInt8 := dkwX12_takes_1 ++ dktX12_takes_2
def dkwX12_takes_0 : List UInt8 := [43, 180, 0, 9, 4, 96, 61, 28, 43, 180, 0, 15, 162, 0, 38, 43, 28, 182, 0, 18, 42, 182, 0, 22]
abbrev dktX12_takes_0 : List UInt8 := dkwX12_takes_0 ++ dktX12_takes_1
theorem dksX12_takes_0 : cX12_takes.data.toList.drop 0 = dktX12_takes_0 := by decide +kernel
theorem dksX12_takes_1 : cX12_takes.data.toList.drop 24 = dktX12_takes_1 := dk_seg dksX12_takes_0 24 rfl rfl
theorem dksX12_takes_2 : cX12_takes.data.toList.drop 47 = dktX12_takes_2 := dk_seg dksX12_takes_1 23 rfl rfl
theorem dX12_takes_0 : decode cX12_takes 0 = .ok (.aload_n 1, 1) := dk_43 (dk_at dksX12_takes_0 0 rfl rfl)
theorem dX12_takes_1 : decode cX12_takes 1 = .ok (.getfield 9, 3) := dk_180 0 9 (dk_at dksX12_takes_0 1 rfl rfl)
theorem dX12_takes_4 : decode cX12_takes 4 = .ok (.iconst 1, 1) := dk_4 (dk_at dksX12_takes_0 4 rfl rfl)
theorem dX12_takes_5 : decode cX12_takes 5 = .ok (.iadd, 1) := dk_96 (dk_at dksX12_takes_0 5 rfl rfl)
theorem dX12_takes_6 : decode cX12_takes 6 = .ok (.istore_n 2, 1) := dk_61 (dk_at dksX12_takes_0 6 rfl rfl)
theorem dX12_takes_7 : decode cX12_takes 7 = .ok (.iload_n 2, 1) := dk_28 (dk_at dksX12_takes_0 7 rfl rfl)
theorem dX12_takes_8 : decode cX12_takes 8 = .ok (.aload_n 1, 1) := dk_43 (dk_at dksX12_takes_0 8 rfl rfl)
theorem dX12_takes_9 : decode cX12_takes 9 = .ok (.getfield 15, 3) := dk_180 0 15 (dk_at dksX12_takes_0 9 rfl rfl)
theorem dX12_takes_12 : decode cX12_takes 12 = .ok (.if_icmp .ge 38, 3) := dk_162 0 38 (dk_at dksX12_takes_0 12 rfl rfl)
theorem dX12_takes_15 : decode cX12_takes 15 = .ok (.aload_n 1, 1) := dk_43 (dk_at dksX12_takes_0 15 rfl rfl)
theorem dX12_takes_16 : decode cX12_takes 16 = .ok (.iload_n 2, 1) := dk_28 (dk_at dksX12_takes_0 16 rfl rfl)
theorem dX12_takes_17 : decode cX12_takes 17 = .ok (.invokevirtual 18, 3) := dk_182 0 18 (dk_at dksX12_takes_0 17 rfl rfl)
theorem dX12_takes_20 : decode cX12_takes 20 = .ok (.aload_n 0, 1) := dk_42 (dk_at dksX12_takes_0 20 rfl rfl)
theorem dX12_takes_21 : decode cX12_takes 21 = .ok (.invokevirtual 22, 3) := dk_182 0 22 (dk_at dksX12_takes_0 21 rfl rfl)
theorem dX12_takes_24 : decode cX12_takes 24 = .ok (.iload_n 2, 1) := dk_28 (dk_at dksX12_takes_1 0 rfl rfl)
theorem dX12_takes_25 : decode cX12_takes 25 = .ok (.iconst 2, 1) := dk_5 (dk_at dksX12_takes_1 1 rfl rfl)
theorem dX12_takes_26 : decode cX12_takes 26 = .ok (.isub, 1) := dk_100 (dk_at dksX12_takes_1 2 rfl rfl)
theorem dX12_takes_27 : decode cX12_takes 27 = .ok (.ishr, 1) := dk_122 (dk_at dksX12_takes_1 3 rfl rfl)
theorem dX12_takes_28 : decode cX12_takes 28 = .ok (.iconst 1, 1) := dk_4 (dk_at dksX12_takes_1 4 rfl rfl)
theorem dX12_takes_29 : decode cX12_takes 29 = .ok (.iand, 1) := dk_126 (dk_at dksX12_takes_1 5 rfl rfl)
theorem dX12_takes_30 : decode cX12_takes 30 = .ok (.iconst 1, 1) := dk_4 (dk_at dksX12_takes_1 6 rfl rfl)
theorem dX12_takes_31 : decode cX12_takes 31 = .ok (.if_icmp .ge 7, 3) := dk_162 0 7 (dk_at dksX12_takes_1 7 rfl rfl)
theorem dX12_takes_34 : decode cX12_takes 34 = .ok (.iconst 1, 1) := dk_4 (dk_at dksX12_takes_1 10 rfl rfl)
theorem dX12_takes_35 : decode cX12_takes 35 = .ok (.goto 4, 3) := dk_167 0 4 (dk_at dksX12_takes_1 11 rfl rfl)
theorem dX12_takes_38 : decode cX12_takes 38 = .ok (.iconst 0, 1) := dk_3 (dk_at dksX12_takes_1 14 rfl rfl)
theorem dX12_takes_39 : decode cX12_takes 39 = .ok (.if_icmp .ne 5, 3) := dk_160 0 5 (dk_at dksX12_takes_1 15 rfl rfl)
theorem dX12_takes_42 : decode cX12_takes 42 = .ok (.iconst 1, 1) := dk_4 (dk_at dksX12_takes_1 18 rfl rfl)
theorem dX12_takes_43 : decode cX12_takes 43 = .ok (.ireturn, 1) := dk_172 (dk_at dksX12_takes_1 19 rfl rfl)
theorem dX12_takes_44 : decode cX12_takes 44 = .ok (.iinc 2 1, 3) := dk_132 2 1 (dk_at dksX12_takes_1 20 rfl rfl)
theorem dX12_takes_47 : decode cX12_takes 47 = .ok (.goto (-40), 3) := dk_167 255 216 (dk_at dksX12_takes_2 0 rfl rfl)
theorem dX12_takes_50 : decode cX12_takes 50 = .ok (.iconst 0, 1) := dk_3 (dk_at dksX12_takes_2 3 rfl rfl)
theorem dX12_takes_51 : decode cX12_takes 51 = .ok (.ireturn, 1) := dk_172 (dk_at dksX12_takes_2 4 rfl rfl)
abbrev cX12_joins : ByteArray := prog_23_method_4_code
def yX12_joins : MethodName := ⟨RX12, "joins", "(ILCoarserOrders$Trace;)I"⟩
def dkwX12_joins_1 : List UInt8 := [172]
abbrev dktX12_joins_1 : List UInt8 := dkwX12_joins_1 ++ []
def dkwX12_joins_0 : List UInt8 := [44, 16, 50, 182, 0, 28, 42, 27, 44, 183, 0, 34, 62, 29, 42, 42, 182, 0, 22, 44, 182, 0, 38, 100]
abbrev dktX12_joins_0 : List UInt8 := dkwX12_joins_0 ++ dktX12_joins_1
theorem dksX12_joins_0 : cX12_joins.data.toList.drop 0 = dktX12_joins_0 := by decide +kernel
theorem dksX12_joins_1 : cX12_joins.data.toList.drop 24 = dktX12_joins_1 := dk_seg dksX12_joins_0 24 rfl rfl
theorem dX12_joins_0 : decode cX12_joins 0 = .ok (.aload_n 2, 1) := dk_44 (dk_at dksX12_joins_0 0 rfl rfl)
theorem dX12_joins_1 : decode cX12_joins 1 = .ok (.bipush 50, 2) := dk_16 50 (dk_at dksX12_joins_0 1 rfl rfl)
theorem dX12_joins_3 : decode cX12_joins 3 = .ok (.invokevirtual 28, 3) := dk_182 0 28 (dk_at dksX12_joins_0 3 rfl rfl)
theorem dX12_joins_6 : decode cX12_joins 6 = .ok (.aload_n 0, 1) := dk_42 (dk_at dksX12_joins_0 6 rfl rfl)
theorem dX12_joins_7 : decode cX12_joins 7 = .ok (.iload_n 1, 1) := dk_27 (dk_at dksX12_joins_0 7 rfl rfl)
theorem dX12_joins_8 : decode cX12_joins 8 = .ok (.aload_n 2, 1) := dk_44 (dk_at dksX12_joins_0 8 rfl rfl)
theorem dX12_joins_9 : decode cX12_joins 9 = .ok (.invokespecial 34, 3) := dk_183 0 34 (dk_at dksX12_joins_0 9 rfl rfl)
theorem dX12_joins_12 : decode cX12_joins 12 = .ok (.istore_n 3, 1) := dk_62 (dk_at dksX12_joins_0 12 rfl rfl)
theorem dX12_joins_13 : decode cX12_joins 13 = .ok (.iload_n 3, 1) := dk_29 (dk_at dksX12_joins_0 13 rfl rfl)
theorem dX12_joins_14 : decode cX12_joins 14 = .ok (.aload_n 0, 1) := dk_42 (dk_at dksX12_joins_0 14 rfl rfl)
theorem dX12_joins_15 : decode cX12_joins 15 = .ok (.aload_n 0, 1) := dk_42 (dk_at dksX12_joins_0 15 rfl rfl)
theorem dX12_joins_16 : decode cX12_joins 16 = .ok (.invokevirtual 22, 3) := dk_182 0 22 (dk_at dksX12_joins_0 16 rfl rfl)
theorem dX12_joins_19 : decode cX12_joins 19 = .ok (.aload_n 2, 1) := dk_44 (dk_at dksX12_joins_0 19 rfl rfl)
theorem dX12_joins_20 : decode cX12_joins 20 = .ok (.invokevirtual 38, 3) := dk_182 0 38 (dk_at dksX12_joins_0 20 rfl rfl)
theorem dX12_joins_23 : decode cX12_joins 23 = .ok (.isub, 1) := dk_100 (dk_at dksX12_joins_0 23 rfl rfl)
theorem dX12_joins_24 : decode cX12_joins 24 = .ok (.ireturn, 1) := dk_172 (dk_at dksX12_joins_1 0 rfl rfl)
theorem q171 : (Jvm.Cond.initialized "CoarserOrders$Signed") ∈ lw_all := lw_g (lw_at lw_m1 21 rfl) rfl
theorem q404 : (Jvm.Cond.fieldLinkNest "CoarserOrders$Signed" (9 : Nat) "CoarserOrders$Arc" "low" "I" "CoarserOrders") ∈ lw_tbl := lw_at lw_m2 14 rfl
theorem q409 : (Jvm.Cond.fieldLinkNest "CoarserOrders$Signed" (15 : Nat) "CoarserOrders$Arc" "high" "I" "CoarserOrders") ∈ lw_tbl := lw_at lw_m2 19 rfl
theorem q875 : (Jvm.Cond.instantiable "CoarserOrders$Signed" (2 : Nat)) ∈ lw_all := lw_g (lw_at lw_m4 5 rfl) rfl
theorem q877 : (Jvm.Cond.instanceMethod ({ cls := "CoarserOrders$Signed", name := "<init>", desc := "(II)V" } : Jvm.MethodName)) ∈ lw_all := lw_g (lw_at lw_m4 7 rfl) rfl
theorem q878 : (Jvm.Cond.code ({ cls := "CoarserOrders$Signed", name := "<init>", desc := "(II)V" } : Jvm.MethodName) prog_23_method_1_code (3 : Nat) (Option.none : Option Jvm.ClassFile.FieldType)) ∈ lw_all := lw_g (lw_at lw_m4 8 rfl) rfl
theorem q879 : (Jvm.Cond.methodLink "CoarserOrders$Signed" (3 : Nat) ({ cls := "CoarserOrders$Lefty", name := "<init>", desc := "(II)V" } : Jvm.MethodName)) ∈ lw_all := lw_g (lw_at lw_m4 9 rfl) rfl
theorem q880 : (Jvm.Cond.laysFinal "CoarserOrders$Signed" "CoarserOrders$Plain" "number" "I") ∈ lw_all := lw_g (lw_at lw_m4 10 rfl) rfl
theorem q881 : (Jvm.Cond.laysFinal "CoarserOrders$Signed" "CoarserOrders$Plain" "mark" "I") ∈ lw_all := lw_g (lw_at lw_m4 11 rfl) rfl
theorem q882 : (Jvm.Cond.superclass "CoarserOrders$Signed" "CoarserOrders$Lefty") ∈ lw_all := lw_g (lw_at lw_m4 12 rfl) rfl
theorem q918 : (Jvm.Cond.selects "CoarserOrders$Signed" ({ cls := "CoarserOrders$Plain", name := "kind", desc := "()I" } : Jvm.MethodName) ({ cls := "CoarserOrders$Signed", name := "kind", desc := "()I" } : Jvm.MethodName)) ∈ lw_all := lw_g (lw_at lw_m4 48 rfl) rfl
theorem q919 : (Jvm.Cond.instanceMethod ({ cls := "CoarserOrders$Signed", name := "kind", desc := "()I" } : Jvm.MethodName)) ∈ lw_all := lw_g (lw_at lw_m4 49 rfl) rfl
theorem q920 : (Jvm.Cond.code ({ cls := "CoarserOrders$Signed", name := "kind", desc := "()I" } : Jvm.MethodName) prog_23_method_2_code (1 : Nat) (Option.some Jvm.ClassFile.FieldType.int)) ∈ lw_all := lw_g (lw_at lw_m4 50 rfl) rfl
theorem q932 : (Jvm.Cond.selects "CoarserOrders$Signed" ({ cls := "CoarserOrders$Plain", name := "mark", desc := "()I" } : Jvm.MethodName) ({ cls := "CoarserOrders$Plain", name := "mark", desc := "()I" } : Jvm.MethodName)) ∈ lw_all := lw_g (lw_at lw_m4 62 rfl) rfl
theorem q974 : (Jvm.Cond.selects "CoarserOrders$Signed" ({ cls := "CoarserOrders$Plain", name := "takes", desc := "(LCoarserOrders$Arc;)Z" } : Jvm.MethodName) ({ cls := "CoarserOrders$Signed", name := "takes", desc := "(LCoarserOrders$Arc;)Z" } : Jvm.MethodName)) ∈ lw_all := lw_g (lw_at lw_m4 104 rfl) rfl
theorem q975 : (Jvm.Cond.instanceMethod ({ cls := "CoarserOrders$Signed", name := "takes", desc := "(LCoarserOrders$Arc;)Z" } : Jvm.MethodName)) ∈ lw_all := lw_g (lw_at lw_m4 105 rfl) rfl
theorem q976 : (Jvm.Cond.code ({ cls := "CoarserOrders$Signed", name := "takes", desc := "(LCoarserOrders$Arc;)Z" } : Jvm.MethodName) prog_23_method_3_code (3 : Nat) (Option.some Jvm.ClassFile.FieldType.boolean)) ∈ lw_all := lw_g (lw_at lw_m4 106 rfl) rfl
theorem q977 : (Jvm.Cond.methodLink "CoarserOrders$Signed" (18 : Nat) ({ cls := "CoarserOrders$Arc", name := "isLeft", desc := "(I)Z" } : Jvm.MethodName)) ∈ lw_all := lw_g (lw_at lw_m4 107 rfl) rfl
theorem q978 : (Jvm.Cond.methodLink "CoarserOrders$Signed" (22 : Nat) ({ cls := "CoarserOrders$Signed", name := "mark", desc := "()I" } : Jvm.MethodName)) ∈ lw_all := lw_g (lw_at lw_m4 108 rfl) rfl
theorem q979 : (Jvm.Cond.sameMethod "CoarserOrders$Signed" "CoarserOrders$Plain" "mark" "()I") ∈ lw_all := lw_g (lw_at lw_m4 109 rfl) rfl
theorem q980 : (Jvm.Cond.selects "CoarserOrders$Signed" ({ cls := "CoarserOrders$Signed", name := "mark", desc := "()I" } : Jvm.MethodName) ({ cls := "CoarserOrders$Plain", name := "mark", desc := "()I" } : Jvm.MethodName)) ∈ lw_all := lw_g (lw_at lw_m4 110 rfl) rfl
theorem q1664 : (Jvm.Cond.selects "CoarserOrders$Signed" ({ cls := "CoarserOrders$Plain", name := "number", desc := "()I" } : Jvm.MethodName) ({ cls := "CoarserOrders$Plain", name := "number", desc := "()I" } : Jvm.MethodName)) ∈ lw_all := lw_g (lw_at lw_m7 74 rfl) rfl
theorem q1718 : (Jvm.Cond.castable "CoarserOrders$Signed" "CoarserOrders$Turns") ∈ lw_tbl := lw_at lw_m7 128 rfl
theorem q1719 : (Jvm.Cond.selects "CoarserOrders$Signed" ({ cls := "CoarserOrders$Turns", name := "number", desc := "()I" } : Jvm.MethodName) ({ cls := "CoarserOrders$Plain", name := "number", desc := "()I" } : Jvm.MethodName)) ∈ lw_all := lw_g (lw_at lw_m7 129 rfl) rfl
theorem q1720 : (Jvm.Cond.unhidden "CoarserOrders$Signed" "number" "()I") ∈ lw_tbl := lw_at lw_m7 130 rfl
theorem q1731 : (Jvm.Cond.castable "CoarserOrders$Signed" "CoarserOrders$Joins") ∈ lw_tbl := lw_at lw_m7 141 rfl
theorem q1732 : (Jvm.Cond.selects "CoarserOrders$Signed" ({ cls := "CoarserOrders$Turns", name := "turns", desc := "(ILCoarserOrders$Trace;)I" } : Jvm.MethodName) ({ cls := "CoarserOrders$Lefty", name := "turns", desc := "(ILCoarserOrders$Trace;)I" } : Jvm.MethodName)) ∈ lw_all := lw_g (lw_at lw_m7 142 rfl) rfl
theorem q1733 : (Jvm.Cond.unhidden "CoarserOrders$Signed" "turns" "(ILCoarserOrders$Trace;)I") ∈ lw_tbl := lw_at lw_m7 143 rfl
theorem q1754 : (Jvm.Cond.castable "CoarserOrders$Signed" "CoarserOrders$Bends") ∈ lw_tbl := lw_at lw_m7 164 rfl
theorem q1767 : (Jvm.Cond.selects "CoarserOrders$Signed" ({ cls := "CoarserOrders$Turns", name := "mark", desc := "()I" } : Jvm.MethodName) ({ cls := "CoarserOrders$Plain", name := "mark", desc := "()I" } : Jvm.MethodName)) ∈ lw_all := lw_g (lw_at lw_m7 177 rfl) rfl
theorem q1768 : (Jvm.Cond.unhidden "CoarserOrders$Signed" "mark" "()I") ∈ lw_tbl := lw_at lw_m7 178 rfl
theorem q1780 : (Jvm.Cond.unhidden "CoarserOrders$Signed" "bends" "(ILCoarserOrders$Trace;)I") ∈ lw_tbl := lw_at lw_m7 190 rfl
theorem q1794 : (Jvm.Cond.castable "CoarserOrders$Signed" "CoarserOrders$Parts") ∈ lw_tbl := lw_at lw_m7 204 rfl
theorem q1818 : (Jvm.Cond.unhidden "CoarserOrders$Signed" "parts" "(ILCoarserOrders$Trace;)I") ∈ lw_tbl := lw_at lw_m7 228 rfl
theorem q1842 : (Jvm.Cond.selects "CoarserOrders$Signed" ({ cls := "CoarserOrders$Joins", name := "joins", desc := "(ILCoarserOrders$Trace;)I" } : Jvm.MethodName) ({ cls := "CoarserOrders$Signed", name := "joins", desc := "(ILCoarserOrders$Trace;)I" } : Jvm.MethodName)) ∈ lw_all := lw_g (lw_at lw_m8 12 rfl) rfl
theorem q1843 : (Jvm.Cond.unhidden "CoarserOrders$Signed" "joins" "(ILCoarserOrders$Trace;)I") ∈ lw_tbl := lw_at lw_m8 13 rfl
theorem q1844 : (Jvm.Cond.instanceMethod ({ cls := "CoarserOrders$Signed", name := "joins", desc := "(ILCoarserOrders$Trace;)I" } : Jvm.MethodName)) ∈ lw_all := lw_g (lw_at lw_m8 14 rfl) rfl
theorem q1845 : (Jvm.Cond.publicMethod ({ cls := "CoarserOrders$Signed", name := "joins", desc := "(ILCoarserOrders$Trace;)I" } : Jvm.MethodName)) ∈ lw_tbl := lw_at lw_m8 15 rfl
theorem q1846 : (Jvm.Cond.code ({ cls := "CoarserOrders$Signed", name := "joins", desc := "(ILCoarserOrders$Trace;)I" } : Jvm.MethodName) prog_23_method_4_code (4 : Nat) (Option.some Jvm.ClassFile.FieldType.int)) ∈ lw_all := lw_g (lw_at lw_m8 16 rfl) rfl
theorem q1847 : (Jvm.Cond.methodLink "CoarserOrders$Signed" (28 : Nat) ({ cls := "CoarserOrders$Trace", name := "ran", desc := "(I)V" } : Jvm.MethodName)) ∈ lw_all := lw_g (lw_at lw_m8 17 rfl) rfl
theorem q2620 : (Jvm.Cond.castable "CoarserOrders$Signed" "CoarserOrders$Plain") ∈ lw_tbl := lw_at lw_m11 70 rfl
theorem q2622 : (Jvm.Cond.castable "CoarserOrders$Signed" "CoarserOrders$Lefty") ∈ lw_tbl := lw_at lw_m11 72 rfl

abbrev cX13_init : ByteArray := prog_15_method_1_code
def yX13_init : MethodName := ⟨RX13, "<init>", "(II)V"⟩
def dkwX13_init_0 : List UInt8 := [42, 27, 28, 183, 0, 3, 177]
abbrev dktX13_init_0 : List UInt8 := dkwX13_init_0 ++ []
theorem dksX13_init_0 : cX13_init.data.toList.drop 0 = dktX13_init_0 := by decide +kernel
theorem dX13_init_0 : decode cX13_init 0 = .ok (.aload_n 0, 1) := dk_42 (dk_at dksX13_init_0 0 rfl rfl)
theorem dX13_init_1 : decode cX13_init 1 = .ok (.iload_n 1, 1) := dk_27 (dk_at dksX13_init_0 1 rfl rfl)
theorem dX13_init_2 : decode cX13_init 2 = .ok (.iload_n 2, 1) := dk_28 (dk_at dksX13_init_0 2 rfl rfl)
theorem dX13_init_3 : decode cX13_init 3 = .ok (.invokespecial 3, 3) := dk_183 0 3 (dk_at dksX13_init_0 3 rfl rfl)
theorem dX13_init_6 : decode cX13_init 6 = .ok (.return_, 1) := dk_177 (dk_at dksX13_init_0 6 rfl rfl)
abbrev cX13_kind : ByteArray := prog_15_method_2_code
def yX13_kind : MethodName := ⟨RX13, "kind", "()I"⟩
theorem dX13_kind_0 : decode cX13_kind 0 = .ok (.iconst 5, 1) := by decide +kernel
theorem dX13_kind_1 : decode cX13_kind 1 = .ok (.ireturn, 1) := by decide +kernel
abbrev cX13_takes : ByteArray := prog_15_method_3_code
def yX13_takes : MethodName := ⟨RX13, "takes", "(LCoarserOrders$Arc;)Z"⟩
def dkwX13_takes_1 : List UInt8 := [172]
abbrev dktX13_takes_1 : List UInt8 := dkwX13_takes_1 ++ []
def dkwX13_takes_0 : List UInt8 := [42, 43, 183, 0, 9, 154, 0, 14, 43, 182, 0, 13, 43, 182, 0, 19, 164, 0, 7, 4, 167, 0, 4, 3]
abbrev dktX13_takes_0 : List UInt8 := dkwX13_takes_0 ++ dktX13_takes_1
theorem dksX13_takes_0 : cX13_takes.data.toList.drop 0 = dktX13_takes_0 := by decide +kernel
theorem dksX13_takes_1 : cX13_takes.data.toList.drop 24 = dktX13_takes_1 := dk_seg dksX13_takes_0 24 rfl rfl
theorem dX13_takes_0 : decode cX13_takes 0 = .ok (.aload_n 0, 1) := dk_42 (dk_at dksX13_takes_0 0 rfl rfl)
theorem dX13_takes_1 : decode cX13_takes 1 = .ok (.aload_n 1, 1) := dk_43 (dk_at dksX13_takes_0 1 rfl rfl)
theorem dX13_takes_2 : decode cX13_takes 2 = .ok (.invokespecial 9, 3) := dk_183 0 9 (dk_at dksX13_takes_0 2 rfl rfl)
theorem dX13_takes_5 : decode cX13_takes 5 = .ok (.ifCond .ne 14, 3) := dk_154 0 14 (dk_at dksX13_takes_0 5 rfl rfl)
theorem dX13_takes_8 : decode cX13_takes 8 = .ok (.aload_n 1, 1) := dk_43 (dk_at dksX13_takes_0 8 rfl rfl)
theorem dX13_takes_9 : decode cX13_takes 9 = .ok (.invokevirtual 13, 3) := dk_182 0 13 (dk_at dksX13_takes_0 9 rfl rfl)
theorem dX13_takes_12 : decode cX13_takes 12 = .ok (.aload_n 1, 1) := dk_43 (dk_at dksX13_takes_0 12 rfl rfl)
theorem dX13_takes_13 : decode cX13_takes 13 = .ok (.invokevirtual 19, 3) := dk_182 0 19 (dk_at dksX13_takes_0 13 rfl rfl)
theorem dX13_takes_16 : decode cX13_takes 16 = .ok (.if_icmp .le 7, 3) := dk_164 0 7 (dk_at dksX13_takes_0 16 rfl rfl)
theorem dX13_takes_19 : decode cX13_takes 19 = .ok (.iconst 1, 1) := dk_4 (dk_at dksX13_takes_0 19 rfl rfl)
theorem dX13_takes_20 : decode cX13_takes 20 = .ok (.goto 4, 3) := dk_167 0 4 (dk_at dksX13_takes_0 20 rfl rfl)
theorem dX13_takes_23 : decode cX13_takes 23 = .ok (.iconst 0, 1) := dk_3 (dk_at dksX13_takes_0 23 rfl rfl)
theorem dX13_takes_24 : decode cX13_takes 24 = .ok (.ireturn, 1) := dk_172 (dk_at dksX13_takes_1 0 rfl rfl)
abbrev cX13_parts : ByteArray := prog_15_method_4_code
def yX13_parts : MethodName := ⟨RX13, "parts", "(ILCoarserOrders$Trace;)I"⟩
def dkwX13_parts_0 : List UInt8 := [44, 16, 60, 182, 0, 22, 42, 27, 42, 182, 0, 28, 100, 44, 183, 0, 33, 8, 130, 172]
abbrev dktX13_parts_0 : List UInt8 := dkwX13_parts_0 ++ []
theorem dksX13_parts_0 : cX13_parts.data.toList.drop 0 = dktX13_parts_0 := by decide +kernel
theorem dX13_parts_0 : decode cX13_parts 0 = .ok (.aload_n 2, 1) := dk_44 (dk_at dksX13_parts_0 0 rfl rfl)
theorem dX13_parts_1 : decode cX13_parts 1 = .ok (.bipush 60, 2) := dk_16 60 (dk_at dksX13_parts_0 1 rfl rfl)
theorem dX13_parts_3 : decode cX13_parts 3 = .ok (.invokevirtual 22, 3) := dk_182 0 22 (dk_at dksX13_parts_0 3 rfl rfl)
theorem dX13_parts_6 : decode cX13_parts 6 = .ok (.aload_n 0, 1) := dk_42 (dk_at dksX13_parts_0 6 rfl rfl)
theorem dX13_parts_7 : decode cX13_parts 7 = .ok (.iload_n 1, 1) := dk_27 (dk_at dksX13_parts_0 7 rfl rfl)
theorem dX13_parts_8 : decode cX13_parts 8 = .ok (.aload_n 0, 1) := dk_42 (dk_at dksX13_parts_0 8 rfl rfl)
theorem dX13_parts_9 : decode cX13_parts 9 = .ok (.invokevirtual 28, 3) := dk_182 0 28 (dk_at dksX13_parts_0 9 rfl rfl)
theorem dX13_parts_12 : decode cX13_parts 12 = .ok (.isub, 1) := dk_100 (dk_at dksX13_parts_0 12 rfl rfl)
theorem dX13_parts_13 : decode cX13_parts 13 = .ok (.aload_n 2, 1) := dk_44 (dk_at dksX13_parts_0 13 rfl rfl)
theorem dX13_parts_14 : decode cX13_parts 14 = .ok (.invokespecial 33, 3) := dk_183 0 33 (dk_at dksX13_parts_0 14 rfl rfl)
theorem dX13_parts_17 : decode cX13_parts 17 = .ok (.iconst 5, 1) := dk_8 (dk_at dksX13_parts_0 17 rfl rfl)
theorem dX13_parts_18 : decode cX13_parts 18 = .ok (.ixor, 1) := dk_130 (dk_at dksX13_parts_0 18 rfl rfl)
theorem dX13_parts_19 : decode cX13_parts 19 = .ok (.ireturn, 1) := dk_172 (dk_at dksX13_parts_0 19 rfl rfl)
abbrev cX13_joins : ByteArray := prog_15_method_5_code
def yX13_joins : MethodName := ⟨RX13, "joins", "(ILCoarserOrders$Trace;)I"⟩
def dkwX13_joins_0 : List UInt8 := [44, 16, 61, 182, 0, 22, 42, 27, 44, 183, 0, 37, 62, 29, 42, 4, 44, 182, 0, 40, 96, 172]
abbrev dktX13_joins_0 : List UInt8 := dkwX13_joins_0 ++ []
theorem dksX13_joins_0 : cX13_joins.data.toList.drop 0 = dktX13_joins_0 := by decide +kernel
theorem dX13_joins_0 : decode cX13_joins 0 = .ok (.aload_n 2, 1) := dk_44 (dk_at dksX13_joins_0 0 rfl rfl)
theorem dX13_joins_1 : decode cX13_joins 1 = .ok (.bipush 61, 2) := dk_16 61 (dk_at dksX13_joins_0 1 rfl rfl)
theorem dX13_joins_3 : decode cX13_joins 3 = .ok (.invokevirtual 22, 3) := dk_182 0 22 (dk_at dksX13_joins_0 3 rfl rfl)
theorem dX13_joins_6 : decode cX13_joins 6 = .ok (.aload_n 0, 1) := dk_42 (dk_at dksX13_joins_0 6 rfl rfl)
theorem dX13_joins_7 : decode cX13_joins 7 = .ok (.iload_n 1, 1) := dk_27 (dk_at dksX13_joins_0 7 rfl rfl)
theorem dX13_joins_8 : decode cX13_joins 8 = .ok (.aload_n 2, 1) := dk_44 (dk_at dksX13_joins_0 8 rfl rfl)
theorem dX13_joins_9 : decode cX13_joins 9 = .ok (.invokespecial 37, 3) := dk_183 0 37 (dk_at dksX13_joins_0 9 rfl rfl)
theorem dX13_joins_12 : decode cX13_joins 12 = .ok (.istore_n 3, 1) := dk_62 (dk_at dksX13_joins_0 12 rfl rfl)
theorem dX13_joins_13 : decode cX13_joins 13 = .ok (.iload_n 3, 1) := dk_29 (dk_at dksX13_joins_0 13 rfl rfl)
theorem dX13_joins_14 : decode cX13_joins 14 = .ok (.aload_n 0, 1) := dk_42 (dk_at dksX13_joins_0 14 rfl rfl)
theorem dX13_joins_15 : decode cX13_joins 15 = .ok (.iconst 1, 1) := dk_4 (dk_at dksX13_joins_0 15 rfl rfl)
theorem dX13_joins_16 : decode cX13_joins 16 = .ok (.aload_n 2, 1) := dk_44 (dk_at dksX13_joins_0 16 rfl rfl)
theorem dX13_joins_17 : decode cX13_joins 17 = .ok (.invokevirtual 40, 3) := dk_182 0 40 (dk_at dksX13_joins_0 17 rfl rfl)
theorem dX13_joins_20 : decode cX13_joins 20 = .ok (.iadd, 1) := dk_96 (dk_at dksX13_joins_0 20 rfl rfl)
theorem dX13_joins_21 : decode cX13_joins 21 = .ok (.ireturn, 1) := dk_172 (dk_at dksX13_joins_0 21 rfl rfl)
theorem q172 : (Jvm.Cond.initialized "CoarserOrders$Mixed") ∈ lw_all := lw_g (lw_at lw_m1 22 rfl) rfl
theorem q884 : (Jvm.Cond.instantiable "CoarserOrders$Mixed" (2 : Nat)) ∈ lw_all := lw_g (lw_at lw_m4 14 rfl) rfl
theorem q886 : (Jvm.Cond.instanceMethod ({ cls := "CoarserOrders$Mixed", name := "<init>", desc := "(II)V" } : Jvm.MethodName)) ∈ lw_all := lw_g (lw_at lw_m4 16 rfl) rfl
theorem q887 : (Jvm.Cond.code ({ cls := "CoarserOrders$Mixed", name := "<init>", desc := "(II)V" } : Jvm.MethodName) prog_15_method_1_code (3 : Nat) (Option.none : Option Jvm.ClassFile.FieldType)) ∈ lw_all := lw_g (lw_at lw_m4 17 rfl) rfl
theorem q888 : (Jvm.Cond.methodLink "CoarserOrders$Mixed" (3 : Nat) ({ cls := "CoarserOrders$Longer", name := "<init>", desc := "(II)V" } : Jvm.MethodName)) ∈ lw_all := lw_g (lw_at lw_m4 18 rfl) rfl
theorem q889 : (Jvm.Cond.laysFinal "CoarserOrders$Mixed" "CoarserOrders$Plain" "number" "I") ∈ lw_all := lw_g (lw_at lw_m4 19 rfl) rfl
theorem q890 : (Jvm.Cond.laysFinal "CoarserOrders$Mixed" "CoarserOrders$Plain" "mark" "I") ∈ lw_all := lw_g (lw_at lw_m4 20 rfl) rfl
theorem q891 : (Jvm.Cond.superclass "CoarserOrders$Mixed" "CoarserOrders$Longer") ∈ lw_all := lw_g (lw_at lw_m4 21 rfl) rfl
theorem q915 : (Jvm.Cond.selects "CoarserOrders$Mixed" ({ cls := "CoarserOrders$Plain", name := "kind", desc := "()I" } : Jvm.MethodName) ({ cls := "CoarserOrders$Mixed", name := "kind", desc := "()I" } : Jvm.MethodName)) ∈ lw_all := lw_g (lw_at lw_m4 45 rfl) rfl
theorem q916 : (Jvm.Cond.instanceMethod ({ cls := "CoarserOrders$Mixed", name := "kind", desc := "()I" } : Jvm.MethodName)) ∈ lw_all := lw_g (lw_at lw_m4 46 rfl) rfl
theorem q917 : (Jvm.Cond.code ({ cls := "CoarserOrders$Mixed", name := "kind", desc := "()I" } : Jvm.MethodName) prog_15_method_2_code (1 : Nat) (Option.some Jvm.ClassFile.FieldType.int)) ∈ lw_all := lw_g (lw_at lw_m4 47 rfl) rfl
theorem q931 : (Jvm.Cond.selects "CoarserOrders$Mixed" ({ cls := "CoarserOrders$Plain", name := "mark", desc := "()I" } : Jvm.MethodName) ({ cls := "CoarserOrders$Plain", name := "mark", desc := "()I" } : Jvm.MethodName)) ∈ lw_all := lw_g (lw_at lw_m4 61 rfl) rfl
theorem q963 : (Jvm.Cond.selects "CoarserOrders$Mixed" ({ cls := "CoarserOrders$Longer", name := "mark", desc := "()I" } : Jvm.MethodName) ({ cls := "CoarserOrders$Plain", name := "mark", desc := "()I" } : Jvm.MethodName)) ∈ lw_all := lw_g (lw_at lw_m4 93 rfl) rfl
theorem q964 : (Jvm.Cond.selects "CoarserOrders$Mixed" ({ cls := "CoarserOrders$Plain", name := "takes", desc := "(LCoarserOrders$Arc;)Z" } : Jvm.MethodName) ({ cls := "CoarserOrders$Mixed", name := "takes", desc := "(LCoarserOrders$Arc;)Z" } : Jvm.MethodName)) ∈ lw_all := lw_g (lw_at lw_m4 94 rfl) rfl
theorem q965 : (Jvm.Cond.instanceMethod ({ cls := "CoarserOrders$Mixed", name := "takes", desc := "(LCoarserOrders$Arc;)Z" } : Jvm.MethodName)) ∈ lw_all := lw_g (lw_at lw_m4 95 rfl) rfl
theorem q966 : (Jvm.Cond.code ({ cls := "CoarserOrders$Mixed", name := "takes", desc := "(LCoarserOrders$Arc;)Z" } : Jvm.MethodName) prog_15_method_3_code (2 : Nat) (Option.some Jvm.ClassFile.FieldType.boolean)) ∈ lw_all := lw_g (lw_at lw_m4 96 rfl) rfl
theorem q967 : (Jvm.Cond.methodLink "CoarserOrders$Mixed" (9 : Nat) ({ cls := "CoarserOrders$Longer", name := "takes", desc := "(LCoarserOrders$Arc;)Z" } : Jvm.MethodName)) ∈ lw_all := lw_g (lw_at lw_m4 97 rfl) rfl
theorem q968 : (Jvm.Cond.methodLink "CoarserOrders$Mixed" (13 : Nat) ({ cls := "CoarserOrders$Arc", name := "lefts", desc := "()I" } : Jvm.MethodName)) ∈ lw_all := lw_g (lw_at lw_m4 98 rfl) rfl
theorem q969 : (Jvm.Cond.methodLink "CoarserOrders$Mixed" (19 : Nat) ({ cls := "CoarserOrders$Arc", name := "rights", desc := "()I" } : Jvm.MethodName)) ∈ lw_all := lw_g (lw_at lw_m4 99 rfl) rfl
theorem q1663 : (Jvm.Cond.selects "CoarserOrders$Mixed" ({ cls := "CoarserOrders$Plain", name := "number", desc := "()I" } : Jvm.MethodName) ({ cls := "CoarserOrders$Plain", name := "number", desc := "()I" } : Jvm.MethodName)) ∈ lw_all := lw_g (lw_at lw_m7 73 rfl) rfl
theorem q1712 : (Jvm.Cond.castable "CoarserOrders$Mixed" "CoarserOrders$Turns") ∈ lw_tbl := lw_at lw_m7 122 rfl
theorem q1713 : (Jvm.Cond.selects "CoarserOrders$Mixed" ({ cls := "CoarserOrders$Turns", name := "number", desc := "()I" } : Jvm.MethodName) ({ cls := "CoarserOrders$Plain", name := "number", desc := "()I" } : Jvm.MethodName)) ∈ lw_all := lw_g (lw_at lw_m7 123 rfl) rfl
theorem q1714 : (Jvm.Cond.unhidden "CoarserOrders$Mixed" "number" "()I") ∈ lw_tbl := lw_at lw_m7 124 rfl
theorem q1727 : (Jvm.Cond.castable "CoarserOrders$Mixed" "CoarserOrders$Joins") ∈ lw_tbl := lw_at lw_m7 137 rfl
theorem q1728 : (Jvm.Cond.unhidden "CoarserOrders$Mixed" "turns" "(ILCoarserOrders$Trace;)I") ∈ lw_tbl := lw_at lw_m7 138 rfl
theorem q1752 : (Jvm.Cond.castable "CoarserOrders$Mixed" "CoarserOrders$Bends") ∈ lw_tbl := lw_at lw_m7 162 rfl
theorem q1763 : (Jvm.Cond.selects "CoarserOrders$Mixed" ({ cls := "CoarserOrders$Turns", name := "mark", desc := "()I" } : Jvm.MethodName) ({ cls := "CoarserOrders$Plain", name := "mark", desc := "()I" } : Jvm.MethodName)) ∈ lw_all := lw_g (lw_at lw_m7 173 rfl) rfl
theorem q1764 : (Jvm.Cond.unhidden "CoarserOrders$Mixed" "mark" "()I") ∈ lw_tbl := lw_at lw_m7 174 rfl
theorem q1777 : (Jvm.Cond.selects "CoarserOrders$Mixed" ({ cls := "CoarserOrders$Bends", name := "bends", desc := "(ILCoarserOrders$Trace;)I" } : Jvm.MethodName) ({ cls := "CoarserOrders$Longer", name := "bends", desc := "(ILCoarserOrders$Trace;)I" } : Jvm.MethodName)) ∈ lw_all := lw_g (lw_at lw_m7 187 rfl) rfl
theorem q1778 : (Jvm.Cond.unhidden "CoarserOrders$Mixed" "bends" "(ILCoarserOrders$Trace;)I") ∈ lw_tbl := lw_at lw_m7 188 rfl
theorem q1792 : (Jvm.Cond.castable "CoarserOrders$Mixed" "CoarserOrders$Parts") ∈ lw_tbl := lw_at lw_m7 202 rfl
theorem q1806 : (Jvm.Cond.selects "CoarserOrders$Mixed" ({ cls := "CoarserOrders$Longer", name := "number", desc := "()I" } : Jvm.MethodName) ({ cls := "CoarserOrders$Plain", name := "number", desc := "()I" } : Jvm.MethodName)) ∈ lw_all := lw_g (lw_at lw_m7 216 rfl) rfl
theorem q1807 : (Jvm.Cond.selects "CoarserOrders$Mixed" ({ cls := "CoarserOrders$Parts", name := "parts", desc := "(ILCoarserOrders$Trace;)I" } : Jvm.MethodName) ({ cls := "CoarserOrders$Mixed", name := "parts", desc := "(ILCoarserOrders$Trace;)I" } : Jvm.MethodName)) ∈ lw_all := lw_g (lw_at lw_m7 217 rfl) rfl
theorem q1808 : (Jvm.Cond.unhidden "CoarserOrders$Mixed" "parts" "(ILCoarserOrders$Trace;)I") ∈ lw_tbl := lw_at lw_m7 218 rfl
theorem q1809 : (Jvm.Cond.instanceMethod ({ cls := "CoarserOrders$Mixed", name := "parts", desc := "(ILCoarserOrders$Trace;)I" } : Jvm.MethodName)) ∈ lw_all := lw_g (lw_at lw_m7 219 rfl) rfl
theorem q1810 : (Jvm.Cond.publicMethod ({ cls := "CoarserOrders$Mixed", name := "parts", desc := "(ILCoarserOrders$Trace;)I" } : Jvm.MethodName)) ∈ lw_tbl := lw_at lw_m7 220 rfl
theorem q1811 : (Jvm.Cond.code ({ cls := "CoarserOrders$Mixed", name := "parts", desc := "(ILCoarserOrders$Trace;)I" } : Jvm.MethodName) prog_15_method_4_code (3 : Nat) (Option.some Jvm.ClassFile.FieldType.int)) ∈ lw_all := lw_g (lw_at lw_m7 221 rfl) rfl
theorem q1812 : (Jvm.Cond.methodLink "CoarserOrders$Mixed" (22 : Nat) ({ cls := "CoarserOrders$Trace", name := "ran", desc := "(I)V" } : Jvm.MethodName)) ∈ lw_all := lw_g (lw_at lw_m7 222 rfl) rfl
theorem q1813 : (Jvm.Cond.methodLink "CoarserOrders$Mixed" (28 : Nat) ({ cls := "CoarserOrders$Mixed", name := "mark", desc := "()I" } : Jvm.MethodName)) ∈ lw_all := lw_g (lw_at lw_m7 223 rfl) rfl
theorem q1814 : (Jvm.Cond.sameMethod "CoarserOrders$Mixed" "CoarserOrders$Plain" "mark" "()I") ∈ lw_all := lw_g (lw_at lw_m7 224 rfl) rfl
theorem q1815 : (Jvm.Cond.selects "CoarserOrders$Mixed" ({ cls := "CoarserOrders$Mixed", name := "mark", desc := "()I" } : Jvm.MethodName) ({ cls := "CoarserOrders$Plain", name := "mark", desc := "()I" } : Jvm.MethodName)) ∈ lw_all := lw_g (lw_at lw_m7 225 rfl) rfl
theorem q1816 : (Jvm.Cond.methodLink "CoarserOrders$Mixed" (33 : Nat) ({ cls := "CoarserOrders$Longer", name := "parts", desc := "(ILCoarserOrders$Trace;)I" } : Jvm.MethodName)) ∈ lw_all := lw_g (lw_at lw_m7 226 rfl) rfl
theorem q1832 : (Jvm.Cond.selects "CoarserOrders$Mixed" ({ cls := "CoarserOrders$Joins", name := "joins", desc := "(ILCoarserOrders$Trace;)I" } : Jvm.MethodName) ({ cls := "CoarserOrders$Mixed", name := "joins", desc := "(ILCoarserOrders$Trace;)I" } : Jvm.MethodName)) ∈ lw_all := lw_g (lw_at lw_m8 2 rfl) rfl
theorem q1833 : (Jvm.Cond.unhidden "CoarserOrders$Mixed" "joins" "(ILCoarserOrders$Trace;)I") ∈ lw_tbl := lw_at lw_m8 3 rfl
theorem q1834 : (Jvm.Cond.instanceMethod ({ cls := "CoarserOrders$Mixed", name := "joins", desc := "(ILCoarserOrders$Trace;)I" } : Jvm.MethodName)) ∈ lw_all := lw_g (lw_at lw_m8 4 rfl) rfl
theorem q1835 : (Jvm.Cond.publicMethod ({ cls := "CoarserOrders$Mixed", name := "joins", desc := "(ILCoarserOrders$Trace;)I" } : Jvm.MethodName)) ∈ lw_tbl := lw_at lw_m8 5 rfl
theorem q1836 : (Jvm.Cond.code ({ cls := "CoarserOrders$Mixed", name := "joins", desc := "(ILCoarserOrders$Trace;)I" } : Jvm.MethodName) prog_15_method_5_code (4 : Nat) (Option.some Jvm.ClassFile.FieldType.int)) ∈ lw_all := lw_g (lw_at lw_m8 6 rfl) rfl
theorem q1837 : (Jvm.Cond.methodLink "CoarserOrders$Mixed" (40 : Nat) ({ cls := "CoarserOrders$Mixed", name := "bends", desc := "(ILCoarserOrders$Trace;)I" } : Jvm.MethodName)) ∈ lw_all := lw_g (lw_at lw_m8 7 rfl) rfl
theorem q1838 : (Jvm.Cond.sameMethod "CoarserOrders$Mixed" "CoarserOrders$Longer" "bends" "(ILCoarserOrders$Trace;)I") ∈ lw_all := lw_g (lw_at lw_m8 8 rfl) rfl
theorem q1840 : (Jvm.Cond.selects "CoarserOrders$Mixed" ({ cls := "CoarserOrders$Mixed", name := "bends", desc := "(ILCoarserOrders$Trace;)I" } : Jvm.MethodName) ({ cls := "CoarserOrders$Longer", name := "bends", desc := "(ILCoarserOrders$Trace;)I" } : Jvm.MethodName)) ∈ lw_all := lw_g (lw_at lw_m8 10 rfl) rfl
theorem q2619 : (Jvm.Cond.castable "CoarserOrders$Mixed" "CoarserOrders$Plain") ∈ lw_tbl := lw_at lw_m11 69 rfl
theorem q2624 : (Jvm.Cond.castable "CoarserOrders$Mixed" "CoarserOrders$Longer") ∈ lw_tbl := lw_at lw_m11 74 rfl

abbrev cX14_init : ByteArray := prog_9_method_1_code
def yX14_init : MethodName := ⟨RX14, "<init>", "()V"⟩
theorem dX14_init_0 : decode cX14_init 0 = .ok (.aload_n 0, 1) := by decide +kernel
theorem dX14_init_1 : decode cX14_init 1 = .ok (.invokespecial 1, 3) := by decide +kernel
theorem dX14_init_4 : decode cX14_init 4 = .ok (.return_, 1) := by decide +kernel
theorem q177 : (Jvm.Cond.initialized "CoarserOrders$Cond") ∈ lw_all := lw_g (lw_at lw_m1 27 rfl) rfl
theorem q1103 : (Jvm.Cond.instanceMethod ({ cls := "CoarserOrders$Cond", name := "<init>", desc := "()V" } : Jvm.MethodName)) ∈ lw_all := lw_g (lw_at lw_m4 233 rfl) rfl
theorem q1104 : (Jvm.Cond.code ({ cls := "CoarserOrders$Cond", name := "<init>", desc := "()V" } : Jvm.MethodName) prog_9_method_1_code (1 : Nat) (Option.none : Option Jvm.ClassFile.FieldType)) ∈ lw_all := lw_g (lw_at lw_m4 234 rfl) rfl
theorem q1105 : (Jvm.Cond.methodLink "CoarserOrders$Cond" (1 : Nat) ({ cls := "java/lang/Object", name := "<init>", desc := "()V" } : Jvm.MethodName)) ∈ lw_all := lw_g (lw_at lw_m4 235 rfl) rfl
theorem q1202 : (Jvm.Cond.declares ({ cls := "CoarserOrders$Cond", name := "holds", desc := "([I)Z" } : Jvm.MethodName)) ∈ lw_tbl := lw_at lw_m5 92 rfl
theorem q1203 : (Jvm.Cond.sameMethod "CoarserOrders$Cond" "CoarserOrders$Cond" "holds" "([I)Z") ∈ lw_all := lw_g (lw_at lw_m5 93 rfl) rfl

abbrev cX15_init : ByteArray := prog_16_method_1_code
def yX15_init : MethodName := ⟨RX15, "<init>", "(LCoarserOrders$Cond;)V"⟩
def dkwX15_init_0 : List UInt8 := [42, 183, 0, 1, 42, 43, 181, 0, 7, 177]
abbrev dktX15_init_0 : List UInt8 := dkwX15_init_0 ++ []
theorem dksX15_init_0 : cX15_init.data.toList.drop 0 = dktX15_init_0 := by decide +kernel
theorem dX15_init_0 : decode cX15_init 0 = .ok (.aload_n 0, 1) := dk_42 (dk_at dksX15_init_0 0 rfl rfl)
theorem dX15_init_1 : decode cX15_init 1 = .ok (.invokespecial 1, 3) := dk_183 0 1 (dk_at dksX15_init_0 1 rfl rfl)
theorem dX15_init_4 : decode cX15_init 4 = .ok (.aload_n 0, 1) := dk_42 (dk_at dksX15_init_0 4 rfl rfl)
theorem dX15_init_5 : decode cX15_init 5 = .ok (.aload_n 1, 1) := dk_43 (dk_at dksX15_init_0 5 rfl rfl)
theorem dX15_init_6 : decode cX15_init 6 = .ok (.putfield 7, 3) := dk_181 0 7 (dk_at dksX15_init_0 6 rfl rfl)
theorem dX15_init_9 : decode cX15_init 9 = .ok (.return_, 1) := dk_177 (dk_at dksX15_init_0 9 rfl rfl)
abbrev cX15_holds : ByteArray := prog_16_method_2_code
def yX15_holds : MethodName := ⟨RX15, "holds", "([I)Z"⟩
def dkwX15_holds_0 : List UInt8 := [42, 180, 0, 7, 43, 182, 0, 13, 154, 0, 7, 4, 167, 0, 4, 3, 172]
abbrev dktX15_holds_0 : List UInt8 := dkwX15_holds_0 ++ []
theorem dksX15_holds_0 : cX15_holds.data.toList.drop 0 = dktX15_holds_0 := by decide +kernel
theorem dX15_holds_0 : decode cX15_holds 0 = .ok (.aload_n 0, 1) := dk_42 (dk_at dksX15_holds_0 0 rfl rfl)
theorem dX15_holds_1 : decode cX15_holds 1 = .ok (.getfield 7, 3) := dk_180 0 7 (dk_at dksX15_holds_0 1 rfl rfl)
theorem dX15_holds_4 : decode cX15_holds 4 = .ok (.aload_n 1, 1) := dk_43 (dk_at dksX15_holds_0 4 rfl rfl)
theorem dX15_holds_5 : decode cX15_holds 5 = .ok (.invokevirtual 13, 3) := dk_182 0 13 (dk_at dksX15_holds_0 5 rfl rfl)
theorem dX15_holds_8 : decode cX15_holds 8 = .ok (.ifCond .ne 7, 3) := dk_154 0 7 (dk_at dksX15_holds_0 8 rfl rfl)
theorem dX15_holds_11 : decode cX15_holds 11 = .ok (.iconst 1, 1) := dk_4 (dk_at dksX15_holds_0 11 rfl rfl)
theorem dX15_holds_12 : decode cX15_holds 12 = .ok (.goto 4, 3) := dk_167 0 4 (dk_at dksX15_holds_0 12 rfl rfl)
theorem dX15_holds_15 : decode cX15_holds 15 = .ok (.iconst 0, 1) := dk_3 (dk_at dksX15_holds_0 15 rfl rfl)
theorem dX15_holds_16 : decode cX15_holds 16 = .ok (.ireturn, 1) := dk_172 (dk_at dksX15_holds_0 16 rfl rfl)
theorem q178 : (Jvm.Cond.initialized "CoarserOrders$Not") ∈ lw_all := lw_g (lw_at lw_m1 28 rfl) rfl
theorem q1098 : (Jvm.Cond.instantiable "CoarserOrders$Not" (1 : Nat)) ∈ lw_all := lw_g (lw_at lw_m4 228 rfl) rfl
theorem q1100 : (Jvm.Cond.instanceMethod ({ cls := "CoarserOrders$Not", name := "<init>", desc := "(LCoarserOrders$Cond;)V" } : Jvm.MethodName)) ∈ lw_all := lw_g (lw_at lw_m4 230 rfl) rfl
theorem q1101 : (Jvm.Cond.code ({ cls := "CoarserOrders$Not", name := "<init>", desc := "(LCoarserOrders$Cond;)V" } : Jvm.MethodName) prog_16_method_1_code (2 : Nat) (Option.none : Option Jvm.ClassFile.FieldType)) ∈ lw_all := lw_g (lw_at lw_m4 231 rfl) rfl
theorem q1102 : (Jvm.Cond.methodLinkNest "CoarserOrders$Not" (1 : Nat) ({ cls := "CoarserOrders$Cond", name := "<init>", desc := "()V" } : Jvm.MethodName) "CoarserOrders") ∈ lw_tbl := lw_at lw_m4 232 rfl
theorem q1106 : (Jvm.Cond.fieldLink "CoarserOrders$Not" (7 : Nat) "CoarserOrders$Not" "of" "LCoarserOrders$Cond;") ∈ lw_all := lw_g (lw_at lw_m4 236 rfl) rfl
theorem q1107 : (Jvm.Cond.laysFinal "CoarserOrders$Not" "CoarserOrders$Not" "of" "LCoarserOrders$Cond;") ∈ lw_all := lw_g (lw_at lw_m4 237 rfl) rfl
theorem q1108 : (Jvm.Cond.soleField "CoarserOrders$Not" "of") ∈ lw_all := lw_g (lw_at lw_m4 238 rfl) rfl
theorem q1109 : (Jvm.Cond.superclass "CoarserOrders$Not" "CoarserOrders$Cond") ∈ lw_all := lw_g (lw_at lw_m4 239 rfl) rfl
theorem q1214 : (Jvm.Cond.instanceMethod ({ cls := "CoarserOrders$Not", name := "holds", desc := "([I)Z" } : Jvm.MethodName)) ∈ lw_all := lw_g (lw_at lw_m5 104 rfl) rfl
theorem q1215 : (Jvm.Cond.code ({ cls := "CoarserOrders$Not", name := "holds", desc := "([I)Z" } : Jvm.MethodName) prog_16_method_2_code (2 : Nat) (Option.some Jvm.ClassFile.FieldType.boolean)) ∈ lw_all := lw_g (lw_at lw_m5 105 rfl) rfl
theorem q1216 : (Jvm.Cond.methodLink "CoarserOrders$Not" (13 : Nat) ({ cls := "CoarserOrders$Cond", name := "holds", desc := "([I)Z" } : Jvm.MethodName)) ∈ lw_all := lw_g (lw_at lw_m5 106 rfl) rfl
theorem q1221 : (Jvm.Cond.selects "CoarserOrders$Not" ({ cls := "CoarserOrders$Cond", name := "holds", desc := "([I)Z" } : Jvm.MethodName) ({ cls := "CoarserOrders$Not", name := "holds", desc := "([I)Z" } : Jvm.MethodName)) ∈ lw_all := lw_g (lw_at lw_m5 111 rfl) rfl

abbrev cX16_init : ByteArray := prog_30_method_1_code
def yX16_init : MethodName := ⟨RX16, "<init>", "(II)V"⟩
def dkwX16_init_0 : List UInt8 := [42, 183, 0, 1, 42, 27, 181, 0, 7, 42, 28, 181, 0, 13, 177]
abbrev dktX16_init_0 : List UInt8 := dkwX16_init_0 ++ []
theorem dksX16_init_0 : cX16_init.data.toList.drop 0 = dktX16_init_0 := by decide +kernel
theorem dX16_init_0 : decode cX16_init 0 = .ok (.aload_n 0, 1) := dk_42 (dk_at dksX16_init_0 0 rfl rfl)
theorem dX16_init_1 : decode cX16_init 1 = .ok (.invokespecial 1, 3) := dk_183 0 1 (dk_at dksX16_init_0 1 rfl rfl)
theorem dX16_init_4 : decode cX16_init 4 = .ok (.aload_n 0, 1) := dk_42 (dk_at dksX16_init_0 4 rfl rfl)
theorem dX16_init_5 : decode cX16_init 5 = .ok (.iload_n 1, 1) := dk_27 (dk_at dksX16_init_0 5 rfl rfl)
theorem dX16_init_6 : decode cX16_init 6 = .ok (.putfield 7, 3) := dk_181 0 7 (dk_at dksX16_init_0 6 rfl rfl)
theorem dX16_init_9 : decode cX16_init 9 = .ok (.aload_n 0, 1) := dk_42 (dk_at dksX16_init_0 9 rfl rfl)
theorem dX16_init_10 : decode cX16_init 10 = .ok (.iload_n 2, 1) := dk_28 (dk_at dksX16_init_0 10 rfl rfl)
theorem dX16_init_11 : decode cX16_init 11 = .ok (.putfield 13, 3) := dk_181 0 13 (dk_at dksX16_init_0 11 rfl rfl)
theorem dX16_init_14 : decode cX16_init 14 = .ok (.return_, 1) := dk_177 (dk_at dksX16_init_0 14 rfl rfl)
abbrev cX16_of : ByteArray := prog_30_method_2_code
def yX16_of : MethodName := ⟨RX16, "of", "([I)I"⟩
def dkwX16_of_0 : List UInt8 := [42, 180, 0, 7, 156, 0, 10, 42, 180, 0, 13, 167, 0, 9, 43, 42, 180, 0, 7, 46, 172]
abbrev dktX16_of_0 : List UInt8 := dkwX16_of_0 ++ []
theorem dksX16_of_0 : cX16_of.data.toList.drop 0 = dktX16_of_0 := by decide +kernel
theorem dX16_of_0 : decode cX16_of 0 = .ok (.aload_n 0, 1) := dk_42 (dk_at dksX16_of_0 0 rfl rfl)
theorem dX16_of_1 : decode cX16_of 1 = .ok (.getfield 7, 3) := dk_180 0 7 (dk_at dksX16_of_0 1 rfl rfl)
theorem dX16_of_4 : decode cX16_of 4 = .ok (.ifCond .ge 10, 3) := dk_156 0 10 (dk_at dksX16_of_0 4 rfl rfl)
theorem dX16_of_7 : decode cX16_of 7 = .ok (.aload_n 0, 1) := dk_42 (dk_at dksX16_of_0 7 rfl rfl)
theorem dX16_of_8 : decode cX16_of 8 = .ok (.getfield 13, 3) := dk_180 0 13 (dk_at dksX16_of_0 8 rfl rfl)
theorem dX16_of_11 : decode cX16_of 11 = .ok (.goto 9, 3) := dk_167 0 9 (dk_at dksX16_of_0 11 rfl rfl)
theorem dX16_of_14 : decode cX16_of 14 = .ok (.aload_n 1, 1) := dk_43 (dk_at dksX16_of_0 14 rfl rfl)
theorem dX16_of_15 : decode cX16_of 15 = .ok (.aload_n 0, 1) := dk_42 (dk_at dksX16_of_0 15 rfl rfl)
theorem dX16_of_16 : decode cX16_of 16 = .ok (.getfield 7, 3) := dk_180 0 7 (dk_at dksX16_of_0 16 rfl rfl)
theorem dX16_of_19 : decode cX16_of 19 = .ok (.iaload, 1) := dk_46 (dk_at dksX16_of_0 19 rfl rfl)
theorem dX16_of_20 : decode cX16_of 20 = .ok (.ireturn, 1) := dk_172 (dk_at dksX16_of_0 20 rfl rfl)
theorem q179 : (Jvm.Cond.initialized "CoarserOrders$Value") ∈ lw_all := lw_g (lw_at lw_m1 29 rfl) rfl
theorem q1135 : (Jvm.Cond.instantiable "CoarserOrders$Value" (2 : Nat)) ∈ lw_all := lw_g (lw_at lw_m5 25 rfl) rfl
theorem q1137 : (Jvm.Cond.instanceMethod ({ cls := "CoarserOrders$Value", name := "<init>", desc := "(II)V" } : Jvm.MethodName)) ∈ lw_all := lw_g (lw_at lw_m5 27 rfl) rfl
theorem q1138 : (Jvm.Cond.code ({ cls := "CoarserOrders$Value", name := "<init>", desc := "(II)V" } : Jvm.MethodName) prog_30_method_1_code (3 : Nat) (Option.none : Option Jvm.ClassFile.FieldType)) ∈ lw_all := lw_g (lw_at lw_m5 28 rfl) rfl
theorem q1139 : (Jvm.Cond.methodLink "CoarserOrders$Value" (1 : Nat) ({ cls := "java/lang/Object", name := "<init>", desc := "()V" } : Jvm.MethodName)) ∈ lw_all := lw_g (lw_at lw_m5 29 rfl) rfl
theorem q1140 : (Jvm.Cond.fieldLink "CoarserOrders$Value" (7 : Nat) "CoarserOrders$Value" "fact" "I") ∈ lw_all := lw_g (lw_at lw_m5 30 rfl) rfl
theorem q1141 : (Jvm.Cond.fieldLink "CoarserOrders$Value" (13 : Nat) "CoarserOrders$Value" "n" "I") ∈ lw_all := lw_g (lw_at lw_m5 31 rfl) rfl
theorem q1142 : (Jvm.Cond.laysFinal "CoarserOrders$Value" "CoarserOrders$Value" "fact" "I") ∈ lw_all := lw_g (lw_at lw_m5 32 rfl) rfl
theorem q1143 : (Jvm.Cond.soleField "CoarserOrders$Value" "fact") ∈ lw_all := lw_g (lw_at lw_m5 33 rfl) rfl
theorem q1144 : (Jvm.Cond.laysFinal "CoarserOrders$Value" "CoarserOrders$Value" "n" "I") ∈ lw_all := lw_g (lw_at lw_m5 34 rfl) rfl
theorem q1145 : (Jvm.Cond.soleField "CoarserOrders$Value" "n") ∈ lw_all := lw_g (lw_at lw_m5 35 rfl) rfl
theorem q1146 : (Jvm.Cond.superclass "CoarserOrders$Value" "java/lang/Object") ∈ lw_all := lw_g (lw_at lw_m5 36 rfl) rfl
theorem q1211 : (Jvm.Cond.instanceMethod ({ cls := "CoarserOrders$Value", name := "of", desc := "([I)I" } : Jvm.MethodName)) ∈ lw_all := lw_g (lw_at lw_m5 101 rfl) rfl
theorem q1212 : (Jvm.Cond.selects "CoarserOrders$Value" ({ cls := "CoarserOrders$Value", name := "of", desc := "([I)I" } : Jvm.MethodName) ({ cls := "CoarserOrders$Value", name := "of", desc := "([I)I" } : Jvm.MethodName)) ∈ lw_all := lw_g (lw_at lw_m5 102 rfl) rfl
theorem q1213 : (Jvm.Cond.code ({ cls := "CoarserOrders$Value", name := "of", desc := "([I)I" } : Jvm.MethodName) prog_30_method_2_code (2 : Nat) (Option.some Jvm.ClassFile.FieldType.int)) ∈ lw_all := lw_g (lw_at lw_m5 103 rfl) rfl

abbrev cX17_init : ByteArray := prog_7_method_1_code
def yX17_init : MethodName := ⟨RX17, "<init>", "(LCoarserOrders$Value;ILCoarserOrders$Value;)V"⟩
def dkwX17_init_0 : List UInt8 := [42, 183, 0, 1, 42, 43, 181, 0, 7, 42, 28, 181, 0, 13, 42, 45, 181, 0, 17, 177]
abbrev dktX17_init_0 : List UInt8 := dkwX17_init_0 ++ []
theorem dksX17_init_0 : cX17_init.data.toList.drop 0 = dktX17_init_0 := by decide +kernel
theorem dX17_init_0 : decode cX17_init 0 = .ok (.aload_n 0, 1) := dk_42 (dk_at dksX17_init_0 0 rfl rfl)
theorem dX17_init_1 : decode cX17_init 1 = .ok (.invokespecial 1, 3) := dk_183 0 1 (dk_at dksX17_init_0 1 rfl rfl)
theorem dX17_init_4 : decode cX17_init 4 = .ok (.aload_n 0, 1) := dk_42 (dk_at dksX17_init_0 4 rfl rfl)
theorem dX17_init_5 : decode cX17_init 5 = .ok (.aload_n 1, 1) := dk_43 (dk_at dksX17_init_0 5 rfl rfl)
theorem dX17_init_6 : decode cX17_init 6 = .ok (.putfield 7, 3) := dk_181 0 7 (dk_at dksX17_init_0 6 rfl rfl)
theorem dX17_init_9 : decode cX17_init 9 = .ok (.aload_n 0, 1) := dk_42 (dk_at dksX17_init_0 9 rfl rfl)
theorem dX17_init_10 : decode cX17_init 10 = .ok (.iload_n 2, 1) := dk_28 (dk_at dksX17_init_0 10 rfl rfl)
theorem dX17_init_11 : decode cX17_init 11 = .ok (.putfield 13, 3) := dk_181 0 13 (dk_at dksX17_init_0 11 rfl rfl)
theorem dX17_init_14 : decode cX17_init 14 = .ok (.aload_n 0, 1) := dk_42 (dk_at dksX17_init_0 14 rfl rfl)
theorem dX17_init_15 : decode cX17_init 15 = .ok (.aload_n 3, 1) := dk_45 (dk_at dksX17_init_0 15 rfl rfl)
theorem dX17_init_16 : decode cX17_init 16 = .ok (.putfield 17, 3) := dk_181 0 17 (dk_at dksX17_init_0 16 rfl rfl)
theorem dX17_init_19 : decode cX17_init 19 = .ok (.return_, 1) := dk_177 (dk_at dksX17_init_0 19 rfl rfl)
abbrev cX17_holds : ByteArray := prog_7_method_2_code
def yX17_holds : MethodName := ⟨RX17, "holds", "([I)Z"⟩
def dkwX17_holds_3 : List UInt8 := [167, 0, 4, 3, 172]
abbrev dktX17_holds_3 : List UInt8 := dkwX17_holds_3 ++ []
def dkwX17_holds_2 : List UInt8 := [160, 0, 16, 28, 29, 160, 0, 7, 4, 167, 0, 17, 3, 167, 0, 13, 28, 29, 164, 0, 7, 4]
abbrev dktX17_holds_2 : List UInt8 := dkwX17_holds_2 ++ dktX17_holds_3
def dkwX17_holds_1 : List UInt8 := [160, 0, 16, 28, 29, 162, 0, 7, 4, 167, 0, 39, 3, 167, 0, 35, 42, 180, 0, 13, 16, 61]
abbrev dktX17_holds_1 : List UInt8 := dkwX17_holds_1 ++ dktX17_holds_2
def dkwX17_holds_0 : List UInt8 := [42, 180, 0, 7, 43, 182, 0, 20, 61, 42, 180, 0, 17, 43, 182, 0, 20, 62, 42, 180, 0, 13, 16, 60]
abbrev dktX17_holds_0 : List UInt8 := dkwX17_holds_0 ++ dktX17_holds_1
theorem dksX17_holds_0 : cX17_holds.data.toList.drop 0 = dktX17_holds_0 := by decide +kernel
theorem dksX17_holds_1 : cX17_holds.data.toList.drop 24 = dktX17_holds_1 := dk_seg dksX17_holds_0 24 rfl rfl
theorem dksX17_holds_2 : cX17_holds.data.toList.drop 46 = dktX17_holds_2 := dk_seg dksX17_holds_1 22 rfl rfl
theorem dksX17_holds_3 : cX17_holds.data.toList.drop 68 = dktX17_holds_3 := dk_seg dksX17_holds_2 22 rfl rfl
theorem dX17_holds_0 : decode cX17_holds 0 = .ok (.aload_n 0, 1) := dk_42 (dk_at dksX17_holds_0 0 rfl rfl)
theorem dX17_holds_1 : decode cX17_holds 1 = .ok (.getfield 7, 3) := dk_180 0 7 (dk_at dksX17_holds_0 1 rfl rfl)
theorem dX17_holds_4 : decode cX17_holds 4 = .ok (.aload_n 1, 1) := dk_43 (dk_at dksX17_holds_0 4 rfl rfl)
theorem dX17_holds_5 : decode cX17_holds 5 = .ok (.invokevirtual 20, 3) := dk_182 0 20 (dk_at dksX17_holds_0 5 rfl rfl)
theorem dX17_holds_8 : decode cX17_holds 8 = .ok (.istore_n 2, 1) := dk_61 (dk_at dksX17_holds_0 8 rfl rfl)
theorem dX17_holds_9 : decode cX17_holds 9 = .ok (.aload_n 0, 1) := dk_42 (dk_at dksX17_holds_0 9 rfl rfl)
theorem dX17_holds_10 : decode cX17_holds 10 = .ok (.getfield 17, 3) := dk_180 0 17 (dk_at dksX17_holds_0 10 rfl rfl)
theorem dX17_holds_13 : decode cX17_holds 13 = .ok (.aload_n 1, 1) := dk_43 (dk_at dksX17_holds_0 13 rfl rfl)
theorem dX17_holds_14 : decode cX17_holds 14 = .ok (.invokevirtual 20, 3) := dk_182 0 20 (dk_at dksX17_holds_0 14 rfl rfl)
theorem dX17_holds_17 : decode cX17_holds 17 = .ok (.istore_n 3, 1) := dk_62 (dk_at dksX17_holds_0 17 rfl rfl)
theorem dX17_holds_18 : decode cX17_holds 18 = .ok (.aload_n 0, 1) := dk_42 (dk_at dksX17_holds_0 18 rfl rfl)
theorem dX17_holds_19 : decode cX17_holds 19 = .ok (.getfield 13, 3) := dk_180 0 13 (dk_at dksX17_holds_0 19 rfl rfl)
theorem dX17_holds_22 : decode cX17_holds 22 = .ok (.bipush 60, 2) := dk_16 60 (dk_at dksX17_holds_0 22 rfl rfl)
theorem dX17_holds_24 : decode cX17_holds 24 = .ok (.if_icmp .ne 16, 3) := dk_160 0 16 (dk_at dksX17_holds_1 0 rfl rfl)
theorem dX17_holds_27 : decode cX17_holds 27 = .ok (.iload_n 2, 1) := dk_28 (dk_at dksX17_holds_1 3 rfl rfl)
theorem dX17_holds_28 : decode cX17_holds 28 = .ok (.iload_n 3, 1) := dk_29 (dk_at dksX17_holds_1 4 rfl rfl)
theorem dX17_holds_29 : decode cX17_holds 29 = .ok (.if_icmp .ge 7, 3) := dk_162 0 7 (dk_at dksX17_holds_1 5 rfl rfl)
theorem dX17_holds_32 : decode cX17_holds 32 = .ok (.iconst 1, 1) := dk_4 (dk_at dksX17_holds_1 8 rfl rfl)
theorem dX17_holds_33 : decode cX17_holds 33 = .ok (.goto 39, 3) := dk_167 0 39 (dk_at dksX17_holds_1 9 rfl rfl)
theorem dX17_holds_36 : decode cX17_holds 36 = .ok (.iconst 0, 1) := dk_3 (dk_at dksX17_holds_1 12 rfl rfl)
theorem dX17_holds_37 : decode cX17_holds 37 = .ok (.goto 35, 3) := dk_167 0 35 (dk_at dksX17_holds_1 13 rfl rfl)
theorem dX17_holds_40 : decode cX17_holds 40 = .ok (.aload_n 0, 1) := dk_42 (dk_at dksX17_holds_1 16 rfl rfl)
theorem dX17_holds_41 : decode cX17_holds 41 = .ok (.getfield 13, 3) := dk_180 0 13 (dk_at dksX17_holds_1 17 rfl rfl)
theorem dX17_holds_44 : decode cX17_holds 44 = .ok (.bipush 61, 2) := dk_16 61 (dk_at dksX17_holds_1 20 rfl rfl)
theorem dX17_holds_46 : decode cX17_holds 46 = .ok (.if_icmp .ne 16, 3) := dk_160 0 16 (dk_at dksX17_holds_2 0 rfl rfl)
theorem dX17_holds_49 : decode cX17_holds 49 = .ok (.iload_n 2, 1) := dk_28 (dk_at dksX17_holds_2 3 rfl rfl)
theorem dX17_holds_50 : decode cX17_holds 50 = .ok (.iload_n 3, 1) := dk_29 (dk_at dksX17_holds_2 4 rfl rfl)
theorem dX17_holds_51 : decode cX17_holds 51 = .ok (.if_icmp .ne 7, 3) := dk_160 0 7 (dk_at dksX17_holds_2 5 rfl rfl)
theorem dX17_holds_54 : decode cX17_holds 54 = .ok (.iconst 1, 1) := dk_4 (dk_at dksX17_holds_2 8 rfl rfl)
theorem dX17_holds_55 : decode cX17_holds 55 = .ok (.goto 17, 3) := dk_167 0 17 (dk_at dksX17_holds_2 9 rfl rfl)
theorem dX17_holds_58 : decode cX17_holds 58 = .ok (.iconst 0, 1) := dk_3 (dk_at dksX17_holds_2 12 rfl rfl)
theorem dX17_holds_59 : decode cX17_holds 59 = .ok (.goto 13, 3) := dk_167 0 13 (dk_at dksX17_holds_2 13 rfl rfl)
theorem dX17_holds_62 : decode cX17_holds 62 = .ok (.iload_n 2, 1) := dk_28 (dk_at dksX17_holds_2 16 rfl rfl)
theorem dX17_holds_63 : decode cX17_holds 63 = .ok (.iload_n 3, 1) := dk_29 (dk_at dksX17_holds_2 17 rfl rfl)
theorem dX17_holds_64 : decode cX17_holds 64 = .ok (.if_icmp .le 7, 3) := dk_164 0 7 (dk_at dksX17_holds_2 18 rfl rfl)
theorem dX17_holds_67 : decode cX17_holds 67 = .ok (.iconst 1, 1) := dk_4 (dk_at dksX17_holds_2 21 rfl rfl)
theorem dX17_holds_68 : decode cX17_holds 68 = .ok (.goto 4, 3) := dk_167 0 4 (dk_at dksX17_holds_3 0 rfl rfl)
theorem dX17_holds_71 : decode cX17_holds 71 = .ok (.iconst 0, 1) := dk_3 (dk_at dksX17_holds_3 3 rfl rfl)
theorem dX17_holds_72 : decode cX17_holds 72 = .ok (.ireturn, 1) := dk_172 (dk_at dksX17_holds_3 4 rfl rfl)
theorem q180 : (Jvm.Cond.initialized "CoarserOrders$Asks") ∈ lw_all := lw_g (lw_at lw_m1 30 rfl) rfl
theorem q1152 : (Jvm.Cond.instantiable "CoarserOrders$Asks" (3 : Nat)) ∈ lw_all := lw_g (lw_at lw_m5 42 rfl) rfl
theorem q1154 : (Jvm.Cond.instanceMethod ({ cls := "CoarserOrders$Asks", name := "<init>", desc := "(LCoarserOrders$Value;ILCoarserOrders$Value;)V" } : Jvm.MethodName)) ∈ lw_all := lw_g (lw_at lw_m5 44 rfl) rfl
theorem q1155 : (Jvm.Cond.code ({ cls := "CoarserOrders$Asks", name := "<init>", desc := "(LCoarserOrders$Value;ILCoarserOrders$Value;)V" } : Jvm.MethodName) prog_7_method_1_code (4 : Nat) (Option.none : Option Jvm.ClassFile.FieldType)) ∈ lw_all := lw_g (lw_at lw_m5 45 rfl) rfl
theorem q1156 : (Jvm.Cond.methodLinkNest "CoarserOrders$Asks" (1 : Nat) ({ cls := "CoarserOrders$Cond", name := "<init>", desc := "()V" } : Jvm.MethodName) "CoarserOrders") ∈ lw_tbl := lw_at lw_m5 46 rfl
theorem q1157 : (Jvm.Cond.fieldLink "CoarserOrders$Asks" (7 : Nat) "CoarserOrders$Asks" "first" "LCoarserOrders$Value;") ∈ lw_all := lw_g (lw_at lw_m5 47 rfl) rfl
theorem q1158 : (Jvm.Cond.fieldLink "CoarserOrders$Asks" (17 : Nat) "CoarserOrders$Asks" "second" "LCoarserOrders$Value;") ∈ lw_all := lw_g (lw_at lw_m5 48 rfl) rfl
theorem q1159 : (Jvm.Cond.fieldLink "CoarserOrders$Asks" (13 : Nat) "CoarserOrders$Asks" "sign" "I") ∈ lw_all := lw_g (lw_at lw_m5 49 rfl) rfl
theorem q1160 : (Jvm.Cond.laysFinal "CoarserOrders$Asks" "CoarserOrders$Asks" "first" "LCoarserOrders$Value;") ∈ lw_all := lw_g (lw_at lw_m5 50 rfl) rfl
theorem q1161 : (Jvm.Cond.soleField "CoarserOrders$Asks" "first") ∈ lw_all := lw_g (lw_at lw_m5 51 rfl) rfl
theorem q1162 : (Jvm.Cond.laysFinal "CoarserOrders$Asks" "CoarserOrders$Asks" "second" "LCoarserOrders$Value;") ∈ lw_all := lw_g (lw_at lw_m5 52 rfl) rfl
theorem q1163 : (Jvm.Cond.soleField "CoarserOrders$Asks" "second") ∈ lw_all := lw_g (lw_at lw_m5 53 rfl) rfl
theorem q1164 : (Jvm.Cond.laysFinal "CoarserOrders$Asks" "CoarserOrders$Asks" "sign" "I") ∈ lw_all := lw_g (lw_at lw_m5 54 rfl) rfl
theorem q1165 : (Jvm.Cond.soleField "CoarserOrders$Asks" "sign") ∈ lw_all := lw_g (lw_at lw_m5 55 rfl) rfl
theorem q1166 : (Jvm.Cond.superclass "CoarserOrders$Asks" "CoarserOrders$Cond") ∈ lw_all := lw_g (lw_at lw_m5 56 rfl) rfl
theorem q1208 : (Jvm.Cond.instanceMethod ({ cls := "CoarserOrders$Asks", name := "holds", desc := "([I)Z" } : Jvm.MethodName)) ∈ lw_all := lw_g (lw_at lw_m5 98 rfl) rfl
theorem q1209 : (Jvm.Cond.code ({ cls := "CoarserOrders$Asks", name := "holds", desc := "([I)Z" } : Jvm.MethodName) prog_7_method_2_code (4 : Nat) (Option.some Jvm.ClassFile.FieldType.boolean)) ∈ lw_all := lw_g (lw_at lw_m5 99 rfl) rfl
theorem q1210 : (Jvm.Cond.methodLink "CoarserOrders$Asks" (20 : Nat) ({ cls := "CoarserOrders$Value", name := "of", desc := "([I)I" } : Jvm.MethodName)) ∈ lw_all := lw_g (lw_at lw_m5 100 rfl) rfl
theorem q1220 : (Jvm.Cond.selects "CoarserOrders$Asks" ({ cls := "CoarserOrders$Cond", name := "holds", desc := "([I)Z" } : Jvm.MethodName) ({ cls := "CoarserOrders$Asks", name := "holds", desc := "([I)Z" } : Jvm.MethodName)) ∈ lw_all := lw_g (lw_at lw_m5 110 rfl) rfl

abbrev cX18_init : ByteArray := prog_5_method_1_code
def yX18_init : MethodName := ⟨RX18, "<init>", "(LCoarserOrders$Cond;LCoarserOrders$Cond;)V"⟩
def dkwX18_init_0 : List UInt8 := [42, 183, 0, 1, 42, 43, 181, 0, 7, 42, 44, 181, 0, 13, 177]
abbrev dktX18_init_0 : List UInt8 := dkwX18_init_0 ++ []
theorem dksX18_init_0 : cX18_init.data.toList.drop 0 = dktX18_init_0 := by decide +kernel
theorem dX18_init_0 : decode cX18_init 0 = .ok (.aload_n 0, 1) := dk_42 (dk_at dksX18_init_0 0 rfl rfl)
theorem dX18_init_1 : decode cX18_init 1 = .ok (.invokespecial 1, 3) := dk_183 0 1 (dk_at dksX18_init_0 1 rfl rfl)
theorem dX18_init_4 : decode cX18_init 4 = .ok (.aload_n 0, 1) := dk_42 (dk_at dksX18_init_0 4 rfl rfl)
theorem dX18_init_5 : decode cX18_init 5 = .ok (.aload_n 1, 1) := dk_43 (dk_at dksX18_init_0 5 rfl rfl)
theorem dX18_init_6 : decode cX18_init 6 = .ok (.putfield 7, 3) := dk_181 0 7 (dk_at dksX18_init_0 6 rfl rfl)
theorem dX18_init_9 : decode cX18_init 9 = .ok (.aload_n 0, 1) := dk_42 (dk_at dksX18_init_0 9 rfl rfl)
theorem dX18_init_10 : decode cX18_init 10 = .ok (.aload_n 2, 1) := dk_44 (dk_at dksX18_init_0 10 rfl rfl)
theorem dX18_init_11 : decode cX18_init 11 = .ok (.putfield 13, 3) := dk_181 0 13 (dk_at dksX18_init_0 11 rfl rfl)
theorem dX18_init_14 : decode cX18_init 14 = .ok (.return_, 1) := dk_177 (dk_at dksX18_init_0 14 rfl rfl)
abbrev cX18_holds : ByteArray := prog_5_method_2_code
def yX18_holds : MethodName := ⟨RX18, "holds", "([I)Z"⟩
def dkwX18_holds_1 : List UInt8 := [167, 0, 4, 3, 172]
abbrev dktX18_holds_1 : List UInt8 := dkwX18_holds_1 ++ []
def dkwX18_holds_0 : List UInt8 := [42, 180, 0, 7, 43, 182, 0, 16, 153, 0, 18, 42, 180, 0, 13, 43, 182, 0, 16, 153, 0, 7, 4]
abbrev dktX18_holds_0 : List UInt8 := dkwX18_holds_0 ++ dktX18_holds_1
theorem dksX18_holds_0 : cX18_holds.data.toList.drop 0 = dktX18_holds_0 := by decide +kernel
theorem dksX18_holds_1 : cX18_holds.data.toList.drop 23 = dktX18_holds_1 := dk_seg dksX18_holds_0 23 rfl rfl
theorem dX18_holds_0 : decode cX18_holds 0 = .ok (.aload_n 0, 1) := dk_42 (dk_at dksX18_holds_0 0 rfl rfl)
theorem dX18_holds_1 : decode cX18_holds 1 = .ok (.getfield 7, 3) := dk_180 0 7 (dk_at dksX18_holds_0 1 rfl rfl)
theorem dX18_holds_4 : decode cX18_holds 4 = .ok (.aload_n 1, 1) := dk_43 (dk_at dksX18_holds_0 4 rfl rfl)
theorem dX18_holds_5 : decode cX18_holds 5 = .ok (.invokevirtual 16, 3) := dk_182 0 16 (dk_at dksX18_holds_0 5 rfl rfl)
theorem dX18_holds_8 : decode cX18_holds 8 = .ok (.ifCond .eq 18, 3) := dk_153 0 18 (dk_at dksX18_holds_0 8 rfl rfl)
theorem dX18_holds_11 : decode cX18_holds 11 = .ok (.aload_n 0, 1) := dk_42 (dk_at dksX18_holds_0 11 rfl rfl)
theorem dX18_holds_12 : decode cX18_holds 12 = .ok (.getfield 13, 3) := dk_180 0 13 (dk_at dksX18_holds_0 12 rfl rfl)
theorem dX18_holds_15 : decode cX18_holds 15 = .ok (.aload_n 1, 1) := dk_43 (dk_at dksX18_holds_0 15 rfl rfl)
theorem dX18_holds_16 : decode cX18_holds 16 = .ok (.invokevirtual 16, 3) := dk_182 0 16 (dk_at dksX18_holds_0 16 rfl rfl)
theorem dX18_holds_19 : decode cX18_holds 19 = .ok (.ifCond .eq 7, 3) := dk_153 0 7 (dk_at dksX18_holds_0 19 rfl rfl)
theorem dX18_holds_22 : decode cX18_holds 22 = .ok (.iconst 1, 1) := dk_4 (dk_at dksX18_holds_0 22 rfl rfl)
theorem dX18_holds_23 : decode cX18_holds 23 = .ok (.goto 4, 3) := dk_167 0 4 (dk_at dksX18_holds_1 0 rfl rfl)
theorem dX18_holds_26 : decode cX18_holds 26 = .ok (.iconst 0, 1) := dk_3 (dk_at dksX18_holds_1 3 rfl rfl)
theorem dX18_holds_27 : decode cX18_holds 27 = .ok (.ireturn, 1) := dk_172 (dk_at dksX18_holds_1 4 rfl rfl)
theorem q181 : (Jvm.Cond.initialized "CoarserOrders$All") ∈ lw_all := lw_g (lw_at lw_m1 31 rfl) rfl
theorem q1169 : (Jvm.Cond.instantiable "CoarserOrders$All" (2 : Nat)) ∈ lw_all := lw_g (lw_at lw_m5 59 rfl) rfl
theorem q1171 : (Jvm.Cond.instanceMethod ({ cls := "CoarserOrders$All", name := "<init>", desc := "(LCoarserOrders$Cond;LCoarserOrders$Cond;)V" } : Jvm.MethodName)) ∈ lw_all := lw_g (lw_at lw_m5 61 rfl) rfl
theorem q1172 : (Jvm.Cond.code ({ cls := "CoarserOrders$All", name := "<init>", desc := "(LCoarserOrders$Cond;LCoarserOrders$Cond;)V" } : Jvm.MethodName) prog_5_method_1_code (3 : Nat) (Option.none : Option Jvm.ClassFile.FieldType)) ∈ lw_all := lw_g (lw_at lw_m5 62 rfl) rfl
theorem q1173 : (Jvm.Cond.methodLinkNest "CoarserOrders$All" (1 : Nat) ({ cls := "CoarserOrders$Cond", name := "<init>", desc := "()V" } : Jvm.MethodName) "CoarserOrders") ∈ lw_tbl := lw_at lw_m5 63 rfl
theorem q1174 : (Jvm.Cond.fieldLink "CoarserOrders$All" (7 : Nat) "CoarserOrders$All" "first" "LCoarserOrders$Cond;") ∈ lw_all := lw_g (lw_at lw_m5 64 rfl) rfl
theorem q1177 : (Jvm.Cond.fieldLink "CoarserOrders$All" (13 : Nat) "CoarserOrders$All" "second" "LCoarserOrders$Cond;") ∈ lw_all := lw_g (lw_at lw_m5 67 rfl) rfl
theorem q1180 : (Jvm.Cond.laysFinal "CoarserOrders$All" "CoarserOrders$All" "first" "LCoarserOrders$Cond;") ∈ lw_all := lw_g (lw_at lw_m5 70 rfl) rfl
theorem q1181 : (Jvm.Cond.soleField "CoarserOrders$All" "first") ∈ lw_all := lw_g (lw_at lw_m5 71 rfl) rfl
theorem q1182 : (Jvm.Cond.laysFinal "CoarserOrders$All" "CoarserOrders$All" "second" "LCoarserOrders$Cond;") ∈ lw_all := lw_g (lw_at lw_m5 72 rfl) rfl
theorem q1183 : (Jvm.Cond.soleField "CoarserOrders$All" "second") ∈ lw_all := lw_g (lw_at lw_m5 73 rfl) rfl
theorem q1184 : (Jvm.Cond.superclass "CoarserOrders$All" "CoarserOrders$Cond") ∈ lw_all := lw_g (lw_at lw_m5 74 rfl) rfl
theorem q1204 : (Jvm.Cond.selects "CoarserOrders$All" ({ cls := "CoarserOrders$Cond", name := "holds", desc := "([I)Z" } : Jvm.MethodName) ({ cls := "CoarserOrders$All", name := "holds", desc := "([I)Z" } : Jvm.MethodName)) ∈ lw_all := lw_g (lw_at lw_m5 94 rfl) rfl
theorem q1205 : (Jvm.Cond.instanceMethod ({ cls := "CoarserOrders$All", name := "holds", desc := "([I)Z" } : Jvm.MethodName)) ∈ lw_all := lw_g (lw_at lw_m5 95 rfl) rfl
theorem q1206 : (Jvm.Cond.code ({ cls := "CoarserOrders$All", name := "holds", desc := "([I)Z" } : Jvm.MethodName) prog_5_method_2_code (2 : Nat) (Option.some Jvm.ClassFile.FieldType.boolean)) ∈ lw_all := lw_g (lw_at lw_m5 96 rfl) rfl
theorem q1207 : (Jvm.Cond.methodLink "CoarserOrders$All" (16 : Nat) ({ cls := "CoarserOrders$Cond", name := "holds", desc := "([I)Z" } : Jvm.MethodName)) ∈ lw_all := lw_g (lw_at lw_m5 97 rfl) rfl

abbrev cX19_init : ByteArray := prog_24_method_1_code
def yX19_init : MethodName := ⟨RX19, "<init>", "(LCoarserOrders$Cond;LCoarserOrders$Cond;)V"⟩
def dkwX19_init_0 : List UInt8 := [42, 43, 44, 183, 0, 1, 177]
abbrev dktX19_init_0 : List UInt8 := dkwX19_init_0 ++ []
theorem dksX19_init_0 : cX19_init.data.toList.drop 0 = dktX19_init_0 := by decide +kernel
theorem dX19_init_0 : decode cX19_init 0 = .ok (.aload_n 0, 1) := dk_42 (dk_at dksX19_init_0 0 rfl rfl)
theorem dX19_init_1 : decode cX19_init 1 = .ok (.aload_n 1, 1) := dk_43 (dk_at dksX19_init_0 1 rfl rfl)
theorem dX19_init_2 : decode cX19_init 2 = .ok (.aload_n 2, 1) := dk_44 (dk_at dksX19_init_0 2 rfl rfl)
theorem dX19_init_3 : decode cX19_init 3 = .ok (.invokespecial 1, 3) := dk_183 0 1 (dk_at dksX19_init_0 3 rfl rfl)
theorem dX19_init_6 : decode cX19_init 6 = .ok (.return_, 1) := dk_177 (dk_at dksX19_init_0 6 rfl rfl)
abbrev cX19_holds : ByteArray := prog_24_method_2_code
def yX19_holds : MethodName := ⟨RX19, "holds", "([I)Z"⟩
def dkwX19_holds_1 : List UInt8 := [167, 0, 4, 3, 172]
abbrev dktX19_holds_1 : List UInt8 := dkwX19_holds_1 ++ []
def dkwX19_holds_0 : List UInt8 := [42, 180, 0, 7, 43, 182, 0, 13, 154, 0, 14, 42, 180, 0, 19, 43, 182, 0, 13, 153, 0, 7, 4]
abbrev dktX19_holds_0 : List UInt8 := dkwX19_holds_0 ++ dktX19_holds_1
theorem dksX19_holds_0 : cX19_holds.data.toList.drop 0 = dktX19_holds_0 := by decide +kernel
theorem dksX19_holds_1 : cX19_holds.data.toList.drop 23 = dktX19_holds_1 := dk_seg dksX19_holds_0 23 rfl rfl
theorem dX19_holds_0 : decode cX19_holds 0 = .ok (.aload_n 0, 1) := dk_42 (dk_at dksX19_holds_0 0 rfl rfl)
theorem dX19_holds_1 : decode cX19_holds 1 = .ok (.getfield 7, 3) := dk_180 0 7 (dk_at dksX19_holds_0 1 rfl rfl)
theorem dX19_holds_4 : decode cX19_holds 4 = .ok (.aload_n 1, 1) := dk_43 (dk_at dksX19_holds_0 4 rfl rfl)
theorem dX19_holds_5 : decode cX19_holds 5 = .ok (.invokevirtual 13, 3) := dk_182 0 13 (dk_at dksX19_holds_0 5 rfl rfl)
theorem dX19_holds_8 : decode cX19_holds 8 = .ok (.ifCond .ne 14, 3) := dk_154 0 14 (dk_at dksX19_holds_0 8 rfl rfl)
theorem dX19_holds_11 : decode cX19_holds 11 = .ok (.aload_n 0, 1) := dk_42 (dk_at dksX19_holds_0 11 rfl rfl)
theorem dX19_holds_12 : decode cX19_holds 12 = .ok (.getfield 19, 3) := dk_180 0 19 (dk_at dksX19_holds_0 12 rfl rfl)
theorem dX19_holds_15 : decode cX19_holds 15 = .ok (.aload_n 1, 1) := dk_43 (dk_at dksX19_holds_0 15 rfl rfl)
theorem dX19_holds_16 : decode cX19_holds 16 = .ok (.invokevirtual 13, 3) := dk_182 0 13 (dk_at dksX19_holds_0 16 rfl rfl)
theorem dX19_holds_19 : decode cX19_holds 19 = .ok (.ifCond .eq 7, 3) := dk_153 0 7 (dk_at dksX19_holds_0 19 rfl rfl)
theorem dX19_holds_22 : decode cX19_holds 22 = .ok (.iconst 1, 1) := dk_4 (dk_at dksX19_holds_0 22 rfl rfl)
theorem dX19_holds_23 : decode cX19_holds 23 = .ok (.goto 4, 3) := dk_167 0 4 (dk_at dksX19_holds_1 0 rfl rfl)
theorem dX19_holds_26 : decode cX19_holds 26 = .ok (.iconst 0, 1) := dk_3 (dk_at dksX19_holds_1 3 rfl rfl)
theorem dX19_holds_27 : decode cX19_holds 27 = .ok (.ireturn, 1) := dk_172 (dk_at dksX19_holds_1 4 rfl rfl)
theorem q182 : (Jvm.Cond.initialized "CoarserOrders$Some") ∈ lw_all := lw_g (lw_at lw_m1 32 rfl) rfl
theorem q1175 : (Jvm.Cond.fieldLink "CoarserOrders$Some" (7 : Nat) "CoarserOrders$Some" "first" "LCoarserOrders$Cond;") ∈ lw_all := lw_g (lw_at lw_m5 65 rfl) rfl
theorem q1176 : (Jvm.Cond.sameField "CoarserOrders$Some" "CoarserOrders$All" "first" "LCoarserOrders$Cond;") ∈ lw_all := lw_g (lw_at lw_m5 66 rfl) rfl
theorem q1178 : (Jvm.Cond.fieldLink "CoarserOrders$Some" (19 : Nat) "CoarserOrders$Some" "second" "LCoarserOrders$Cond;") ∈ lw_all := lw_g (lw_at lw_m5 68 rfl) rfl
theorem q1179 : (Jvm.Cond.sameField "CoarserOrders$Some" "CoarserOrders$All" "second" "LCoarserOrders$Cond;") ∈ lw_all := lw_g (lw_at lw_m5 69 rfl) rfl
theorem q1187 : (Jvm.Cond.instantiable "CoarserOrders$Some" (2 : Nat)) ∈ lw_all := lw_g (lw_at lw_m5 77 rfl) rfl
theorem q1189 : (Jvm.Cond.instanceMethod ({ cls := "CoarserOrders$Some", name := "<init>", desc := "(LCoarserOrders$Cond;LCoarserOrders$Cond;)V" } : Jvm.MethodName)) ∈ lw_all := lw_g (lw_at lw_m5 79 rfl) rfl
theorem q1190 : (Jvm.Cond.code ({ cls := "CoarserOrders$Some", name := "<init>", desc := "(LCoarserOrders$Cond;LCoarserOrders$Cond;)V" } : Jvm.MethodName) prog_24_method_1_code (3 : Nat) (Option.none : Option Jvm.ClassFile.FieldType)) ∈ lw_all := lw_g (lw_at lw_m5 80 rfl) rfl
theorem q1191 : (Jvm.Cond.methodLink "CoarserOrders$Some" (1 : Nat) ({ cls := "CoarserOrders$All", name := "<init>", desc := "(LCoarserOrders$Cond;LCoarserOrders$Cond;)V" } : Jvm.MethodName)) ∈ lw_all := lw_g (lw_at lw_m5 81 rfl) rfl
theorem q1192 : (Jvm.Cond.laysFinal "CoarserOrders$Some" "CoarserOrders$All" "first" "LCoarserOrders$Cond;") ∈ lw_all := lw_g (lw_at lw_m5 82 rfl) rfl
theorem q1193 : (Jvm.Cond.laysFinal "CoarserOrders$Some" "CoarserOrders$All" "second" "LCoarserOrders$Cond;") ∈ lw_all := lw_g (lw_at lw_m5 83 rfl) rfl
theorem q1194 : (Jvm.Cond.superclass "CoarserOrders$Some" "CoarserOrders$All") ∈ lw_all := lw_g (lw_at lw_m5 84 rfl) rfl
theorem q1217 : (Jvm.Cond.instanceMethod ({ cls := "CoarserOrders$Some", name := "holds", desc := "([I)Z" } : Jvm.MethodName)) ∈ lw_all := lw_g (lw_at lw_m5 107 rfl) rfl
theorem q1218 : (Jvm.Cond.code ({ cls := "CoarserOrders$Some", name := "holds", desc := "([I)Z" } : Jvm.MethodName) prog_24_method_2_code (2 : Nat) (Option.some Jvm.ClassFile.FieldType.boolean)) ∈ lw_all := lw_g (lw_at lw_m5 108 rfl) rfl
theorem q1219 : (Jvm.Cond.methodLink "CoarserOrders$Some" (13 : Nat) ({ cls := "CoarserOrders$Cond", name := "holds", desc := "([I)Z" } : Jvm.MethodName)) ∈ lw_all := lw_g (lw_at lw_m5 109 rfl) rfl
theorem q1222 : (Jvm.Cond.selects "CoarserOrders$Some" ({ cls := "CoarserOrders$Cond", name := "holds", desc := "([I)Z" } : Jvm.MethodName) ({ cls := "CoarserOrders$Some", name := "holds", desc := "([I)Z" } : Jvm.MethodName)) ∈ lw_all := lw_g (lw_at lw_m5 112 rfl) rfl

abbrev cX20_init : ByteArray := prog_25_method_1_code
def yX20_init : MethodName := ⟨RX20, "<init>", "(LCoarserOrders;)V"⟩
def dkwX20_init_0 : List UInt8 := [42, 43, 181, 0, 1, 42, 183, 0, 7, 177]
abbrev dktX20_init_0 : List UInt8 := dkwX20_init_0 ++ []
theorem dksX20_init_0 : cX20_init.data.toList.drop 0 = dktX20_init_0 := by decide +kernel
theorem dX20_init_0 : decode cX20_init 0 = .ok (.aload_n 0, 1) := dk_42 (dk_at dksX20_init_0 0 rfl rfl)
theorem dX20_init_1 : decode cX20_init 1 = .ok (.aload_n 1, 1) := dk_43 (dk_at dksX20_init_0 1 rfl rfl)
theorem dX20_init_2 : decode cX20_init 2 = .ok (.putfield 1, 3) := dk_181 0 1 (dk_at dksX20_init_0 2 rfl rfl)
theorem dX20_init_5 : decode cX20_init 5 = .ok (.aload_n 0, 1) := dk_42 (dk_at dksX20_init_0 5 rfl rfl)
theorem dX20_init_6 : decode cX20_init 6 = .ok (.invokespecial 7, 3) := dk_183 0 7 (dk_at dksX20_init_0 6 rfl rfl)
theorem dX20_init_9 : decode cX20_init 9 = .ok (.return_, 1) := dk_177 (dk_at dksX20_init_0 9 rfl rfl)
abbrev cX20_ofAll : ByteArray := prog_25_method_3_code
def yX20_ofAll : MethodName := ⟨RX20, "ofAll", "()I"⟩
def dkwX20_ofAll_2 : List UInt8 := [27, 172]
abbrev dktX20_ofAll_2 : List UInt8 := dkwX20_ofAll_2 ++ []
def dkwX20_ofAll_1 : List UInt8 := [153, 0, 24, 44, 185, 0, 28, 1, 0, 192, 0, 32, 78, 27, 42, 45, 182, 0, 34, 96, 60, 167, 255, 229]
abbrev dktX20_ofAll_1 : List UInt8 := dkwX20_ofAll_1 ++ dktX20_ofAll_2
def dkwX20_ofAll_0 : List UInt8 := [3, 60, 187, 0, 13, 89, 42, 180, 0, 1, 183, 0, 15, 182, 0, 18, 77, 44, 185, 0, 22, 1, 0]
abbrev dktX20_ofAll_0 : List UInt8 := dkwX20_ofAll_0 ++ dktX20_ofAll_1
theorem dksX20_ofAll_0 : cX20_ofAll.data.toList.drop 0 = dktX20_ofAll_0 := by decide +kernel
theorem dksX20_ofAll_1 : cX20_ofAll.data.toList.drop 23 = dktX20_ofAll_1 := dk_seg dksX20_ofAll_0 23 rfl rfl
theorem dksX20_ofAll_2 : cX20_ofAll.data.toList.drop 47 = dktX20_ofAll_2 := dk_seg dksX20_ofAll_1 24 rfl rfl
theorem dX20_ofAll_0 : decode cX20_ofAll 0 = .ok (.iconst 0, 1) := dk_3 (dk_at dksX20_ofAll_0 0 rfl rfl)
theorem dX20_ofAll_1 : decode cX20_ofAll 1 = .ok (.istore_n 1, 1) := dk_60 (dk_at dksX20_ofAll_0 1 rfl rfl)
theorem dX20_ofAll_2 : decode cX20_ofAll 2 = .ok (.new 13, 3) := dk_187 0 13 (dk_at dksX20_ofAll_0 2 rfl rfl)
theorem dX20_ofAll_5 : decode cX20_ofAll 5 = .ok (.dup, 1) := dk_89 (dk_at dksX20_ofAll_0 5 rfl rfl)
theorem dX20_ofAll_6 : decode cX20_ofAll 6 = .ok (.aload_n 0, 1) := dk_42 (dk_at dksX20_ofAll_0 6 rfl rfl)
theorem dX20_ofAll_7 : decode cX20_ofAll 7 = .ok (.getfield 1, 3) := dk_180 0 1 (dk_at dksX20_ofAll_0 7 rfl rfl)
theorem dX20_ofAll_10 : decode cX20_ofAll 10 = .ok (.invokespecial 15, 3) := dk_183 0 15 (dk_at dksX20_ofAll_0 10 rfl rfl)
theorem dX20_ofAll_13 : decode cX20_ofAll 13 = .ok (.invokevirtual 18, 3) := dk_182 0 18 (dk_at dksX20_ofAll_0 13 rfl rfl)
theorem dX20_ofAll_16 : decode cX20_ofAll 16 = .ok (.astore_n 2, 1) := dk_77 (dk_at dksX20_ofAll_0 16 rfl rfl)
theorem dX20_ofAll_17 : decode cX20_ofAll 17 = .ok (.aload_n 2, 1) := dk_44 (dk_at dksX20_ofAll_0 17 rfl rfl)
theorem dX20_ofAll_18 : decode cX20_ofAll 18 = .ok (.invokeinterface 22 1, 5) := by decide +kernel
theorem dX20_ofAll_23 : decode cX20_ofAll 23 = .ok (.ifCond .eq 24, 3) := dk_153 0 24 (dk_at dksX20_ofAll_1 0 rfl rfl)
theorem dX20_ofAll_26 : decode cX20_ofAll 26 = .ok (.aload_n 2, 1) := dk_44 (dk_at dksX20_ofAll_1 3 rfl rfl)
theorem dX20_ofAll_27 : decode cX20_ofAll 27 = .ok (.invokeinterface 28 1, 5) := by decide +kernel
theorem dX20_ofAll_32 : decode cX20_ofAll 32 = .ok (.checkcast 32, 3) := dk_192 0 32 (dk_at dksX20_ofAll_1 9 rfl rfl)
theorem dX20_ofAll_35 : decode cX20_ofAll 35 = .ok (.astore_n 3, 1) := dk_78 (dk_at dksX20_ofAll_1 12 rfl rfl)
theorem dX20_ofAll_36 : decode cX20_ofAll 36 = .ok (.iload_n 1, 1) := dk_27 (dk_at dksX20_ofAll_1 13 rfl rfl)
theorem dX20_ofAll_37 : decode cX20_ofAll 37 = .ok (.aload_n 0, 1) := dk_42 (dk_at dksX20_ofAll_1 14 rfl rfl)
theorem dX20_ofAll_38 : decode cX20_ofAll 38 = .ok (.aload_n 3, 1) := dk_45 (dk_at dksX20_ofAll_1 15 rfl rfl)
theorem dX20_ofAll_39 : decode cX20_ofAll 39 = .ok (.invokevirtual 34, 3) := dk_182 0 34 (dk_at dksX20_ofAll_1 16 rfl rfl)
theorem dX20_ofAll_42 : decode cX20_ofAll 42 = .ok (.iadd, 1) := dk_96 (dk_at dksX20_ofAll_1 19 rfl rfl)
theorem dX20_ofAll_43 : decode cX20_ofAll 43 = .ok (.istore_n 1, 1) := dk_60 (dk_at dksX20_ofAll_1 20 rfl rfl)
theorem dX20_ofAll_44 : decode cX20_ofAll 44 = .ok (.goto (-27), 3) := dk_167 255 229 (dk_at dksX20_ofAll_1 21 rfl rfl)
theorem dX20_ofAll_47 : decode cX20_ofAll 47 = .ok (.iload_n 1, 1) := dk_27 (dk_at dksX20_ofAll_2 0 rfl rfl)
theorem dX20_ofAll_48 : decode cX20_ofAll 48 = .ok (.ireturn, 1) := dk_172 (dk_at dksX20_ofAll_2 1 rfl rfl)
theorem q183 : (Jvm.Cond.initialized "CoarserOrders$Tally") ∈ lw_all := lw_g (lw_at lw_m1 33 rfl) rfl
theorem q1245 : (Jvm.Cond.instanceMethod ({ cls := "CoarserOrders$Tally", name := "<init>", desc := "(LCoarserOrders;)V" } : Jvm.MethodName)) ∈ lw_all := lw_g (lw_at lw_m5 135 rfl) rfl
theorem q1246 : (Jvm.Cond.code ({ cls := "CoarserOrders$Tally", name := "<init>", desc := "(LCoarserOrders;)V" } : Jvm.MethodName) prog_25_method_1_code (2 : Nat) (Option.none : Option Jvm.ClassFile.FieldType)) ∈ lw_all := lw_g (lw_at lw_m5 136 rfl) rfl
theorem q1247 : (Jvm.Cond.methodLink "CoarserOrders$Tally" (7 : Nat) ({ cls := "java/lang/Object", name := "<init>", desc := "()V" } : Jvm.MethodName)) ∈ lw_all := lw_g (lw_at lw_m5 137 rfl) rfl
theorem q1251 : (Jvm.Cond.fieldLink "CoarserOrders$Tally" (1 : Nat) "CoarserOrders$Tally" "this$0" "LCoarserOrders;") ∈ lw_all := lw_g (lw_at lw_m5 141 rfl) rfl
theorem q1259 : (Jvm.Cond.soleField "CoarserOrders$Tally" "this$0") ∈ lw_all := lw_g (lw_at lw_m5 149 rfl) rfl
theorem q1263 : (Jvm.Cond.declares ({ cls := "CoarserOrders$Tally", name := "ofAll", desc := "()I" } : Jvm.MethodName)) ∈ lw_tbl := lw_at lw_m5 153 rfl
theorem q1265 : (Jvm.Cond.instanceMethod ({ cls := "CoarserOrders$Tally", name := "ofAll", desc := "()I" } : Jvm.MethodName)) ∈ lw_all := lw_g (lw_at lw_m5 155 rfl) rfl
theorem q1266 : (Jvm.Cond.code ({ cls := "CoarserOrders$Tally", name := "ofAll", desc := "()I" } : Jvm.MethodName) prog_25_method_3_code (4 : Nat) (Option.some Jvm.ClassFile.FieldType.int)) ∈ lw_all := lw_g (lw_at lw_m5 156 rfl) rfl
theorem q1267 : (Jvm.Cond.classLink "CoarserOrders$Tally" (13 : Nat) "CoarserOrders$Rows") ∈ lw_all := lw_g (lw_at lw_m5 157 rfl) rfl
theorem q1269 : (Jvm.Cond.methodLinkNest "CoarserOrders$Tally" (15 : Nat) ({ cls := "CoarserOrders$Rows", name := "<init>", desc := "(LCoarserOrders;)V" } : Jvm.MethodName) "CoarserOrders") ∈ lw_tbl := lw_at lw_m5 159 rfl
theorem q1287 : (Jvm.Cond.methodLink "CoarserOrders$Tally" (18 : Nat) ({ cls := "CoarserOrders$Rows", name := "iterator", desc := "()Ljava/util/Iterator;" } : Jvm.MethodName)) ∈ lw_all := lw_g (lw_at lw_m5 177 rfl) rfl
theorem q1292 : (Jvm.Cond.interfaceEntry "CoarserOrders$Tally" (22 : Nat)) ∈ lw_tbl := lw_at lw_m5 182 rfl
theorem q1293 : (Jvm.Cond.methodLink "CoarserOrders$Tally" (22 : Nat) ({ cls := "java/util/Iterator", name := "hasNext", desc := "()Z" } : Jvm.MethodName)) ∈ lw_all := lw_g (lw_at lw_m5 183 rfl) rfl
theorem q1302 : (Jvm.Cond.interfaceEntry "CoarserOrders$Tally" (28 : Nat)) ∈ lw_tbl := lw_at lw_m5 192 rfl
theorem q1303 : (Jvm.Cond.methodLink "CoarserOrders$Tally" (28 : Nat) ({ cls := "java/util/Iterator", name := "next", desc := "()Ljava/lang/Object;" } : Jvm.MethodName)) ∈ lw_all := lw_g (lw_at lw_m5 193 rfl) rfl
theorem q1319 : (Jvm.Cond.classLink "CoarserOrders$Tally" (32 : Nat) "[B") ∈ lw_all := lw_g (lw_at lw_m5 209 rfl) rfl
theorem q1320 : (Jvm.Cond.methodLink "CoarserOrders$Tally" (34 : Nat) ({ cls := "CoarserOrders$Tally", name := "worth", desc := "([B)I" } : Jvm.MethodName)) ∈ lw_all := lw_g (lw_at lw_m5 210 rfl) rfl
theorem q1321 : (Jvm.Cond.declares ({ cls := "CoarserOrders$Tally", name := "worth", desc := "([B)I" } : Jvm.MethodName)) ∈ lw_tbl := lw_at lw_m5 211 rfl
theorem q1322 : (Jvm.Cond.sameMethod "CoarserOrders$Tally" "CoarserOrders$Tally" "worth" "([B)I") ∈ lw_all := lw_g (lw_at lw_m5 212 rfl) rfl

-- two fields of one name: no nmX21
abbrev cX21_init : ByteArray := prog_3_method_1_code
def yX21_init : MethodName := ⟨RX21, "<init>", "(LCoarserOrders;JJ)V"⟩
def dkwX21_init_0 : List UInt8 := [42, 43, 181, 0, 1, 42, 32, 181, 0, 7, 42, 22, 4, 181, 0, 11, 42, 43, 183, 0, 14, 177]
abbrev dktX21_init_0 : List UInt8 := dkwX21_init_0 ++ []
theorem dksX21_init_0 : cX21_init.data.toList.drop 0 = dktX21_init_0 := by decide +kernel
theorem dX21_init_0 : decode cX21_init 0 = .ok (.aload_n 0, 1) := dk_42 (dk_at dksX21_init_0 0 rfl rfl)
theorem dX21_init_1 : decode cX21_init 1 = .ok (.aload_n 1, 1) := dk_43 (dk_at dksX21_init_0 1 rfl rfl)
theorem dX21_init_2 : decode cX21_init 2 = .ok (.putfield 1, 3) := dk_181 0 1 (dk_at dksX21_init_0 2 rfl rfl)
theorem dX21_init_5 : decode cX21_init 5 = .ok (.aload_n 0, 1) := dk_42 (dk_at dksX21_init_0 5 rfl rfl)
theorem dX21_init_6 : decode cX21_init 6 = .ok (.lload_n 2, 1) := dk_32 (dk_at dksX21_init_0 6 rfl rfl)
theorem dX21_init_7 : decode cX21_init 7 = .ok (.putfield 7, 3) := dk_181 0 7 (dk_at dksX21_init_0 7 rfl rfl)
theorem dX21_init_10 : decode cX21_init 10 = .ok (.aload_n 0, 1) := dk_42 (dk_at dksX21_init_0 10 rfl rfl)
theorem dX21_init_11 : decode cX21_init 11 = .ok (.lload 4, 2) := dk_22 4 (dk_at dksX21_init_0 11 rfl rfl)
theorem dX21_init_13 : decode cX21_init 13 = .ok (.putfield 11, 3) := dk_181 0 11 (dk_at dksX21_init_0 13 rfl rfl)
theorem dX21_init_16 : decode cX21_init 16 = .ok (.aload_n 0, 1) := dk_42 (dk_at dksX21_init_0 16 rfl rfl)
theorem dX21_init_17 : decode cX21_init 17 = .ok (.aload_n 1, 1) := dk_43 (dk_at dksX21_init_0 17 rfl rfl)
theorem dX21_init_18 : decode cX21_init 18 = .ok (.invokespecial 14, 3) := dk_183 0 14 (dk_at dksX21_init_0 18 rfl rfl)
theorem dX21_init_21 : decode cX21_init 21 = .ok (.return_, 1) := dk_177 (dk_at dksX21_init_0 21 rfl rfl)
abbrev cX21_worth : ByteArray := prog_3_method_2_code
def yX21_worth : MethodName := ⟨RX21, "worth", "([B)I"⟩
def dkwX21_worth_1 : List UInt8 := [32, 42, 180, 0, 11, 20, 0, 26, 131, 127, 9, 148, 154, 0, 7, 4, 167, 0, 4, 3, 172]
abbrev dktX21_worth_1 : List UInt8 := dkwX21_worth_1 ++ []
def dkwX21_worth_0 : List UInt8 := [42, 180, 0, 1, 43, 182, 0, 20, 65, 42, 180, 0, 7, 32, 20, 0, 26, 131, 127, 9, 148, 154, 0, 22]
abbrev dktX21_worth_0 : List UInt8 := dkwX21_worth_0 ++ dktX21_worth_1
theorem dksX21_worth_0 : cX21_worth.data.toList.drop 0 = dktX21_worth_0 := by decide +kernel
theorem dksX21_worth_1 : cX21_worth.data.toList.drop 24 = dktX21_worth_1 := dk_seg dksX21_worth_0 24 rfl rfl
theorem dX21_worth_0 : decode cX21_worth 0 = .ok (.aload_n 0, 1) := dk_42 (dk_at dksX21_worth_0 0 rfl rfl)
theorem dX21_worth_1 : decode cX21_worth 1 = .ok (.getfield 1, 3) := dk_180 0 1 (dk_at dksX21_worth_0 1 rfl rfl)
theorem dX21_worth_4 : decode cX21_worth 4 = .ok (.aload_n 1, 1) := dk_43 (dk_at dksX21_worth_0 4 rfl rfl)
theorem dX21_worth_5 : decode cX21_worth 5 = .ok (.invokevirtual 20, 3) := dk_182 0 20 (dk_at dksX21_worth_0 5 rfl rfl)
theorem dX21_worth_8 : decode cX21_worth 8 = .ok (.lstore_n 2, 1) := dk_65 (dk_at dksX21_worth_0 8 rfl rfl)
theorem dX21_worth_9 : decode cX21_worth 9 = .ok (.aload_n 0, 1) := dk_42 (dk_at dksX21_worth_0 9 rfl rfl)
theorem dX21_worth_10 : decode cX21_worth 10 = .ok (.getfield 7, 3) := dk_180 0 7 (dk_at dksX21_worth_0 10 rfl rfl)
theorem dX21_worth_13 : decode cX21_worth 13 = .ok (.lload_n 2, 1) := dk_32 (dk_at dksX21_worth_0 13 rfl rfl)
theorem dX21_worth_14 : decode cX21_worth 14 = .ok (.ldc2_w 26, 3) := dk_20 0 26 (dk_at dksX21_worth_0 14 rfl rfl)
theorem dX21_worth_17 : decode cX21_worth 17 = .ok (.lxor, 1) := dk_131 (dk_at dksX21_worth_0 17 rfl rfl)
theorem dX21_worth_18 : decode cX21_worth 18 = .ok (.land, 1) := dk_127 (dk_at dksX21_worth_0 18 rfl rfl)
theorem dX21_worth_19 : decode cX21_worth 19 = .ok (.lconst 0, 1) := dk_9 (dk_at dksX21_worth_0 19 rfl rfl)
theorem dX21_worth_20 : decode cX21_worth 20 = .ok (.lcmp, 1) := dk_148 (dk_at dksX21_worth_0 20 rfl rfl)
theorem dX21_worth_21 : decode cX21_worth 21 = .ok (.ifCond .ne 22, 3) := dk_154 0 22 (dk_at dksX21_worth_0 21 rfl rfl)
theorem dX21_worth_24 : decode cX21_worth 24 = .ok (.lload_n 2, 1) := dk_32 (dk_at dksX21_worth_1 0 rfl rfl)
theorem dX21_worth_25 : decode cX21_worth 25 = .ok (.aload_n 0, 1) := dk_42 (dk_at dksX21_worth_1 1 rfl rfl)
theorem dX21_worth_26 : decode cX21_worth 26 = .ok (.getfield 11, 3) := dk_180 0 11 (dk_at dksX21_worth_1 2 rfl rfl)
theorem dX21_worth_29 : decode cX21_worth 29 = .ok (.ldc2_w 26, 3) := dk_20 0 26 (dk_at dksX21_worth_1 5 rfl rfl)
theorem dX21_worth_32 : decode cX21_worth 32 = .ok (.lxor, 1) := dk_131 (dk_at dksX21_worth_1 8 rfl rfl)
theorem dX21_worth_33 : decode cX21_worth 33 = .ok (.land, 1) := dk_127 (dk_at dksX21_worth_1 9 rfl rfl)
theorem dX21_worth_34 : decode cX21_worth 34 = .ok (.lconst 0, 1) := dk_9 (dk_at dksX21_worth_1 10 rfl rfl)
theorem dX21_worth_35 : decode cX21_worth 35 = .ok (.lcmp, 1) := dk_148 (dk_at dksX21_worth_1 11 rfl rfl)
theorem dX21_worth_36 : decode cX21_worth 36 = .ok (.ifCond .ne 7, 3) := dk_154 0 7 (dk_at dksX21_worth_1 12 rfl rfl)
theorem dX21_worth_39 : decode cX21_worth 39 = .ok (.iconst 1, 1) := dk_4 (dk_at dksX21_worth_1 15 rfl rfl)
theorem dX21_worth_40 : decode cX21_worth 40 = .ok (.goto 4, 3) := dk_167 0 4 (dk_at dksX21_worth_1 16 rfl rfl)
theorem dX21_worth_43 : decode cX21_worth 43 = .ok (.iconst 0, 1) := dk_3 (dk_at dksX21_worth_1 19 rfl rfl)
theorem dX21_worth_44 : decode cX21_worth 44 = .ok (.ireturn, 1) := dk_172 (dk_at dksX21_worth_1 20 rfl rfl)
theorem q184 : (Jvm.Cond.initialized "CoarserOrders$1Between") ∈ lw_all := lw_g (lw_at lw_m1 34 rfl) rfl
theorem q1240 : (Jvm.Cond.instantiable "CoarserOrders$1Between" (4 : Nat)) ∈ lw_all := lw_g (lw_at lw_m5 130 rfl) rfl
theorem q1242 : (Jvm.Cond.instanceMethod ({ cls := "CoarserOrders$1Between", name := "<init>", desc := "(LCoarserOrders;JJ)V" } : Jvm.MethodName)) ∈ lw_all := lw_g (lw_at lw_m5 132 rfl) rfl
theorem q1243 : (Jvm.Cond.code ({ cls := "CoarserOrders$1Between", name := "<init>", desc := "(LCoarserOrders;JJ)V" } : Jvm.MethodName) prog_3_method_1_code (6 : Nat) (Option.none : Option Jvm.ClassFile.FieldType)) ∈ lw_all := lw_g (lw_at lw_m5 133 rfl) rfl
theorem q1244 : (Jvm.Cond.methodLinkNest "CoarserOrders$1Between" (14 : Nat) ({ cls := "CoarserOrders$Tally", name := "<init>", desc := "(LCoarserOrders;)V" } : Jvm.MethodName) "CoarserOrders") ∈ lw_tbl := lw_at lw_m5 134 rfl
theorem q1248 : (Jvm.Cond.fieldLink "CoarserOrders$1Between" (7 : Nat) "CoarserOrders$1Between" "val$least" "J") ∈ lw_all := lw_g (lw_at lw_m5 138 rfl) rfl
theorem q1249 : (Jvm.Cond.fieldLink "CoarserOrders$1Between" (11 : Nat) "CoarserOrders$1Between" "val$greatest" "J") ∈ lw_all := lw_g (lw_at lw_m5 139 rfl) rfl
theorem q1250 : (Jvm.Cond.fieldLink "CoarserOrders$1Between" (1 : Nat) "CoarserOrders$1Between" "this$0" "LCoarserOrders;") ∈ lw_all := lw_g (lw_at lw_m5 140 rfl) rfl
theorem q1252 : (Jvm.Cond.laysFinal "CoarserOrders$1Between" "CoarserOrders$1Between" "val$least" "J") ∈ lw_all := lw_g (lw_at lw_m5 142 rfl) rfl
theorem q1253 : (Jvm.Cond.soleField "CoarserOrders$1Between" "val$least") ∈ lw_all := lw_g (lw_at lw_m5 143 rfl) rfl
theorem q1254 : (Jvm.Cond.laysFinal "CoarserOrders$1Between" "CoarserOrders$1Between" "val$greatest" "J") ∈ lw_all := lw_g (lw_at lw_m5 144 rfl) rfl
theorem q1255 : (Jvm.Cond.soleField "CoarserOrders$1Between" "val$greatest") ∈ lw_all := lw_g (lw_at lw_m5 145 rfl) rfl
theorem q1256 : (Jvm.Cond.laysFinal "CoarserOrders$1Between" "CoarserOrders$1Between" "this$0" "LCoarserOrders;") ∈ lw_all := lw_g (lw_at lw_m5 146 rfl) rfl
theorem q1257 : (Jvm.Cond.soleField "CoarserOrders$1Between" "this$0") ∈ lw_all := lw_g (lw_at lw_m5 147 rfl) rfl
theorem q1258 : (Jvm.Cond.laysFinal "CoarserOrders$1Between" "CoarserOrders$Tally" "this$0" "LCoarserOrders;") ∈ lw_all := lw_g (lw_at lw_m5 148 rfl) rfl
theorem q1260 : (Jvm.Cond.superclass "CoarserOrders$1Between" "CoarserOrders$Tally") ∈ lw_all := lw_g (lw_at lw_m5 150 rfl) rfl
theorem q1262 : (Jvm.Cond.sameMethod "CoarserOrders$1Between" "CoarserOrders$Tally" "ofAll" "()I") ∈ lw_all := lw_g (lw_at lw_m5 152 rfl) rfl
theorem q1264 : (Jvm.Cond.selects "CoarserOrders$1Between" ({ cls := "CoarserOrders$1Between", name := "ofAll", desc := "()I" } : Jvm.MethodName) ({ cls := "CoarserOrders$Tally", name := "ofAll", desc := "()I" } : Jvm.MethodName)) ∈ lw_all := lw_g (lw_at lw_m5 154 rfl) rfl
theorem q1330 : (Jvm.Cond.selects "CoarserOrders$1Between" ({ cls := "CoarserOrders$Tally", name := "worth", desc := "([B)I" } : Jvm.MethodName) ({ cls := "CoarserOrders$1Between", name := "worth", desc := "([B)I" } : Jvm.MethodName)) ∈ lw_all := lw_g (lw_at lw_m5 220 rfl) rfl
theorem q1331 : (Jvm.Cond.instanceMethod ({ cls := "CoarserOrders$1Between", name := "worth", desc := "([B)I" } : Jvm.MethodName)) ∈ lw_all := lw_g (lw_at lw_m5 221 rfl) rfl
theorem q1332 : (Jvm.Cond.code ({ cls := "CoarserOrders$1Between", name := "worth", desc := "([B)I" } : Jvm.MethodName) prog_3_method_2_code (4 : Nat) (Option.some Jvm.ClassFile.FieldType.int)) ∈ lw_all := lw_g (lw_at lw_m5 222 rfl) rfl
theorem q1333 : (Jvm.Cond.methodLinkNest "CoarserOrders$1Between" (20 : Nat) ({ cls := "CoarserOrders", name := "swapped", desc := "([B)J" } : Jvm.MethodName) "CoarserOrders") ∈ lw_tbl := lw_at lw_m5 223 rfl
theorem q1334 : (Jvm.Cond.constantLong "CoarserOrders$1Between" (26 : Nat) (-1 : Int64)) ∈ lw_all := lw_g (lw_at lw_m5 224 rfl) rfl

abbrev cX22_init : ByteArray := prog_21_method_1_code
def yX22_init : MethodName := ⟨RX22, "<init>", "(LCoarserOrders;)V"⟩
def dkwX22_init_1 : List UInt8 := [182, 0, 19, 181, 0, 23, 177]
abbrev dktX22_init_1 : List UInt8 := dkwX22_init_1 ++ []
def dkwX22_init_0 : List UInt8 := [42, 43, 181, 0, 3, 42, 183, 0, 9, 42, 16, 6, 188, 8, 181, 0, 15, 42, 42, 180, 0, 3]
abbrev dktX22_init_0 : List UInt8 := dkwX22_init_0 ++ dktX22_init_1
theorem dksX22_init_0 : cX22_init.data.toList.drop 0 = dktX22_init_0 := by decide +kernel
theorem dksX22_init_1 : cX22_init.data.toList.drop 22 = dktX22_init_1 := dk_seg dksX22_init_0 22 rfl rfl
theorem dX22_init_0 : decode cX22_init 0 = .ok (.aload_n 0, 1) := dk_42 (dk_at dksX22_init_0 0 rfl rfl)
theorem dX22_init_1 : decode cX22_init 1 = .ok (.aload_n 1, 1) := dk_43 (dk_at dksX22_init_0 1 rfl rfl)
theorem dX22_init_2 : decode cX22_init 2 = .ok (.putfield 3, 3) := dk_181 0 3 (dk_at dksX22_init_0 2 rfl rfl)
theorem dX22_init_5 : decode cX22_init 5 = .ok (.aload_n 0, 1) := dk_42 (dk_at dksX22_init_0 5 rfl rfl)
theorem dX22_init_6 : decode cX22_init 6 = .ok (.invokespecial 9, 3) := dk_183 0 9 (dk_at dksX22_init_0 6 rfl rfl)
theorem dX22_init_9 : decode cX22_init 9 = .ok (.aload_n 0, 1) := dk_42 (dk_at dksX22_init_0 9 rfl rfl)
theorem dX22_init_10 : decode cX22_init 10 = .ok (.bipush 6, 2) := dk_16 6 (dk_at dksX22_init_0 10 rfl rfl)
theorem dX22_init_12 : decode cX22_init 12 = .ok (.newarray .byte, 2) := dk_188_8 (dk_at dksX22_init_0 12 rfl rfl)
theorem dX22_init_14 : decode cX22_init 14 = .ok (.putfield 15, 3) := dk_181 0 15 (dk_at dksX22_init_0 14 rfl rfl)
theorem dX22_init_17 : decode cX22_init 17 = .ok (.aload_n 0, 1) := dk_42 (dk_at dksX22_init_0 17 rfl rfl)
theorem dX22_init_18 : decode cX22_init 18 = .ok (.aload_n 0, 1) := dk_42 (dk_at dksX22_init_0 18 rfl rfl)
theorem dX22_init_19 : decode cX22_init 19 = .ok (.getfield 3, 3) := dk_180 0 3 (dk_at dksX22_init_0 19 rfl rfl)
theorem dX22_init_22 : decode cX22_init 22 = .ok (.invokevirtual 19, 3) := dk_182 0 19 (dk_at dksX22_init_1 0 rfl rfl)
theorem dX22_init_25 : decode cX22_init 25 = .ok (.putfield 23, 3) := dk_181 0 23 (dk_at dksX22_init_1 3 rfl rfl)
theorem dX22_init_28 : decode cX22_init 28 = .ok (.return_, 1) := dk_177 (dk_at dksX22_init_1 6 rfl rfl)
abbrev cX22_iterator : ByteArray := prog_21_method_2_code
def yX22_iterator : MethodName := ⟨RX22, "iterator", "()Ljava/util/Iterator;"⟩
def dkwX22_iterator_0 : List UInt8 := [42, 180, 0, 3, 42, 180, 0, 15, 182, 0, 27, 42, 176]
abbrev dktX22_iterator_0 : List UInt8 := dkwX22_iterator_0 ++ []
theorem dksX22_iterator_0 : cX22_iterator.data.toList.drop 0 = dktX22_iterator_0 := by decide +kernel
theorem dX22_iterator_0 : decode cX22_iterator 0 = .ok (.aload_n 0, 1) := dk_42 (dk_at dksX22_iterator_0 0 rfl rfl)
theorem dX22_iterator_1 : decode cX22_iterator 1 = .ok (.getfield 3, 3) := dk_180 0 3 (dk_at dksX22_iterator_0 1 rfl rfl)
theorem dX22_iterator_4 : decode cX22_iterator 4 = .ok (.aload_n 0, 1) := dk_42 (dk_at dksX22_iterator_0 4 rfl rfl)
theorem dX22_iterator_5 : decode cX22_iterator 5 = .ok (.getfield 15, 3) := dk_180 0 15 (dk_at dksX22_iterator_0 5 rfl rfl)
theorem dX22_iterator_8 : decode cX22_iterator 8 = .ok (.invokevirtual 27, 3) := dk_182 0 27 (dk_at dksX22_iterator_0 8 rfl rfl)
theorem dX22_iterator_11 : decode cX22_iterator 11 = .ok (.aload_n 0, 1) := dk_42 (dk_at dksX22_iterator_0 11 rfl rfl)
theorem dX22_iterator_12 : decode cX22_iterator 12 = .ok (.areturn, 1) := dk_176 (dk_at dksX22_iterator_0 12 rfl rfl)
abbrev cX22_hasNext : ByteArray := prog_21_method_3_code
def yX22_hasNext : MethodName := ⟨RX22, "hasNext", "()Z"⟩
def dkwX22_hasNext_0 : List UInt8 := [42, 180, 0, 23, 158, 0, 7, 4, 167, 0, 4, 3, 172]
abbrev dktX22_hasNext_0 : List UInt8 := dkwX22_hasNext_0 ++ []
theorem dksX22_hasNext_0 : cX22_hasNext.data.toList.drop 0 = dktX22_hasNext_0 := by decide +kernel
theorem dX22_hasNext_0 : decode cX22_hasNext 0 = .ok (.aload_n 0, 1) := dk_42 (dk_at dksX22_hasNext_0 0 rfl rfl)
theorem dX22_hasNext_1 : decode cX22_hasNext 1 = .ok (.getfield 23, 3) := dk_180 0 23 (dk_at dksX22_hasNext_0 1 rfl rfl)
theorem dX22_hasNext_4 : decode cX22_hasNext 4 = .ok (.ifCond .le 7, 3) := dk_158 0 7 (dk_at dksX22_hasNext_0 4 rfl rfl)
theorem dX22_hasNext_7 : decode cX22_hasNext 7 = .ok (.iconst 1, 1) := dk_4 (dk_at dksX22_hasNext_0 7 rfl rfl)
theorem dX22_hasNext_8 : decode cX22_hasNext 8 = .ok (.goto 4, 3) := dk_167 0 4 (dk_at dksX22_hasNext_0 8 rfl rfl)
theorem dX22_hasNext_11 : decode cX22_hasNext 11 = .ok (.iconst 0, 1) := dk_3 (dk_at dksX22_hasNext_0 11 rfl rfl)
theorem dX22_hasNext_12 : decode cX22_hasNext 12 = .ok (.ireturn, 1) := dk_172 (dk_at dksX22_hasNext_0 12 rfl rfl)
abbrev cX22_next : ByteArray := prog_21_method_5_code
def yX22_next : MethodName := ⟨RX22, "next", "()Ljava/lang/Object;"⟩
theorem dX22_next_0 : decode cX22_next 0 = .ok (.aload_n 0, 1) := by decide +kernel
theorem dX22_next_1 : decode cX22_next 1 = .ok (.invokevirtual 38, 3) := by decide +kernel
theorem dX22_next_4 : decode cX22_next 4 = .ok (.areturn, 1) := by decide +kernel
abbrev cX22_next_2 : ByteArray := prog_21_method_4_code
def yX22_next_2 : MethodName := ⟨RX22, "next", "()[B"⟩
def dkwX22_next_2_1 : List UInt8 := [89, 180, 0, 23, 4, 100, 181, 0, 23, 42, 180, 0, 15, 176]
abbrev dktX22_next_2_1 : List UInt8 := dkwX22_next_2_1 ++ []
def dkwX22_next_2_0 : List UInt8 := [42, 180, 0, 31, 153, 0, 14, 42, 180, 0, 3, 42, 180, 0, 15, 182, 0, 35, 42, 4, 181, 0, 31, 42]
abbrev dktX22_next_2_0 : List UInt8 := dkwX22_next_2_0 ++ dktX22_next_2_1
theorem dksX22_next_2_0 : cX22_next_2.data.toList.drop 0 = dktX22_next_2_0 := by decide +kernel
theorem dksX22_next_2_1 : cX22_next_2.data.toList.drop 24 = dktX22_next_2_1 := dk_seg dksX22_next_2_0 24 rfl rfl
theorem dX22_next_2_0 : decode cX22_next_2 0 = .ok (.aload_n 0, 1) := dk_42 (dk_at dksX22_next_2_0 0 rfl rfl)
theorem dX22_next_2_1 : decode cX22_next_2 1 = .ok (.getfield 31, 3) := dk_180 0 31 (dk_at dksX22_next_2_0 1 rfl rfl)
theorem dX22_next_2_4 : decode cX22_next_2 4 = .ok (.ifCond .eq 14, 3) := dk_153 0 14 (dk_at dksX22_next_2_0 4 rfl rfl)
theorem dX22_next_2_7 : decode cX22_next_2 7 = .ok (.aload_n 0, 1) := dk_42 (dk_at dksX22_next_2_0 7 rfl rfl)
theorem dX22_next_2_8 : decode cX22_next_2 8 = .ok (.getfield 3, 3) := dk_180 0 3 (dk_at dksX22_next_2_0 8 rfl rfl)
theorem dX22_next_2_11 : decode cX22_next_2 11 = .ok (.aload_n 0, 1) := dk_42 (dk_at dksX22_next_2_0 11 rfl rfl)
theorem dX22_next_2_12 : decode cX22_next_2 12 = .ok (.getfield 15, 3) := dk_180 0 15 (dk_at dksX22_next_2_0 12 rfl rfl)
theorem dX22_next_2_15 : decode cX22_next_2 15 = .ok (.invokevirtual 35, 3) := dk_182 0 35 (dk_at dksX22_next_2_0 15 rfl rfl)
theorem dX22_next_2_18 : decode cX22_next_2 18 = .ok (.aload_n 0, 1) := dk_42 (dk_at dksX22_next_2_0 18 rfl rfl)
theorem dX22_next_2_19 : decode cX22_next_2 19 = .ok (.iconst 1, 1) := dk_4 (dk_at dksX22_next_2_0 19 rfl rfl)
theorem dX22_next_2_20 : decode cX22_next_2 20 = .ok (.putfield 31, 3) := dk_181 0 31 (dk_at dksX22_next_2_0 20 rfl rfl)
theorem dX22_next_2_23 : decode cX22_next_2 23 = .ok (.aload_n 0, 1) := dk_42 (dk_at dksX22_next_2_0 23 rfl rfl)
theorem dX22_next_2_24 : decode cX22_next_2 24 = .ok (.dup, 1) := dk_89 (dk_at dksX22_next_2_1 0 rfl rfl)
theorem dX22_next_2_25 : decode cX22_next_2 25 = .ok (.getfield 23, 3) := dk_180 0 23 (dk_at dksX22_next_2_1 1 rfl rfl)
theorem dX22_next_2_28 : decode cX22_next_2 28 = .ok (.iconst 1, 1) := dk_4 (dk_at dksX22_next_2_1 4 rfl rfl)
theorem dX22_next_2_29 : decode cX22_next_2 29 = .ok (.isub, 1) := dk_100 (dk_at dksX22_next_2_1 5 rfl rfl)
theorem dX22_next_2_30 : decode cX22_next_2 30 = .ok (.putfield 23, 3) := dk_181 0 23 (dk_at dksX22_next_2_1 6 rfl rfl)
theorem dX22_next_2_33 : decode cX22_next_2 33 = .ok (.aload_n 0, 1) := dk_42 (dk_at dksX22_next_2_1 9 rfl rfl)
theorem dX22_next_2_34 : decode cX22_next_2 34 = .ok (.getfield 15, 3) := dk_180 0 15 (dk_at dksX22_next_2_1 10 rfl rfl)
theorem dX22_next_2_37 : decode cX22_next_2 37 = .ok (.areturn, 1) := dk_176 (dk_at dksX22_next_2_1 13 rfl rfl)
theorem q185 : (Jvm.Cond.initialized "CoarserOrders$Rows") ∈ lw_all := lw_g (lw_at lw_m1 35 rfl) rfl
theorem q1268 : (Jvm.Cond.instantiable "CoarserOrders$Rows" (4 : Nat)) ∈ lw_all := lw_g (lw_at lw_m5 158 rfl) rfl
theorem q1270 : (Jvm.Cond.instanceMethod ({ cls := "CoarserOrders$Rows", name := "<init>", desc := "(LCoarserOrders;)V" } : Jvm.MethodName)) ∈ lw_all := lw_g (lw_at lw_m5 160 rfl) rfl
theorem q1271 : (Jvm.Cond.code ({ cls := "CoarserOrders$Rows", name := "<init>", desc := "(LCoarserOrders;)V" } : Jvm.MethodName) prog_21_method_1_code (2 : Nat) (Option.none : Option Jvm.ClassFile.FieldType)) ∈ lw_all := lw_g (lw_at lw_m5 161 rfl) rfl
theorem q1272 : (Jvm.Cond.methodLink "CoarserOrders$Rows" (9 : Nat) ({ cls := "java/lang/Object", name := "<init>", desc := "()V" } : Jvm.MethodName)) ∈ lw_all := lw_g (lw_at lw_m5 162 rfl) rfl
theorem q1273 : (Jvm.Cond.methodLinkNest "CoarserOrders$Rows" (19 : Nat) ({ cls := "CoarserOrders", name := "manyRows", desc := "()I" } : Jvm.MethodName) "CoarserOrders") ∈ lw_tbl := lw_at lw_m5 163 rfl
theorem q1274 : (Jvm.Cond.fieldLink "CoarserOrders$Rows" (15 : Nat) "CoarserOrders$Rows" "row" "[B") ∈ lw_all := lw_g (lw_at lw_m5 164 rfl) rfl
theorem q1275 : (Jvm.Cond.fieldLink "CoarserOrders$Rows" (23 : Nat) "CoarserOrders$Rows" "left" "I") ∈ lw_all := lw_g (lw_at lw_m5 165 rfl) rfl
theorem q1276 : (Jvm.Cond.fieldLink "CoarserOrders$Rows" (31 : Nat) "CoarserOrders$Rows" "isBegun" "Z") ∈ lw_all := lw_g (lw_at lw_m5 166 rfl) rfl
theorem q1277 : (Jvm.Cond.fieldLink "CoarserOrders$Rows" (3 : Nat) "CoarserOrders$Rows" "this$0" "LCoarserOrders;") ∈ lw_all := lw_g (lw_at lw_m5 167 rfl) rfl
theorem q1278 : (Jvm.Cond.laysFinal "CoarserOrders$Rows" "CoarserOrders$Rows" "row" "[B") ∈ lw_all := lw_g (lw_at lw_m5 168 rfl) rfl
theorem q1279 : (Jvm.Cond.soleField "CoarserOrders$Rows" "row") ∈ lw_all := lw_g (lw_at lw_m5 169 rfl) rfl
theorem q1280 : (Jvm.Cond.lays "CoarserOrders$Rows" "CoarserOrders$Rows" "left" "I") ∈ lw_all := lw_g (lw_at lw_m5 170 rfl) rfl
theorem q1281 : (Jvm.Cond.soleField "CoarserOrders$Rows" "left") ∈ lw_all := lw_g (lw_at lw_m5 171 rfl) rfl
theorem q1282 : (Jvm.Cond.lays "CoarserOrders$Rows" "CoarserOrders$Rows" "isBegun" "Z") ∈ lw_all := lw_g (lw_at lw_m5 172 rfl) rfl
theorem q1283 : (Jvm.Cond.soleField "CoarserOrders$Rows" "isBegun") ∈ lw_all := lw_g (lw_at lw_m5 173 rfl) rfl
theorem q1284 : (Jvm.Cond.laysFinal "CoarserOrders$Rows" "CoarserOrders$Rows" "this$0" "LCoarserOrders;") ∈ lw_all := lw_g (lw_at lw_m5 174 rfl) rfl
theorem q1285 : (Jvm.Cond.soleField "CoarserOrders$Rows" "this$0") ∈ lw_all := lw_g (lw_at lw_m5 175 rfl) rfl
theorem q1286 : (Jvm.Cond.superclass "CoarserOrders$Rows" "java/lang/Object") ∈ lw_all := lw_g (lw_at lw_m5 176 rfl) rfl
theorem q1288 : (Jvm.Cond.instanceMethod ({ cls := "CoarserOrders$Rows", name := "iterator", desc := "()Ljava/util/Iterator;" } : Jvm.MethodName)) ∈ lw_all := lw_g (lw_at lw_m5 178 rfl) rfl
theorem q1289 : (Jvm.Cond.selects "CoarserOrders$Rows" ({ cls := "CoarserOrders$Rows", name := "iterator", desc := "()Ljava/util/Iterator;" } : Jvm.MethodName) ({ cls := "CoarserOrders$Rows", name := "iterator", desc := "()Ljava/util/Iterator;" } : Jvm.MethodName)) ∈ lw_all := lw_g (lw_at lw_m5 179 rfl) rfl
theorem q1290 : (Jvm.Cond.code ({ cls := "CoarserOrders$Rows", name := "iterator", desc := "()Ljava/util/Iterator;" } : Jvm.MethodName) prog_21_method_2_code (1 : Nat) (Option.some (Jvm.ClassFile.FieldType.object "java/util/Iterator"))) ∈ lw_all := lw_g (lw_at lw_m5 180 rfl) rfl
theorem q1291 : (Jvm.Cond.methodLinkNest "CoarserOrders$Rows" (27 : Nat) ({ cls := "CoarserOrders", name := "first", desc := "([B)V" } : Jvm.MethodName) "CoarserOrders") ∈ lw_tbl := lw_at lw_m5 181 rfl
theorem q1296 : (Jvm.Cond.castable "CoarserOrders$Rows" "java/util/Iterator") ∈ lw_tbl := lw_at lw_m5 186 rfl
theorem q1297 : (Jvm.Cond.selects "CoarserOrders$Rows" ({ cls := "java/util/Iterator", name := "hasNext", desc := "()Z" } : Jvm.MethodName) ({ cls := "CoarserOrders$Rows", name := "hasNext", desc := "()Z" } : Jvm.MethodName)) ∈ lw_all := lw_g (lw_at lw_m5 187 rfl) rfl
theorem q1298 : (Jvm.Cond.unhidden "CoarserOrders$Rows" "hasNext" "()Z") ∈ lw_tbl := lw_at lw_m5 188 rfl
theorem q1299 : (Jvm.Cond.instanceMethod ({ cls := "CoarserOrders$Rows", name := "hasNext", desc := "()Z" } : Jvm.MethodName)) ∈ lw_all := lw_g (lw_at lw_m5 189 rfl) rfl
theorem q1300 : (Jvm.Cond.publicMethod ({ cls := "CoarserOrders$Rows", name := "hasNext", desc := "()Z" } : Jvm.MethodName)) ∈ lw_tbl := lw_at lw_m5 190 rfl
theorem q1301 : (Jvm.Cond.code ({ cls := "CoarserOrders$Rows", name := "hasNext", desc := "()Z" } : Jvm.MethodName) prog_21_method_3_code (1 : Nat) (Option.some Jvm.ClassFile.FieldType.boolean)) ∈ lw_all := lw_g (lw_at lw_m5 191 rfl) rfl
theorem q1306 : (Jvm.Cond.selects "CoarserOrders$Rows" ({ cls := "java/util/Iterator", name := "next", desc := "()Ljava/lang/Object;" } : Jvm.MethodName) ({ cls := "CoarserOrders$Rows", name := "next", desc := "()Ljava/lang/Object;" } : Jvm.MethodName)) ∈ lw_all := lw_g (lw_at lw_m5 196 rfl) rfl
theorem q1307 : (Jvm.Cond.unhidden "CoarserOrders$Rows" "next" "()Ljava/lang/Object;") ∈ lw_tbl := lw_at lw_m5 197 rfl
theorem q1308 : (Jvm.Cond.instanceMethod ({ cls := "CoarserOrders$Rows", name := "next", desc := "()Ljava/lang/Object;" } : Jvm.MethodName)) ∈ lw_all := lw_g (lw_at lw_m5 198 rfl) rfl
theorem q1309 : (Jvm.Cond.publicMethod ({ cls := "CoarserOrders$Rows", name := "next", desc := "()Ljava/lang/Object;" } : Jvm.MethodName)) ∈ lw_tbl := lw_at lw_m5 199 rfl
theorem q1310 : (Jvm.Cond.code ({ cls := "CoarserOrders$Rows", name := "next", desc := "()Ljava/lang/Object;" } : Jvm.MethodName) prog_21_method_5_code (1 : Nat) (Option.some (Jvm.ClassFile.FieldType.object "java/lang/Object"))) ∈ lw_all := lw_g (lw_at lw_m5 200 rfl) rfl
theorem q1311 : (Jvm.Cond.methodLink "CoarserOrders$Rows" (38 : Nat) ({ cls := "CoarserOrders$Rows", name := "next", desc := "()[B" } : Jvm.MethodName)) ∈ lw_all := lw_g (lw_at lw_m5 201 rfl) rfl
theorem q1312 : (Jvm.Cond.instanceMethod ({ cls := "CoarserOrders$Rows", name := "next", desc := "()[B" } : Jvm.MethodName)) ∈ lw_all := lw_g (lw_at lw_m5 202 rfl) rfl
theorem q1313 : (Jvm.Cond.selects "CoarserOrders$Rows" ({ cls := "CoarserOrders$Rows", name := "next", desc := "()[B" } : Jvm.MethodName) ({ cls := "CoarserOrders$Rows", name := "next", desc := "()[B" } : Jvm.MethodName)) ∈ lw_all := lw_g (lw_at lw_m5 203 rfl) rfl
theorem q1314 : (Jvm.Cond.code ({ cls := "CoarserOrders$Rows", name := "next", desc := "()[B" } : Jvm.MethodName) prog_21_method_4_code (1 : Nat) (Option.some (Jvm.ClassFile.FieldType.array Jvm.ClassFile.FieldType.byte))) ∈ lw_all := lw_g (lw_at lw_m5 204 rfl) rfl
theorem q1315 : (Jvm.Cond.methodLinkNest "CoarserOrders$Rows" (35 : Nat) ({ cls := "CoarserOrders", name := "goesNext", desc := "([B)V" } : Jvm.MethodName) "CoarserOrders") ∈ lw_tbl := lw_at lw_m5 205 rfl

abbrev cX23_init : ByteArray := prog_13_method_1_code
def yX23_init : MethodName := ⟨RX23, "<init>", "(LCoarserOrders;)V"⟩
def dkwX23_init_2 : List UInt8 := [43, 3, 181, 0, 26, 43, 42, 180, 0, 15, 182, 0, 30, 42, 182, 0, 34, 177]
abbrev dktX23_init_2 : List UInt8 := dkwX23_init_2 ++ []
def dkwX23_init_1 : List UInt8 := [181, 0, 19, 3, 61, 28, 16, 120, 162, 0, 16, 43, 180, 0, 22, 28, 3, 84, 132, 2, 1, 167, 255, 240]
abbrev dktX23_init_1 : List UInt8 := dkwX23_init_1 ++ dktX23_init_2
def dkwX23_init_0 : List UInt8 := [42, 43, 181, 0, 3, 42, 183, 0, 9, 42, 16, 6, 188, 8, 181, 0, 15, 42, 16, 6, 188, 8]
abbrev dktX23_init_0 : List UInt8 := dkwX23_init_0 ++ dktX23_init_1
theorem dksX23_init_0 : cX23_init.data.toList.drop 0 = dktX23_init_0 := by decide +kernel
theorem dksX23_init_1 : cX23_init.data.toList.drop 22 = dktX23_init_1 := dk_seg dksX23_init_0 22 rfl rfl
theorem dksX23_init_2 : cX23_init.data.toList.drop 46 = dktX23_init_2 := dk_seg dksX23_init_1 24 rfl rfl
theorem dX23_init_0 : decode cX23_init 0 = .ok (.aload_n 0, 1) := dk_42 (dk_at dksX23_init_0 0 rfl rfl)
theorem dX23_init_1 : decode cX23_init 1 = .ok (.aload_n 1, 1) := dk_43 (dk_at dksX23_init_0 1 rfl rfl)
theorem dX23_init_2 : decode cX23_init 2 = .ok (.putfield 3, 3) := dk_181 0 3 (dk_at dksX23_init_0 2 rfl rfl)
theorem dX23_init_5 : decode cX23_init 5 = .ok (.aload_n 0, 1) := dk_42 (dk_at dksX23_init_0 5 rfl rfl)
theorem dX23_init_6 : decode cX23_init 6 = .ok (.invokespecial 9, 3) := dk_183 0 9 (dk_at dksX23_init_0 6 rfl rfl)
theorem dX23_init_9 : decode cX23_init 9 = .ok (.aload_n 0, 1) := dk_42 (dk_at dksX23_init_0 9 rfl rfl)
theorem dX23_init_10 : decode cX23_init 10 = .ok (.bipush 6, 2) := dk_16 6 (dk_at dksX23_init_0 10 rfl rfl)
theorem dX23_init_12 : decode cX23_init 12 = .ok (.newarray .byte, 2) := dk_188_8 (dk_at dksX23_init_0 12 rfl rfl)
theorem dX23_init_14 : decode cX23_init 14 = .ok (.putfield 15, 3) := dk_181 0 15 (dk_at dksX23_init_0 14 rfl rfl)
theorem dX23_init_17 : decode cX23_init 17 = .ok (.aload_n 0, 1) := dk_42 (dk_at dksX23_init_0 17 rfl rfl)
theorem dX23_init_18 : decode cX23_init 18 = .ok (.bipush 6, 2) := dk_16 6 (dk_at dksX23_init_0 18 rfl rfl)
theorem dX23_init_20 : decode cX23_init 20 = .ok (.newarray .byte, 2) := dk_188_8 (dk_at dksX23_init_0 20 rfl rfl)
theorem dX23_init_22 : decode cX23_init 22 = .ok (.putfield 19, 3) := dk_181 0 19 (dk_at dksX23_init_1 0 rfl rfl)
theorem dX23_init_25 : decode cX23_init 25 = .ok (.iconst 0, 1) := dk_3 (dk_at dksX23_init_1 3 rfl rfl)
theorem dX23_init_26 : decode cX23_init 26 = .ok (.istore_n 2, 1) := dk_61 (dk_at dksX23_init_1 4 rfl rfl)
theorem dX23_init_27 : decode cX23_init 27 = .ok (.iload_n 2, 1) := dk_28 (dk_at dksX23_init_1 5 rfl rfl)
theorem dX23_init_28 : decode cX23_init 28 = .ok (.bipush 120, 2) := dk_16 120 (dk_at dksX23_init_1 6 rfl rfl)
theorem dX23_init_30 : decode cX23_init 30 = .ok (.if_icmp .ge 16, 3) := dk_162 0 16 (dk_at dksX23_init_1 8 rfl rfl)
theorem dX23_init_33 : decode cX23_init 33 = .ok (.aload_n 1, 1) := dk_43 (dk_at dksX23_init_1 11 rfl rfl)
theorem dX23_init_34 : decode cX23_init 34 = .ok (.getfield 22, 3) := dk_180 0 22 (dk_at dksX23_init_1 12 rfl rfl)
theorem dX23_init_37 : decode cX23_init 37 = .ok (.iload_n 2, 1) := dk_28 (dk_at dksX23_init_1 15 rfl rfl)
theorem dX23_init_38 : decode cX23_init 38 = .ok (.iconst 0, 1) := dk_3 (dk_at dksX23_init_1 16 rfl rfl)
theorem dX23_init_39 : decode cX23_init 39 = .ok (.bastore, 1) := dk_84 (dk_at dksX23_init_1 17 rfl rfl)
theorem dX23_init_40 : decode cX23_init 40 = .ok (.iinc 2 1, 3) := dk_132 2 1 (dk_at dksX23_init_1 18 rfl rfl)
theorem dX23_init_43 : decode cX23_init 43 = .ok (.goto (-16), 3) := dk_167 255 240 (dk_at dksX23_init_1 21 rfl rfl)
theorem dX23_init_46 : decode cX23_init 46 = .ok (.aload_n 1, 1) := dk_43 (dk_at dksX23_init_2 0 rfl rfl)
theorem dX23_init_47 : decode cX23_init 47 = .ok (.iconst 0, 1) := dk_3 (dk_at dksX23_init_2 1 rfl rfl)
theorem dX23_init_48 : decode cX23_init 48 = .ok (.putfield 26, 3) := dk_181 0 26 (dk_at dksX23_init_2 2 rfl rfl)
theorem dX23_init_51 : decode cX23_init 51 = .ok (.aload_n 1, 1) := dk_43 (dk_at dksX23_init_2 5 rfl rfl)
theorem dX23_init_52 : decode cX23_init 52 = .ok (.aload_n 0, 1) := dk_42 (dk_at dksX23_init_2 6 rfl rfl)
theorem dX23_init_53 : decode cX23_init 53 = .ok (.getfield 15, 3) := dk_180 0 15 (dk_at dksX23_init_2 7 rfl rfl)
theorem dX23_init_56 : decode cX23_init 56 = .ok (.invokevirtual 30, 3) := dk_182 0 30 (dk_at dksX23_init_2 10 rfl rfl)
theorem dX23_init_59 : decode cX23_init 59 = .ok (.aload_n 0, 1) := dk_42 (dk_at dksX23_init_2 13 rfl rfl)
theorem dX23_init_60 : decode cX23_init 60 = .ok (.invokevirtual 34, 3) := dk_182 0 34 (dk_at dksX23_init_2 14 rfl rfl)
theorem dX23_init_63 : decode cX23_init 63 = .ok (.return_, 1) := dk_177 (dk_at dksX23_init_2 17 rfl rfl)
abbrev cX23_lists : ByteArray := prog_13_method_2_code
def yX23_lists : MethodName := ⟨RX23, "lists", "()V"⟩
def dkwX23_lists_2 : List UInt8 := [42, 180, 0, 3, 89, 180, 0, 26, 4, 96, 181, 0, 26, 177]
abbrev dktX23_lists_2 : List UInt8 := dkwX23_lists_2 ++ []
def dkwX23_lists_1 : List UInt8 := [182, 0, 41, 79, 42, 180, 0, 3, 180, 0, 22, 42, 180, 0, 3, 42, 180, 0, 15, 182, 0, 45, 4, 84]
abbrev dktX23_lists_1 : List UInt8 := dkwX23_lists_1 ++ dktX23_lists_2
def dkwX23_lists_0 : List UInt8 := [42, 180, 0, 3, 180, 0, 37, 42, 180, 0, 3, 180, 0, 26, 42, 180, 0, 3, 42, 180, 0, 15]
abbrev dktX23_lists_0 : List UInt8 := dkwX23_lists_0 ++ dktX23_lists_1
theorem dksX23_lists_0 : cX23_lists.data.toList.drop 0 = dktX23_lists_0 := by decide +kernel
theorem dksX23_lists_1 : cX23_lists.data.toList.drop 22 = dktX23_lists_1 := dk_seg dksX23_lists_0 22 rfl rfl
theorem dksX23_lists_2 : cX23_lists.data.toList.drop 46 = dktX23_lists_2 := dk_seg dksX23_lists_1 24 rfl rfl
theorem dX23_lists_0 : decode cX23_lists 0 = .ok (.aload_n 0, 1) := dk_42 (dk_at dksX23_lists_0 0 rfl rfl)
theorem dX23_lists_1 : decode cX23_lists 1 = .ok (.getfield 3, 3) := dk_180 0 3 (dk_at dksX23_lists_0 1 rfl rfl)
theorem dX23_lists_4 : decode cX23_lists 4 = .ok (.getfield 37, 3) := dk_180 0 37 (dk_at dksX23_lists_0 4 rfl rfl)
theorem dX23_lists_7 : decode cX23_lists 7 = .ok (.aload_n 0, 1) := dk_42 (dk_at dksX23_lists_0 7 rfl rfl)
theorem dX23_lists_8 : decode cX23_lists 8 = .ok (.getfield 3, 3) := dk_180 0 3 (dk_at dksX23_lists_0 8 rfl rfl)
theorem dX23_lists_11 : decode cX23_lists 11 = .ok (.getfield 26, 3) := dk_180 0 26 (dk_at dksX23_lists_0 11 rfl rfl)
theorem dX23_lists_14 : decode cX23_lists 14 = .ok (.aload_n 0, 1) := dk_42 (dk_at dksX23_lists_0 14 rfl rfl)
theorem dX23_lists_15 : decode cX23_lists 15 = .ok (.getfield 3, 3) := dk_180 0 3 (dk_at dksX23_lists_0 15 rfl rfl)
theorem dX23_lists_18 : decode cX23_lists 18 = .ok (.aload_n 0, 1) := dk_42 (dk_at dksX23_lists_0 18 rfl rfl)
theorem dX23_lists_19 : decode cX23_lists 19 = .ok (.getfield 15, 3) := dk_180 0 15 (dk_at dksX23_lists_0 19 rfl rfl)
theorem dX23_lists_22 : decode cX23_lists 22 = .ok (.invokevirtual 41, 3) := dk_182 0 41 (dk_at dksX23_lists_1 0 rfl rfl)
theorem dX23_lists_25 : decode cX23_lists 25 = .ok (.iastore, 1) := dk_79 (dk_at dksX23_lists_1 3 rfl rfl)
theorem dX23_lists_26 : decode cX23_lists 26 = .ok (.aload_n 0, 1) := dk_42 (dk_at dksX23_lists_1 4 rfl rfl)
theorem dX23_lists_27 : decode cX23_lists 27 = .ok (.getfield 3, 3) := dk_180 0 3 (dk_at dksX23_lists_1 5 rfl rfl)
theorem dX23_lists_30 : decode cX23_lists 30 = .ok (.getfield 22, 3) := dk_180 0 22 (dk_at dksX23_lists_1 8 rfl rfl)
theorem dX23_lists_33 : decode cX23_lists 33 = .ok (.aload_n 0, 1) := dk_42 (dk_at dksX23_lists_1 11 rfl rfl)
theorem dX23_lists_34 : decode cX23_lists 34 = .ok (.getfield 3, 3) := dk_180 0 3 (dk_at dksX23_lists_1 12 rfl rfl)
theorem dX23_lists_37 : decode cX23_lists 37 = .ok (.aload_n 0, 1) := dk_42 (dk_at dksX23_lists_1 15 rfl rfl)
theorem dX23_lists_38 : decode cX23_lists 38 = .ok (.getfield 15, 3) := dk_180 0 15 (dk_at dksX23_lists_1 16 rfl rfl)
theorem dX23_lists_41 : decode cX23_lists 41 = .ok (.invokevirtual 45, 3) := dk_182 0 45 (dk_at dksX23_lists_1 19 rfl rfl)
theorem dX23_lists_44 : decode cX23_lists 44 = .ok (.iconst 1, 1) := dk_4 (dk_at dksX23_lists_1 22 rfl rfl)
theorem dX23_lists_45 : decode cX23_lists 45 = .ok (.bastore, 1) := dk_84 (dk_at dksX23_lists_1 23 rfl rfl)
theorem dX23_lists_46 : decode cX23_lists 46 = .ok (.aload_n 0, 1) := dk_42 (dk_at dksX23_lists_2 0 rfl rfl)
theorem dX23_lists_47 : decode cX23_lists 47 = .ok (.getfield 3, 3) := dk_180 0 3 (dk_at dksX23_lists_2 1 rfl rfl)
theorem dX23_lists_50 : decode cX23_lists 50 = .ok (.dup, 1) := dk_89 (dk_at dksX23_lists_2 4 rfl rfl)
theorem dX23_lists_51 : decode cX23_lists 51 = .ok (.getfield 26, 3) := dk_180 0 26 (dk_at dksX23_lists_2 5 rfl rfl)
theorem dX23_lists_54 : decode cX23_lists 54 = .ok (.iconst 1, 1) := dk_4 (dk_at dksX23_lists_2 8 rfl rfl)
theorem dX23_lists_55 : decode cX23_lists 55 = .ok (.iadd, 1) := dk_96 (dk_at dksX23_lists_2 9 rfl rfl)
theorem dX23_lists_56 : decode cX23_lists 56 = .ok (.putfield 26, 3) := dk_181 0 26 (dk_at dksX23_lists_2 10 rfl rfl)
theorem dX23_lists_59 : decode cX23_lists 59 = .ok (.return_, 1) := dk_177 (dk_at dksX23_lists_2 13 rfl rfl)
abbrev cX23_goesOn : ByteArray := prog_13_method_4_code
def yX23_goesOn : MethodName := ⟨RX23, "goesOn", "(II)Z"⟩
def dkwX23_goesOn_2 : List UInt8 := [42, 182, 0, 34, 4, 172]
abbrev dktX23_goesOn_2 : List UInt8 := dkwX23_goesOn_2 ++ []
def dkwX23_goesOn_1 : List UInt8 := [182, 0, 45, 51, 153, 0, 5, 3, 172, 42, 180, 0, 3, 42, 180, 0, 19, 42, 180, 0, 15, 182, 0, 81]
abbrev dktX23_goesOn_1 : List UInt8 := dkwX23_goesOn_1 ++ dktX23_goesOn_2
def dkwX23_goesOn_0 : List UInt8 := [42, 27, 28, 182, 0, 77, 153, 0, 25, 42, 180, 0, 3, 180, 0, 22, 42, 180, 0, 3, 42, 180, 0, 19]
abbrev dktX23_goesOn_0 : List UInt8 := dkwX23_goesOn_0 ++ dktX23_goesOn_1
theorem dksX23_goesOn_0 : cX23_goesOn.data.toList.drop 0 = dktX23_goesOn_0 := by decide +kernel
theorem dksX23_goesOn_1 : cX23_goesOn.data.toList.drop 24 = dktX23_goesOn_1 := dk_seg dksX23_goesOn_0 24 rfl rfl
theorem dksX23_goesOn_2 : cX23_goesOn.data.toList.drop 48 = dktX23_goesOn_2 := dk_seg dksX23_goesOn_1 24 rfl rfl
theorem dX23_goesOn_0 : decode cX23_goesOn 0 = .ok (.aload_n 0, 1) := dk_42 (dk_at dksX23_goesOn_0 0 rfl rfl)
theorem dX23_goesOn_1 : decode cX23_goesOn 1 = .ok (.iload_n 1, 1) := dk_27 (dk_at dksX23_goesOn_0 1 rfl rfl)
theorem dX23_goesOn_2 : decode cX23_goesOn 2 = .ok (.iload_n 2, 1) := dk_28 (dk_at dksX23_goesOn_0 2 rfl rfl)
theorem dX23_goesOn_3 : decode cX23_goesOn 3 = .ok (.invokevirtual 77, 3) := dk_182 0 77 (dk_at dksX23_goesOn_0 3 rfl rfl)
theorem dX23_goesOn_6 : decode cX23_goesOn 6 = .ok (.ifCond .eq 25, 3) := dk_153 0 25 (dk_at dksX23_goesOn_0 6 rfl rfl)
theorem dX23_goesOn_9 : decode cX23_goesOn 9 = .ok (.aload_n 0, 1) := dk_42 (dk_at dksX23_goesOn_0 9 rfl rfl)
theorem dX23_goesOn_10 : decode cX23_goesOn 10 = .ok (.getfield 3, 3) := dk_180 0 3 (dk_at dksX23_goesOn_0 10 rfl rfl)
theorem dX23_goesOn_13 : decode cX23_goesOn 13 = .ok (.getfield 22, 3) := dk_180 0 22 (dk_at dksX23_goesOn_0 13 rfl rfl)
theorem dX23_goesOn_16 : decode cX23_goesOn 16 = .ok (.aload_n 0, 1) := dk_42 (dk_at dksX23_goesOn_0 16 rfl rfl)
theorem dX23_goesOn_17 : decode cX23_goesOn 17 = .ok (.getfield 3, 3) := dk_180 0 3 (dk_at dksX23_goesOn_0 17 rfl rfl)
theorem dX23_goesOn_20 : decode cX23_goesOn 20 = .ok (.aload_n 0, 1) := dk_42 (dk_at dksX23_goesOn_0 20 rfl rfl)
theorem dX23_goesOn_21 : decode cX23_goesOn 21 = .ok (.getfield 19, 3) := dk_180 0 19 (dk_at dksX23_goesOn_0 21 rfl rfl)
theorem dX23_goesOn_24 : decode cX23_goesOn 24 = .ok (.invokevirtual 45, 3) := dk_182 0 45 (dk_at dksX23_goesOn_1 0 rfl rfl)
theorem dX23_goesOn_27 : decode cX23_goesOn 27 = .ok (.baload, 1) := dk_51 (dk_at dksX23_goesOn_1 3 rfl rfl)
theorem dX23_goesOn_28 : decode cX23_goesOn 28 = .ok (.ifCond .eq 5, 3) := dk_153 0 5 (dk_at dksX23_goesOn_1 4 rfl rfl)
theorem dX23_goesOn_31 : decode cX23_goesOn 31 = .ok (.iconst 0, 1) := dk_3 (dk_at dksX23_goesOn_1 7 rfl rfl)
theorem dX23_goesOn_32 : decode cX23_goesOn 32 = .ok (.ireturn, 1) := dk_172 (dk_at dksX23_goesOn_1 8 rfl rfl)
theorem dX23_goesOn_33 : decode cX23_goesOn 33 = .ok (.aload_n 0, 1) := dk_42 (dk_at dksX23_goesOn_1 9 rfl rfl)
theorem dX23_goesOn_34 : decode cX23_goesOn 34 = .ok (.getfield 3, 3) := dk_180 0 3 (dk_at dksX23_goesOn_1 10 rfl rfl)
theorem dX23_goesOn_37 : decode cX23_goesOn 37 = .ok (.aload_n 0, 1) := dk_42 (dk_at dksX23_goesOn_1 13 rfl rfl)
theorem dX23_goesOn_38 : decode cX23_goesOn 38 = .ok (.getfield 19, 3) := dk_180 0 19 (dk_at dksX23_goesOn_1 14 rfl rfl)
theorem dX23_goesOn_41 : decode cX23_goesOn 41 = .ok (.aload_n 0, 1) := dk_42 (dk_at dksX23_goesOn_1 17 rfl rfl)
theorem dX23_goesOn_42 : decode cX23_goesOn 42 = .ok (.getfield 15, 3) := dk_180 0 15 (dk_at dksX23_goesOn_1 18 rfl rfl)
theorem dX23_goesOn_45 : decode cX23_goesOn 45 = .ok (.invokevirtual 81, 3) := dk_182 0 81 (dk_at dksX23_goesOn_1 21 rfl rfl)
theorem dX23_goesOn_48 : decode cX23_goesOn 48 = .ok (.aload_n 0, 1) := dk_42 (dk_at dksX23_goesOn_2 0 rfl rfl)
theorem dX23_goesOn_49 : decode cX23_goesOn 49 = .ok (.invokevirtual 34, 3) := dk_182 0 34 (dk_at dksX23_goesOn_2 1 rfl rfl)
theorem dX23_goesOn_52 : decode cX23_goesOn 52 = .ok (.iconst 1, 1) := dk_4 (dk_at dksX23_goesOn_2 4 rfl rfl)
theorem dX23_goesOn_53 : decode cX23_goesOn 53 = .ok (.ireturn, 1) := dk_172 (dk_at dksX23_goesOn_2 5 rfl rfl)
abbrev cX23_looks : ByteArray := prog_13_method_3_code
def yX23_looks : MethodName := ⟨RX23, "looks", "(II)Z"⟩
def dkwX23_looks_3 : List UInt8 := [180, 0, 19, 182, 0, 73, 153, 0, 5, 4, 172, 21, 4, 28, 96, 54, 4, 167, 255, 180, 3, 172]
abbrev dktX23_looks_3 : List UInt8 := dkwX23_looks_3 ++ []
def dkwX23_looks_2 : List UInt8 := [42, 180, 0, 3, 42, 180, 0, 15, 29, 21, 4, 42, 180, 0, 19, 182, 0, 69, 42, 180, 0, 3, 42]
abbrev dktX23_looks_2 : List UInt8 := dkwX23_looks_2 ++ dktX23_looks_3
def dkwX23_looks_1 : List UInt8 := [180, 0, 56, 4, 100, 184, 0, 61, 153, 0, 59, 42, 180, 0, 15, 29, 21, 4, 184, 0, 65, 153, 0, 46]
abbrev dktX23_looks_1 : List UInt8 := dkwX23_looks_1 ++ dktX23_looks_2
def dkwX23_looks_0 : List UInt8 := [42, 180, 0, 15, 27, 184, 0, 48, 62, 28, 54, 4, 29, 21, 4, 96, 3, 42, 180, 0, 3, 180, 0, 52]
abbrev dktX23_looks_0 : List UInt8 := dkwX23_looks_0 ++ dktX23_looks_1
theorem dksX23_looks_0 : cX23_looks.data.toList.drop 0 = dktX23_looks_0 := by decide +kernel
theorem dksX23_looks_1 : cX23_looks.data.toList.drop 24 = dktX23_looks_1 := dk_seg dksX23_looks_0 24 rfl rfl
theorem dksX23_looks_2 : cX23_looks.data.toList.drop 48 = dktX23_looks_2 := dk_seg dksX23_looks_1 24 rfl rfl
theorem dksX23_looks_3 : cX23_looks.data.toList.drop 71 = dktX23_looks_3 := dk_seg dksX23_looks_2 23 rfl rfl
theorem dX23_looks_0 : decode cX23_looks 0 = .ok (.aload_n 0, 1) := dk_42 (dk_at dksX23_looks_0 0 rfl rfl)
theorem dX23_looks_1 : decode cX23_looks 1 = .ok (.getfield 15, 3) := dk_180 0 15 (dk_at dksX23_looks_0 1 rfl rfl)
theorem dX23_looks_4 : decode cX23_looks 4 = .ok (.iload_n 1, 1) := dk_27 (dk_at dksX23_looks_0 4 rfl rfl)
theorem dX23_looks_5 : decode cX23_looks 5 = .ok (.invokestatic 48, 3) := dk_184 0 48 (dk_at dksX23_looks_0 5 rfl rfl)
theorem dX23_looks_8 : decode cX23_looks 8 = .ok (.istore_n 3, 1) := dk_62 (dk_at dksX23_looks_0 8 rfl rfl)
theorem dX23_looks_9 : decode cX23_looks 9 = .ok (.iload_n 2, 1) := dk_28 (dk_at dksX23_looks_0 9 rfl rfl)
theorem dX23_looks_10 : decode cX23_looks 10 = .ok (.istore 4, 2) := dk_54 4 (dk_at dksX23_looks_0 10 rfl rfl)
theorem dX23_looks_12 : decode cX23_looks 12 = .ok (.iload_n 3, 1) := dk_29 (dk_at dksX23_looks_0 12 rfl rfl)
theorem dX23_looks_13 : decode cX23_looks 13 = .ok (.iload 4, 2) := dk_21 4 (dk_at dksX23_looks_0 13 rfl rfl)
theorem dX23_looks_15 : decode cX23_looks 15 = .ok (.iadd, 1) := dk_96 (dk_at dksX23_looks_0 15 rfl rfl)
theorem dX23_looks_16 : decode cX23_looks 16 = .ok (.iconst 0, 1) := dk_3 (dk_at dksX23_looks_0 16 rfl rfl)
theorem dX23_looks_17 : decode cX23_looks 17 = .ok (.aload_n 0, 1) := dk_42 (dk_at dksX23_looks_0 17 rfl rfl)
theorem dX23_looks_18 : decode cX23_looks 18 = .ok (.getfield 3, 3) := dk_180 0 3 (dk_at dksX23_looks_0 18 rfl rfl)
theorem dX23_looks_21 : decode cX23_looks 21 = .ok (.getfield 52, 3) := dk_180 0 52 (dk_at dksX23_looks_0 21 rfl rfl)
theorem dX23_looks_24 : decode cX23_looks 24 = .ok (.getfield 56, 3) := dk_180 0 56 (dk_at dksX23_looks_1 0 rfl rfl)
theorem dX23_looks_27 : decode cX23_looks 27 = .ok (.iconst 1, 1) := dk_4 (dk_at dksX23_looks_1 3 rfl rfl)
theorem dX23_looks_28 : decode cX23_looks 28 = .ok (.isub, 1) := dk_100 (dk_at dksX23_looks_1 4 rfl rfl)
theorem dX23_looks_29 : decode cX23_looks 29 = .ok (.invokestatic 61, 3) := dk_184 0 61 (dk_at dksX23_looks_1 5 rfl rfl)
theorem dX23_looks_32 : decode cX23_looks 32 = .ok (.ifCond .eq 59, 3) := dk_153 0 59 (dk_at dksX23_looks_1 8 rfl rfl)
theorem dX23_looks_35 : decode cX23_looks 35 = .ok (.aload_n 0, 1) := dk_42 (dk_at dksX23_looks_1 11 rfl rfl)
theorem dX23_looks_36 : decode cX23_looks 36 = .ok (.getfield 15, 3) := dk_180 0 15 (dk_at dksX23_looks_1 12 rfl rfl)
theorem dX23_looks_39 : decode cX23_looks 39 = .ok (.iload_n 3, 1) := dk_29 (dk_at dksX23_looks_1 15 rfl rfl)
theorem dX23_looks_40 : decode cX23_looks 40 = .ok (.iload 4, 2) := dk_21 4 (dk_at dksX23_looks_1 16 rfl rfl)
theorem dX23_looks_42 : decode cX23_looks 42 = .ok (.invokestatic 65, 3) := dk_184 0 65 (dk_at dksX23_looks_1 18 rfl rfl)
theorem dX23_looks_45 : decode cX23_looks 45 = .ok (.ifCond .eq 46, 3) := dk_153 0 46 (dk_at dksX23_looks_1 21 rfl rfl)
theorem dX23_looks_48 : decode cX23_looks 48 = .ok (.aload_n 0, 1) := dk_42 (dk_at dksX23_looks_2 0 rfl rfl)
theorem dX23_looks_49 : decode cX23_looks 49 = .ok (.getfield 3, 3) := dk_180 0 3 (dk_at dksX23_looks_2 1 rfl rfl)
theorem dX23_looks_52 : decode cX23_looks 52 = .ok (.aload_n 0, 1) := dk_42 (dk_at dksX23_looks_2 4 rfl rfl)
theorem dX23_looks_53 : decode cX23_looks 53 = .ok (.getfield 15, 3) := dk_180 0 15 (dk_at dksX23_looks_2 5 rfl rfl)
theorem dX23_looks_56 : decode cX23_looks 56 = .ok (.iload_n 3, 1) := dk_29 (dk_at dksX23_looks_2 8 rfl rfl)
theorem dX23_looks_57 : decode cX23_looks 57 = .ok (.iload 4, 2) := dk_21 4 (dk_at dksX23_looks_2 9 rfl rfl)
theorem dX23_looks_59 : decode cX23_looks 59 = .ok (.aload_n 0, 1) := dk_42 (dk_at dksX23_looks_2 11 rfl rfl)
theorem dX23_looks_60 : decode cX23_looks 60 = .ok (.getfield 19, 3) := dk_180 0 19 (dk_at dksX23_looks_2 12 rfl rfl)
theorem dX23_looks_63 : decode cX23_looks 63 = .ok (.invokevirtual 69, 3) := dk_182 0 69 (dk_at dksX23_looks_2 15 rfl rfl)
theorem dX23_looks_66 : decode cX23_looks 66 = .ok (.aload_n 0, 1) := dk_42 (dk_at dksX23_looks_2 18 rfl rfl)
theorem dX23_looks_67 : decode cX23_looks 67 = .ok (.getfield 3, 3) := dk_180 0 3 (dk_at dksX23_looks_2 19 rfl rfl)
theorem dX23_looks_70 : decode cX23_looks 70 = .ok (.aload_n 0, 1) := dk_42 (dk_at dksX23_looks_2 22 rfl rfl)
theorem dX23_looks_71 : decode cX23_looks 71 = .ok (.getfield 19, 3) := dk_180 0 19 (dk_at dksX23_looks_3 0 rfl rfl)
theorem dX23_looks_74 : decode cX23_looks 74 = .ok (.invokevirtual 73, 3) := dk_182 0 73 (dk_at dksX23_looks_3 3 rfl rfl)
theorem dX23_looks_77 : decode cX23_looks 77 = .ok (.ifCond .eq 5, 3) := dk_153 0 5 (dk_at dksX23_looks_3 6 rfl rfl)
theorem dX23_looks_80 : decode cX23_looks 80 = .ok (.iconst 1, 1) := dk_4 (dk_at dksX23_looks_3 9 rfl rfl)
theorem dX23_looks_81 : decode cX23_looks 81 = .ok (.ireturn, 1) := dk_172 (dk_at dksX23_looks_3 10 rfl rfl)
theorem dX23_looks_82 : decode cX23_looks 82 = .ok (.iload 4, 2) := dk_21 4 (dk_at dksX23_looks_3 11 rfl rfl)
theorem dX23_looks_84 : decode cX23_looks 84 = .ok (.iload_n 2, 1) := dk_28 (dk_at dksX23_looks_3 13 rfl rfl)
theorem dX23_looks_85 : decode cX23_looks 85 = .ok (.iadd, 1) := dk_96 (dk_at dksX23_looks_3 14 rfl rfl)
theorem dX23_looks_86 : decode cX23_looks 86 = .ok (.istore 4, 2) := dk_54 4 (dk_at dksX23_looks_3 15 rfl rfl)
theorem dX23_looks_88 : decode cX23_looks 88 = .ok (.goto (-76), 3) := dk_167 255 180 (dk_at dksX23_looks_3 17 rfl rfl)
theorem dX23_looks_91 : decode cX23_looks 91 = .ok (.iconst 0, 1) := dk_3 (dk_at dksX23_looks_3 20 rfl rfl)
theorem dX23_looks_92 : decode cX23_looks 92 = .ok (.ireturn, 1) := dk_172 (dk_at dksX23_looks_3 21 rfl rfl)
theorem q186 : (Jvm.Cond.initialized "CoarserOrders$Lister") ∈ lw_all := lw_g (lw_at lw_m1 36 rfl) rfl
theorem q320 : (Jvm.Cond.fieldLinkNest "CoarserOrders$Lister" (56 : Nat) "CoarserOrders$Order" "n" "I" "CoarserOrders") ∈ lw_tbl := lw_at lw_m1 170 rfl
theorem q472 : (Jvm.Cond.fieldLinkNest "CoarserOrders$Lister" (52 : Nat) "CoarserOrders" "now" "LCoarserOrders$Order;" "CoarserOrders") ∈ lw_tbl := lw_at lw_m2 82 rfl
theorem q495 : (Jvm.Cond.fieldLinkNest "CoarserOrders$Lister" (37 : Nat) "CoarserOrders" "list" "[I" "CoarserOrders") ∈ lw_tbl := lw_at lw_m2 105 rfl
theorem q497 : (Jvm.Cond.fieldLinkNest "CoarserOrders$Lister" (22 : Nat) "CoarserOrders" "isListed" "[Z" "CoarserOrders") ∈ lw_tbl := lw_at lw_m2 107 rfl
theorem q499 : (Jvm.Cond.fieldLinkNest "CoarserOrders$Lister" (26 : Nat) "CoarserOrders" "listMany" "I" "CoarserOrders") ∈ lw_tbl := lw_at lw_m2 109 rfl
theorem q1406 : (Jvm.Cond.instantiable "CoarserOrders$Lister" (3 : Nat)) ∈ lw_all := lw_g (lw_at lw_m6 56 rfl) rfl
theorem q1408 : (Jvm.Cond.instanceMethod ({ cls := "CoarserOrders$Lister", name := "<init>", desc := "(LCoarserOrders;)V" } : Jvm.MethodName)) ∈ lw_all := lw_g (lw_at lw_m6 58 rfl) rfl
theorem q1409 : (Jvm.Cond.code ({ cls := "CoarserOrders$Lister", name := "<init>", desc := "(LCoarserOrders;)V" } : Jvm.MethodName) prog_13_method_1_code (3 : Nat) (Option.none : Option Jvm.ClassFile.FieldType)) ∈ lw_all := lw_g (lw_at lw_m6 59 rfl) rfl
theorem q1410 : (Jvm.Cond.methodLink "CoarserOrders$Lister" (9 : Nat) ({ cls := "java/lang/Object", name := "<init>", desc := "()V" } : Jvm.MethodName)) ∈ lw_all := lw_g (lw_at lw_m6 60 rfl) rfl
theorem q1411 : (Jvm.Cond.methodLinkNest "CoarserOrders$Lister" (30 : Nat) ({ cls := "CoarserOrders", name := "first", desc := "([B)V" } : Jvm.MethodName) "CoarserOrders") ∈ lw_tbl := lw_at lw_m6 61 rfl
theorem q1412 : (Jvm.Cond.methodLink "CoarserOrders$Lister" (34 : Nat) ({ cls := "CoarserOrders$Lister", name := "lists", desc := "()V" } : Jvm.MethodName)) ∈ lw_all := lw_g (lw_at lw_m6 62 rfl) rfl
theorem q1413 : (Jvm.Cond.privateMethod ({ cls := "CoarserOrders$Lister", name := "lists", desc := "()V" } : Jvm.MethodName)) ∈ lw_tbl := lw_at lw_m6 63 rfl
theorem q1414 : (Jvm.Cond.instanceMethod ({ cls := "CoarserOrders$Lister", name := "lists", desc := "()V" } : Jvm.MethodName)) ∈ lw_all := lw_g (lw_at lw_m6 64 rfl) rfl
theorem q1415 : (Jvm.Cond.code ({ cls := "CoarserOrders$Lister", name := "lists", desc := "()V" } : Jvm.MethodName) prog_13_method_2_code (1 : Nat) (Option.none : Option Jvm.ClassFile.FieldType)) ∈ lw_all := lw_g (lw_at lw_m6 65 rfl) rfl
theorem q1416 : (Jvm.Cond.methodLinkNest "CoarserOrders$Lister" (41 : Nat) ({ cls := "CoarserOrders", name := "told", desc := "([B)I" } : Jvm.MethodName) "CoarserOrders") ∈ lw_tbl := lw_at lw_m6 66 rfl
theorem q1417 : (Jvm.Cond.methodLinkNest "CoarserOrders$Lister" (45 : Nat) ({ cls := "CoarserOrders", name := "rankOf", desc := "([B)I" } : Jvm.MethodName) "CoarserOrders") ∈ lw_tbl := lw_at lw_m6 67 rfl
theorem q1418 : (Jvm.Cond.fieldLink "CoarserOrders$Lister" (15 : Nat) "CoarserOrders$Lister" "row" "[B") ∈ lw_all := lw_g (lw_at lw_m6 68 rfl) rfl
theorem q1419 : (Jvm.Cond.fieldLink "CoarserOrders$Lister" (19 : Nat) "CoarserOrders$Lister" "ahead" "[B") ∈ lw_all := lw_g (lw_at lw_m6 69 rfl) rfl
theorem q1420 : (Jvm.Cond.fieldLink "CoarserOrders$Lister" (3 : Nat) "CoarserOrders$Lister" "this$0" "LCoarserOrders;") ∈ lw_all := lw_g (lw_at lw_m6 70 rfl) rfl
theorem q1421 : (Jvm.Cond.laysFinal "CoarserOrders$Lister" "CoarserOrders$Lister" "row" "[B") ∈ lw_all := lw_g (lw_at lw_m6 71 rfl) rfl
theorem q1422 : (Jvm.Cond.soleField "CoarserOrders$Lister" "row") ∈ lw_all := lw_g (lw_at lw_m6 72 rfl) rfl
theorem q1423 : (Jvm.Cond.laysFinal "CoarserOrders$Lister" "CoarserOrders$Lister" "ahead" "[B") ∈ lw_all := lw_g (lw_at lw_m6 73 rfl) rfl
theorem q1424 : (Jvm.Cond.soleField "CoarserOrders$Lister" "ahead") ∈ lw_all := lw_g (lw_at lw_m6 74 rfl) rfl
theorem q1425 : (Jvm.Cond.laysFinal "CoarserOrders$Lister" "CoarserOrders$Lister" "this$0" "LCoarserOrders;") ∈ lw_all := lw_g (lw_at lw_m6 75 rfl) rfl
theorem q1426 : (Jvm.Cond.soleField "CoarserOrders$Lister" "this$0") ∈ lw_all := lw_g (lw_at lw_m6 76 rfl) rfl
theorem q1427 : (Jvm.Cond.superclass "CoarserOrders$Lister" "java/lang/Object") ∈ lw_all := lw_g (lw_at lw_m6 77 rfl) rfl
theorem q1429 : (Jvm.Cond.instanceMethod ({ cls := "CoarserOrders$Lister", name := "goesOn", desc := "(II)Z" } : Jvm.MethodName)) ∈ lw_all := lw_g (lw_at lw_m6 79 rfl) rfl
theorem q1430 : (Jvm.Cond.selects "CoarserOrders$Lister" ({ cls := "CoarserOrders$Lister", name := "goesOn", desc := "(II)Z" } : Jvm.MethodName) ({ cls := "CoarserOrders$Lister", name := "goesOn", desc := "(II)Z" } : Jvm.MethodName)) ∈ lw_all := lw_g (lw_at lw_m6 80 rfl) rfl
theorem q1431 : (Jvm.Cond.code ({ cls := "CoarserOrders$Lister", name := "goesOn", desc := "(II)Z" } : Jvm.MethodName) prog_13_method_4_code (3 : Nat) (Option.some Jvm.ClassFile.FieldType.boolean)) ∈ lw_all := lw_g (lw_at lw_m6 81 rfl) rfl
theorem q1432 : (Jvm.Cond.methodLink "CoarserOrders$Lister" (77 : Nat) ({ cls := "CoarserOrders$Lister", name := "looks", desc := "(II)Z" } : Jvm.MethodName)) ∈ lw_all := lw_g (lw_at lw_m6 82 rfl) rfl
theorem q1433 : (Jvm.Cond.privateMethod ({ cls := "CoarserOrders$Lister", name := "looks", desc := "(II)Z" } : Jvm.MethodName)) ∈ lw_tbl := lw_at lw_m6 83 rfl
theorem q1434 : (Jvm.Cond.instanceMethod ({ cls := "CoarserOrders$Lister", name := "looks", desc := "(II)Z" } : Jvm.MethodName)) ∈ lw_all := lw_g (lw_at lw_m6 84 rfl) rfl
theorem q1435 : (Jvm.Cond.code ({ cls := "CoarserOrders$Lister", name := "looks", desc := "(II)Z" } : Jvm.MethodName) prog_13_method_3_code (5 : Nat) (Option.some Jvm.ClassFile.FieldType.boolean)) ∈ lw_all := lw_g (lw_at lw_m6 85 rfl) rfl
theorem q1436 : (Jvm.Cond.methodLinkNest "CoarserOrders$Lister" (48 : Nat) ({ cls := "CoarserOrders", name := "placeOf", desc := "([BI)I" } : Jvm.MethodName) "CoarserOrders") ∈ lw_tbl := lw_at lw_m6 86 rfl
theorem q1437 : (Jvm.Cond.methodLinkNest "CoarserOrders$Lister" (61 : Nat) ({ cls := "CoarserOrders", name := "isIn", desc := "(III)Z" } : Jvm.MethodName) "CoarserOrders") ∈ lw_tbl := lw_at lw_m6 87 rfl
theorem q1438 : (Jvm.Cond.methodLinkNest "CoarserOrders$Lister" (65 : Nat) ({ cls := "CoarserOrders", name := "mayPass", desc := "([BII)Z" } : Jvm.MethodName) "CoarserOrders") ∈ lw_tbl := lw_at lw_m6 88 rfl
theorem q1439 : (Jvm.Cond.methodLinkNest "CoarserOrders$Lister" (69 : Nat) ({ cls := "CoarserOrders", name := "jumps", desc := "([BII[B)V" } : Jvm.MethodName) "CoarserOrders") ∈ lw_tbl := lw_at lw_m6 89 rfl
theorem q1440 : (Jvm.Cond.methodLinkNest "CoarserOrders$Lister" (73 : Nat) ({ cls := "CoarserOrders", name := "isLeast", desc := "([B)Z" } : Jvm.MethodName) "CoarserOrders") ∈ lw_tbl := lw_at lw_m6 90 rfl
theorem q1441 : (Jvm.Cond.methodLinkNest "CoarserOrders$Lister" (81 : Nat) ({ cls := "CoarserOrders", name := "copy", desc := "([B[B)V" } : Jvm.MethodName) "CoarserOrders") ∈ lw_tbl := lw_at lw_m6 91 rfl

abbrev cX24_init : ByteArray := prog_26_method_1_code
def yX24_init : MethodName := ⟨RX24, "<init>", "(I)V"⟩
def dkwX24_init_0 : List UInt8 := [42, 183, 0, 1, 42, 27, 181, 0, 7, 177]
abbrev dktX24_init_0 : List UInt8 := dkwX24_init_0 ++ []
theorem dksX24_init_0 : cX24_init.data.toList.drop 0 = dktX24_init_0 := by decide +kernel
theorem dX24_init_0 : decode cX24_init 0 = .ok (.aload_n 0, 1) := dk_42 (dk_at dksX24_init_0 0 rfl rfl)
theorem dX24_init_1 : decode cX24_init 1 = .ok (.invokespecial 1, 3) := dk_183 0 1 (dk_at dksX24_init_0 1 rfl rfl)
theorem dX24_init_4 : decode cX24_init 4 = .ok (.aload_n 0, 1) := dk_42 (dk_at dksX24_init_0 4 rfl rfl)
theorem dX24_init_5 : decode cX24_init 5 = .ok (.iload_n 1, 1) := dk_27 (dk_at dksX24_init_0 5 rfl rfl)
theorem dX24_init_6 : decode cX24_init 6 = .ok (.putfield 7, 3) := dk_181 0 7 (dk_at dksX24_init_0 6 rfl rfl)
theorem dX24_init_9 : decode cX24_init 9 = .ok (.return_, 1) := dk_177 (dk_at dksX24_init_0 9 rfl rfl)
theorem q191 : (Jvm.Cond.initialized "CoarserOrders$Ticket") ∈ lw_all := lw_g (lw_at lw_m1 41 rfl) rfl
theorem q1629 : (Jvm.Cond.instantiable "CoarserOrders$Ticket" (1 : Nat)) ∈ lw_all := lw_g (lw_at lw_m7 39 rfl) rfl
theorem q1631 : (Jvm.Cond.instanceMethod ({ cls := "CoarserOrders$Ticket", name := "<init>", desc := "(I)V" } : Jvm.MethodName)) ∈ lw_all := lw_g (lw_at lw_m7 41 rfl) rfl
theorem q1632 : (Jvm.Cond.code ({ cls := "CoarserOrders$Ticket", name := "<init>", desc := "(I)V" } : Jvm.MethodName) prog_26_method_1_code (2 : Nat) (Option.none : Option Jvm.ClassFile.FieldType)) ∈ lw_all := lw_g (lw_at lw_m7 42 rfl) rfl
theorem q1633 : (Jvm.Cond.methodLink "CoarserOrders$Ticket" (1 : Nat) ({ cls := "java/lang/Object", name := "<init>", desc := "()V" } : Jvm.MethodName)) ∈ lw_all := lw_g (lw_at lw_m7 43 rfl) rfl
theorem q1634 : (Jvm.Cond.fieldLink "CoarserOrders$Ticket" (7 : Nat) "CoarserOrders$Ticket" "number" "I") ∈ lw_all := lw_g (lw_at lw_m7 44 rfl) rfl
theorem q1636 : (Jvm.Cond.laysFinal "CoarserOrders$Ticket" "CoarserOrders$Ticket" "number" "I") ∈ lw_all := lw_g (lw_at lw_m7 46 rfl) rfl
theorem q1637 : (Jvm.Cond.soleField "CoarserOrders$Ticket" "number") ∈ lw_all := lw_g (lw_at lw_m7 47 rfl) rfl
theorem q1638 : (Jvm.Cond.superclass "CoarserOrders$Ticket" "java/lang/Object") ∈ lw_all := lw_g (lw_at lw_m7 48 rfl) rfl

-- two fields of one name: no nmX25
abbrev cX25_worth : ByteArray := prog_2_method_2_code
def yX25_worth : MethodName := ⟨RX25, "worth", "([B)I"⟩
def dkwX25_worth_0 : List UInt8 := [42, 180, 0, 1, 43, 182, 0, 13, 153, 0, 7, 4, 167, 0, 4, 3, 172]
abbrev dktX25_worth_0 : List UInt8 := dkwX25_worth_0 ++ []
theorem dksX25_worth_0 : cX25_worth.data.toList.drop 0 = dktX25_worth_0 := by decide +kernel
theorem dX25_worth_0 : decode cX25_worth 0 = .ok (.aload_n 0, 1) := dk_42 (dk_at dksX25_worth_0 0 rfl rfl)
theorem dX25_worth_1 : decode cX25_worth 1 = .ok (.getfield 1, 3) := dk_180 0 1 (dk_at dksX25_worth_0 1 rfl rfl)
theorem dX25_worth_4 : decode cX25_worth 4 = .ok (.aload_n 1, 1) := dk_43 (dk_at dksX25_worth_0 4 rfl rfl)
theorem dX25_worth_5 : decode cX25_worth 5 = .ok (.invokevirtual 13, 3) := dk_182 0 13 (dk_at dksX25_worth_0 5 rfl rfl)
theorem dX25_worth_8 : decode cX25_worth 8 = .ok (.ifCond .eq 7, 3) := dk_153 0 7 (dk_at dksX25_worth_0 8 rfl rfl)
theorem dX25_worth_11 : decode cX25_worth 11 = .ok (.iconst 1, 1) := dk_4 (dk_at dksX25_worth_0 11 rfl rfl)
theorem dX25_worth_12 : decode cX25_worth 12 = .ok (.goto 4, 3) := dk_167 0 4 (dk_at dksX25_worth_0 12 rfl rfl)
theorem dX25_worth_15 : decode cX25_worth 15 = .ok (.iconst 0, 1) := dk_3 (dk_at dksX25_worth_0 15 rfl rfl)
theorem dX25_worth_16 : decode cX25_worth 16 = .ok (.ireturn, 1) := dk_172 (dk_at dksX25_worth_0 16 rfl rfl)
abbrev cX25_init : ByteArray := prog_2_method_1_code
def yX25_init : MethodName := ⟨RX25, "<init>", "(LCoarserOrders;)V"⟩
def dkwX25_init_0 : List UInt8 := [42, 43, 181, 0, 1, 42, 43, 183, 0, 7, 177]
abbrev dktX25_init_0 : List UInt8 := dkwX25_init_0 ++ []
theorem dksX25_init_0 : cX25_init.data.toList.drop 0 = dktX25_init_0 := by decide +kernel
theorem dX25_init_0 : decode cX25_init 0 = .ok (.aload_n 0, 1) := dk_42 (dk_at dksX25_init_0 0 rfl rfl)
theorem dX25_init_1 : decode cX25_init 1 = .ok (.aload_n 1, 1) := dk_43 (dk_at dksX25_init_0 1 rfl rfl)
theorem dX25_init_2 : decode cX25_init 2 = .ok (.putfield 1, 3) := dk_181 0 1 (dk_at dksX25_init_0 2 rfl rfl)
theorem dX25_init_5 : decode cX25_init 5 = .ok (.aload_n 0, 1) := dk_42 (dk_at dksX25_init_0 5 rfl rfl)
theorem dX25_init_6 : decode cX25_init 6 = .ok (.aload_n 1, 1) := dk_43 (dk_at dksX25_init_0 6 rfl rfl)
theorem dX25_init_7 : decode cX25_init 7 = .ok (.invokespecial 7, 3) := dk_183 0 7 (dk_at dksX25_init_0 7 rfl rfl)
theorem dX25_init_10 : decode cX25_init 10 = .ok (.return_, 1) := dk_177 (dk_at dksX25_init_0 10 rfl rfl)
theorem q193 : (Jvm.Cond.initialized "CoarserOrders$1") ∈ lw_all := lw_g (lw_at lw_m1 43 rfl) rfl
theorem q1323 : (Jvm.Cond.selects "CoarserOrders$1" ({ cls := "CoarserOrders$Tally", name := "worth", desc := "([B)I" } : Jvm.MethodName) ({ cls := "CoarserOrders$1", name := "worth", desc := "([B)I" } : Jvm.MethodName)) ∈ lw_all := lw_g (lw_at lw_m5 213 rfl) rfl
theorem q1324 : (Jvm.Cond.instanceMethod ({ cls := "CoarserOrders$1", name := "worth", desc := "([B)I" } : Jvm.MethodName)) ∈ lw_all := lw_g (lw_at lw_m5 214 rfl) rfl
theorem q1325 : (Jvm.Cond.code ({ cls := "CoarserOrders$1", name := "worth", desc := "([B)I" } : Jvm.MethodName) prog_2_method_2_code (2 : Nat) (Option.some Jvm.ClassFile.FieldType.int)) ∈ lw_all := lw_g (lw_at lw_m5 215 rfl) rfl
theorem q1326 : (Jvm.Cond.methodLinkNest "CoarserOrders$1" (13 : Nat) ({ cls := "CoarserOrders", name := "isLeast", desc := "([B)Z" } : Jvm.MethodName) "CoarserOrders") ∈ lw_tbl := lw_at lw_m5 216 rfl
theorem q1862 : (Jvm.Cond.instantiable "CoarserOrders$1" (2 : Nat)) ∈ lw_all := lw_g (lw_at lw_m8 32 rfl) rfl
theorem q1864 : (Jvm.Cond.instanceMethod ({ cls := "CoarserOrders$1", name := "<init>", desc := "(LCoarserOrders;)V" } : Jvm.MethodName)) ∈ lw_all := lw_g (lw_at lw_m8 34 rfl) rfl
theorem q1865 : (Jvm.Cond.code ({ cls := "CoarserOrders$1", name := "<init>", desc := "(LCoarserOrders;)V" } : Jvm.MethodName) prog_2_method_1_code (2 : Nat) (Option.none : Option Jvm.ClassFile.FieldType)) ∈ lw_all := lw_g (lw_at lw_m8 35 rfl) rfl
theorem q1866 : (Jvm.Cond.methodLinkNest "CoarserOrders$1" (7 : Nat) ({ cls := "CoarserOrders$Tally", name := "<init>", desc := "(LCoarserOrders;)V" } : Jvm.MethodName) "CoarserOrders") ∈ lw_tbl := lw_at lw_m8 36 rfl
theorem q1867 : (Jvm.Cond.fieldLink "CoarserOrders$1" (1 : Nat) "CoarserOrders$1" "this$0" "LCoarserOrders;") ∈ lw_all := lw_g (lw_at lw_m8 37 rfl) rfl
theorem q1868 : (Jvm.Cond.laysFinal "CoarserOrders$1" "CoarserOrders$1" "this$0" "LCoarserOrders;") ∈ lw_all := lw_g (lw_at lw_m8 38 rfl) rfl
theorem q1869 : (Jvm.Cond.soleField "CoarserOrders$1" "this$0") ∈ lw_all := lw_g (lw_at lw_m8 39 rfl) rfl
theorem q1870 : (Jvm.Cond.laysFinal "CoarserOrders$1" "CoarserOrders$Tally" "this$0" "LCoarserOrders;") ∈ lw_all := lw_g (lw_at lw_m8 40 rfl) rfl
theorem q1871 : (Jvm.Cond.superclass "CoarserOrders$1" "CoarserOrders$Tally") ∈ lw_all := lw_g (lw_at lw_m8 41 rfl) rfl
theorem q1873 : (Jvm.Cond.sameMethod "CoarserOrders$1" "CoarserOrders$Tally" "ofAll" "()I") ∈ lw_all := lw_g (lw_at lw_m8 43 rfl) rfl
theorem q1874 : (Jvm.Cond.selects "CoarserOrders$1" ({ cls := "CoarserOrders$1", name := "ofAll", desc := "()I" } : Jvm.MethodName) ({ cls := "CoarserOrders$Tally", name := "ofAll", desc := "()I" } : Jvm.MethodName)) ∈ lw_all := lw_g (lw_at lw_m8 44 rfl) rfl

-- two fields of one name: no nmX26
abbrev cX26_worth : ByteArray := prog_4_method_2_code
def yX26_worth : MethodName := ⟨RX26, "worth", "([B)I"⟩
def dkwX26_worth_1 : List UInt8 := [167, 0, 4, 3, 172]
abbrev dktX26_worth_1 : List UInt8 := dkwX26_worth_1 ++ []
def dkwX26_worth_0 : List UInt8 := [42, 180, 0, 1, 43, 182, 0, 13, 153, 0, 17, 42, 180, 0, 1, 43, 182, 0, 19, 184, 0, 23]
abbrev dktX26_worth_0 : List UInt8 := dkwX26_worth_0 ++ dktX26_worth_1
theorem dksX26_worth_0 : cX26_worth.data.toList.drop 0 = dktX26_worth_0 := by decide +kernel
theorem dksX26_worth_1 : cX26_worth.data.toList.drop 22 = dktX26_worth_1 := dk_seg dksX26_worth_0 22 rfl rfl
theorem dX26_worth_0 : decode cX26_worth 0 = .ok (.aload_n 0, 1) := dk_42 (dk_at dksX26_worth_0 0 rfl rfl)
theorem dX26_worth_1 : decode cX26_worth 1 = .ok (.getfield 1, 3) := dk_180 0 1 (dk_at dksX26_worth_0 1 rfl rfl)
theorem dX26_worth_4 : decode cX26_worth 4 = .ok (.aload_n 1, 1) := dk_43 (dk_at dksX26_worth_0 4 rfl rfl)
theorem dX26_worth_5 : decode cX26_worth 5 = .ok (.invokevirtual 13, 3) := dk_182 0 13 (dk_at dksX26_worth_0 5 rfl rfl)
theorem dX26_worth_8 : decode cX26_worth 8 = .ok (.ifCond .eq 17, 3) := dk_153 0 17 (dk_at dksX26_worth_0 8 rfl rfl)
theorem dX26_worth_11 : decode cX26_worth 11 = .ok (.aload_n 0, 1) := dk_42 (dk_at dksX26_worth_0 11 rfl rfl)
theorem dX26_worth_12 : decode cX26_worth 12 = .ok (.getfield 1, 3) := dk_180 0 1 (dk_at dksX26_worth_0 12 rfl rfl)
theorem dX26_worth_15 : decode cX26_worth 15 = .ok (.aload_n 1, 1) := dk_43 (dk_at dksX26_worth_0 15 rfl rfl)
theorem dX26_worth_16 : decode cX26_worth 16 = .ok (.invokevirtual 19, 3) := dk_182 0 19 (dk_at dksX26_worth_0 16 rfl rfl)
theorem dX26_worth_19 : decode cX26_worth 19 = .ok (.invokestatic 23, 3) := dk_184 0 23 (dk_at dksX26_worth_0 19 rfl rfl)
theorem dX26_worth_22 : decode cX26_worth 22 = .ok (.goto 4, 3) := dk_167 0 4 (dk_at dksX26_worth_1 0 rfl rfl)
theorem dX26_worth_25 : decode cX26_worth 25 = .ok (.iconst 0, 1) := dk_3 (dk_at dksX26_worth_1 3 rfl rfl)
theorem dX26_worth_26 : decode cX26_worth 26 = .ok (.ireturn, 1) := dk_172 (dk_at dksX26_worth_1 4 rfl rfl)
abbrev cX26_init : ByteArray := prog_4_method_1_code
def yX26_init : MethodName := ⟨RX26, "<init>", "(LCoarserOrders;)V"⟩
def dkwX26_init_0 : List UInt8 := [42, 43, 181, 0, 1, 42, 43, 183, 0, 7, 177]
abbrev dktX26_init_0 : List UInt8 := dkwX26_init_0 ++ []
theorem dksX26_init_0 : cX26_init.data.toList.drop 0 = dktX26_init_0 := by decide +kernel
theorem dX26_init_0 : decode cX26_init 0 = .ok (.aload_n 0, 1) := dk_42 (dk_at dksX26_init_0 0 rfl rfl)
theorem dX26_init_1 : decode cX26_init 1 = .ok (.aload_n 1, 1) := dk_43 (dk_at dksX26_init_0 1 rfl rfl)
theorem dX26_init_2 : decode cX26_init 2 = .ok (.putfield 1, 3) := dk_181 0 1 (dk_at dksX26_init_0 2 rfl rfl)
theorem dX26_init_5 : decode cX26_init 5 = .ok (.aload_n 0, 1) := dk_42 (dk_at dksX26_init_0 5 rfl rfl)
theorem dX26_init_6 : decode cX26_init 6 = .ok (.aload_n 1, 1) := dk_43 (dk_at dksX26_init_0 6 rfl rfl)
theorem dX26_init_7 : decode cX26_init 7 = .ok (.invokespecial 7, 3) := dk_183 0 7 (dk_at dksX26_init_0 7 rfl rfl)
theorem dX26_init_10 : decode cX26_init 10 = .ok (.return_, 1) := dk_177 (dk_at dksX26_init_0 10 rfl rfl)
theorem q194 : (Jvm.Cond.initialized "CoarserOrders$2") ∈ lw_all := lw_g (lw_at lw_m1 44 rfl) rfl
theorem q1335 : (Jvm.Cond.selects "CoarserOrders$2" ({ cls := "CoarserOrders$Tally", name := "worth", desc := "([B)I" } : Jvm.MethodName) ({ cls := "CoarserOrders$2", name := "worth", desc := "([B)I" } : Jvm.MethodName)) ∈ lw_all := lw_g (lw_at lw_m5 225 rfl) rfl
theorem q1336 : (Jvm.Cond.instanceMethod ({ cls := "CoarserOrders$2", name := "worth", desc := "([B)I" } : Jvm.MethodName)) ∈ lw_all := lw_g (lw_at lw_m5 226 rfl) rfl
theorem q1337 : (Jvm.Cond.code ({ cls := "CoarserOrders$2", name := "worth", desc := "([B)I" } : Jvm.MethodName) prog_4_method_2_code (2 : Nat) (Option.some Jvm.ClassFile.FieldType.int)) ∈ lw_all := lw_g (lw_at lw_m5 227 rfl) rfl
theorem q1338 : (Jvm.Cond.methodLinkNest "CoarserOrders$2" (13 : Nat) ({ cls := "CoarserOrders", name := "isLeast", desc := "([B)Z" } : Jvm.MethodName) "CoarserOrders") ∈ lw_tbl := lw_at lw_m5 228 rfl
theorem q1339 : (Jvm.Cond.methodLinkNest "CoarserOrders$2" (19 : Nat) ({ cls := "CoarserOrders", name := "dropSet", desc := "([B)I" } : Jvm.MethodName) "CoarserOrders") ∈ lw_tbl := lw_at lw_m5 229 rfl
theorem q1340 : (Jvm.Cond.methodLink "CoarserOrders$2" (23 : Nat) ({ cls := "java/lang/Integer", name := "bitCount", desc := "(I)I" } : Jvm.MethodName)) ∈ lw_all := lw_g (lw_at lw_m5 230 rfl) rfl
theorem q1880 : (Jvm.Cond.instantiable "CoarserOrders$2" (2 : Nat)) ∈ lw_all := lw_g (lw_at lw_m8 50 rfl) rfl
theorem q1882 : (Jvm.Cond.instanceMethod ({ cls := "CoarserOrders$2", name := "<init>", desc := "(LCoarserOrders;)V" } : Jvm.MethodName)) ∈ lw_all := lw_g (lw_at lw_m8 52 rfl) rfl
theorem q1883 : (Jvm.Cond.code ({ cls := "CoarserOrders$2", name := "<init>", desc := "(LCoarserOrders;)V" } : Jvm.MethodName) prog_4_method_1_code (2 : Nat) (Option.none : Option Jvm.ClassFile.FieldType)) ∈ lw_all := lw_g (lw_at lw_m8 53 rfl) rfl
theorem q1884 : (Jvm.Cond.methodLinkNest "CoarserOrders$2" (7 : Nat) ({ cls := "CoarserOrders$Tally", name := "<init>", desc := "(LCoarserOrders;)V" } : Jvm.MethodName) "CoarserOrders") ∈ lw_tbl := lw_at lw_m8 54 rfl
theorem q1885 : (Jvm.Cond.fieldLink "CoarserOrders$2" (1 : Nat) "CoarserOrders$2" "this$0" "LCoarserOrders;") ∈ lw_all := lw_g (lw_at lw_m8 55 rfl) rfl
theorem q1886 : (Jvm.Cond.laysFinal "CoarserOrders$2" "CoarserOrders$2" "this$0" "LCoarserOrders;") ∈ lw_all := lw_g (lw_at lw_m8 56 rfl) rfl
theorem q1887 : (Jvm.Cond.soleField "CoarserOrders$2" "this$0") ∈ lw_all := lw_g (lw_at lw_m8 57 rfl) rfl
theorem q1888 : (Jvm.Cond.laysFinal "CoarserOrders$2" "CoarserOrders$Tally" "this$0" "LCoarserOrders;") ∈ lw_all := lw_g (lw_at lw_m8 58 rfl) rfl
theorem q1889 : (Jvm.Cond.superclass "CoarserOrders$2" "CoarserOrders$Tally") ∈ lw_all := lw_g (lw_at lw_m8 59 rfl) rfl
theorem q1891 : (Jvm.Cond.sameMethod "CoarserOrders$2" "CoarserOrders$Tally" "ofAll" "()I") ∈ lw_all := lw_g (lw_at lw_m8 61 rfl) rfl
theorem q1892 : (Jvm.Cond.selects "CoarserOrders$2" ({ cls := "CoarserOrders$2", name := "ofAll", desc := "()I" } : Jvm.MethodName) ({ cls := "CoarserOrders$Tally", name := "ofAll", desc := "()I" } : Jvm.MethodName)) ∈ lw_all := lw_g (lw_at lw_m8 62 rfl) rfl

abbrev cX27_turns : ByteArray := prog_28_method_3_code
def yX27_turns : MethodName := ⟨RX27, "turns", "(ILCoarserOrders$Trace;)I"⟩
def dkwX27_turns_0 : List UInt8 := [44, 16, 10, 182, 0, 1, 27, 8, 104, 42, 185, 0, 7, 1, 0, 96, 172]
abbrev dktX27_turns_0 : List UInt8 := dkwX27_turns_0 ++ []
theorem dksX27_turns_0 : cX27_turns.data.toList.drop 0 = dktX27_turns_0 := by decide +kernel
theorem dX27_turns_0 : decode cX27_turns 0 = .ok (.aload_n 2, 1) := dk_44 (dk_at dksX27_turns_0 0 rfl rfl)
theorem dX27_turns_1 : decode cX27_turns 1 = .ok (.bipush 10, 2) := dk_16 10 (dk_at dksX27_turns_0 1 rfl rfl)
theorem dX27_turns_3 : decode cX27_turns 3 = .ok (.invokevirtual 1, 3) := dk_182 0 1 (dk_at dksX27_turns_0 3 rfl rfl)
theorem dX27_turns_6 : decode cX27_turns 6 = .ok (.iload_n 1, 1) := dk_27 (dk_at dksX27_turns_0 6 rfl rfl)
theorem dX27_turns_7 : decode cX27_turns 7 = .ok (.iconst 5, 1) := dk_8 (dk_at dksX27_turns_0 7 rfl rfl)
theorem dX27_turns_8 : decode cX27_turns 8 = .ok (.imul, 1) := dk_104 (dk_at dksX27_turns_0 8 rfl rfl)
theorem dX27_turns_9 : decode cX27_turns 9 = .ok (.aload_n 0, 1) := dk_42 (dk_at dksX27_turns_0 9 rfl rfl)
theorem dX27_turns_10 : decode cX27_turns 10 = .ok (.invokeinterface 7 1, 5) := by decide +kernel
theorem dX27_turns_15 : decode cX27_turns 15 = .ok (.iadd, 1) := dk_96 (dk_at dksX27_turns_0 15 rfl rfl)
theorem dX27_turns_16 : decode cX27_turns 16 = .ok (.ireturn, 1) := dk_172 (dk_at dksX27_turns_0 16 rfl rfl)
theorem q1687 : (Jvm.Cond.declares ({ cls := "CoarserOrders$Turns", name := "turns", desc := "(ILCoarserOrders$Trace;)I" } : Jvm.MethodName)) ∈ lw_tbl := lw_at lw_m7 97 rfl
theorem q1698 : (Jvm.Cond.instanceMethod ({ cls := "CoarserOrders$Turns", name := "turns", desc := "(ILCoarserOrders$Trace;)I" } : Jvm.MethodName)) ∈ lw_all := lw_g (lw_at lw_m7 108 rfl) rfl
theorem q1699 : (Jvm.Cond.code ({ cls := "CoarserOrders$Turns", name := "turns", desc := "(ILCoarserOrders$Trace;)I" } : Jvm.MethodName) prog_28_method_3_code (3 : Nat) (Option.some Jvm.ClassFile.FieldType.int)) ∈ lw_all := lw_g (lw_at lw_m7 109 rfl) rfl
theorem q1700 : (Jvm.Cond.methodLink "CoarserOrders$Turns" (1 : Nat) ({ cls := "CoarserOrders$Trace", name := "ran", desc := "(I)V" } : Jvm.MethodName)) ∈ lw_all := lw_g (lw_at lw_m7 110 rfl) rfl
theorem q1701 : (Jvm.Cond.interfaceEntry "CoarserOrders$Turns" (7 : Nat)) ∈ lw_tbl := lw_at lw_m7 111 rfl
theorem q1702 : (Jvm.Cond.methodLink "CoarserOrders$Turns" (7 : Nat) ({ cls := "CoarserOrders$Turns", name := "number", desc := "()I" } : Jvm.MethodName)) ∈ lw_all := lw_g (lw_at lw_m7 112 rfl) rfl
theorem q1703 : (Jvm.Cond.interfaceMethod "CoarserOrders$Turns" "CoarserOrders$Turns" "number" "()I") ∈ lw_tbl := lw_at lw_m7 113 rfl
theorem q1704 : (Jvm.Cond.declares ({ cls := "CoarserOrders$Turns", name := "number", desc := "()I" } : Jvm.MethodName)) ∈ lw_tbl := lw_at lw_m7 114 rfl
theorem q1726 : (Jvm.Cond.publicMethod ({ cls := "CoarserOrders$Turns", name := "turns", desc := "(ILCoarserOrders$Trace;)I" } : Jvm.MethodName)) ∈ lw_tbl := lw_at lw_m7 136 rfl
theorem q1757 : (Jvm.Cond.declares ({ cls := "CoarserOrders$Turns", name := "mark", desc := "()I" } : Jvm.MethodName)) ∈ lw_tbl := lw_at lw_m7 167 rfl

abbrev cX28_bends : ByteArray := prog_8_method_1_code
def yX28_bends : MethodName := ⟨RX28, "bends", "(ILCoarserOrders$Trace;)I"⟩
def dkwX28_bends_0 : List UInt8 := [44, 16, 11, 182, 0, 1, 42, 27, 44, 185, 0, 7, 3, 0, 42, 185, 0, 13, 1, 0, 100, 172]
abbrev dktX28_bends_0 : List UInt8 := dkwX28_bends_0 ++ []
theorem dksX28_bends_0 : cX28_bends.data.toList.drop 0 = dktX28_bends_0 := by decide +kernel
theorem dX28_bends_0 : decode cX28_bends 0 = .ok (.aload_n 2, 1) := dk_44 (dk_at dksX28_bends_0 0 rfl rfl)
theorem dX28_bends_1 : decode cX28_bends 1 = .ok (.bipush 11, 2) := dk_16 11 (dk_at dksX28_bends_0 1 rfl rfl)
theorem dX28_bends_3 : decode cX28_bends 3 = .ok (.invokevirtual 1, 3) := dk_182 0 1 (dk_at dksX28_bends_0 3 rfl rfl)
theorem dX28_bends_6 : decode cX28_bends 6 = .ok (.aload_n 0, 1) := dk_42 (dk_at dksX28_bends_0 6 rfl rfl)
theorem dX28_bends_7 : decode cX28_bends 7 = .ok (.iload_n 1, 1) := dk_27 (dk_at dksX28_bends_0 7 rfl rfl)
theorem dX28_bends_8 : decode cX28_bends 8 = .ok (.aload_n 2, 1) := dk_44 (dk_at dksX28_bends_0 8 rfl rfl)
theorem dX28_bends_9 : decode cX28_bends 9 = .ok (.invokeinterface 7 3, 5) := by decide +kernel
theorem dX28_bends_14 : decode cX28_bends 14 = .ok (.aload_n 0, 1) := dk_42 (dk_at dksX28_bends_0 14 rfl rfl)
theorem dX28_bends_15 : decode cX28_bends 15 = .ok (.invokeinterface 13 1, 5) := by decide +kernel
theorem dX28_bends_20 : decode cX28_bends 20 = .ok (.isub, 1) := dk_100 (dk_at dksX28_bends_0 20 rfl rfl)
theorem dX28_bends_21 : decode cX28_bends 21 = .ok (.ireturn, 1) := dk_172 (dk_at dksX28_bends_0 21 rfl rfl)
theorem q1743 : (Jvm.Cond.declares ({ cls := "CoarserOrders$Bends", name := "bends", desc := "(ILCoarserOrders$Trace;)I" } : Jvm.MethodName)) ∈ lw_tbl := lw_at lw_m7 153 rfl
theorem q1745 : (Jvm.Cond.instanceMethod ({ cls := "CoarserOrders$Bends", name := "bends", desc := "(ILCoarserOrders$Trace;)I" } : Jvm.MethodName)) ∈ lw_all := lw_g (lw_at lw_m7 155 rfl) rfl
theorem q1746 : (Jvm.Cond.publicMethod ({ cls := "CoarserOrders$Bends", name := "bends", desc := "(ILCoarserOrders$Trace;)I" } : Jvm.MethodName)) ∈ lw_tbl := lw_at lw_m7 156 rfl
theorem q1747 : (Jvm.Cond.code ({ cls := "CoarserOrders$Bends", name := "bends", desc := "(ILCoarserOrders$Trace;)I" } : Jvm.MethodName) prog_8_method_1_code (3 : Nat) (Option.some Jvm.ClassFile.FieldType.int)) ∈ lw_all := lw_g (lw_at lw_m7 157 rfl) rfl
theorem q1748 : (Jvm.Cond.methodLink "CoarserOrders$Bends" (1 : Nat) ({ cls := "CoarserOrders$Trace", name := "ran", desc := "(I)V" } : Jvm.MethodName)) ∈ lw_all := lw_g (lw_at lw_m7 158 rfl) rfl
theorem q1749 : (Jvm.Cond.interfaceEntry "CoarserOrders$Bends" (7 : Nat)) ∈ lw_tbl := lw_at lw_m7 159 rfl
theorem q1756 : (Jvm.Cond.interfaceEntry "CoarserOrders$Bends" (13 : Nat)) ∈ lw_tbl := lw_at lw_m7 166 rfl

abbrev cX29_parts : ByteArray := prog_18_method_1_code
def yX29_parts : MethodName := ⟨RX29, "parts", "(ILCoarserOrders$Trace;)I"⟩
def dkwX29_parts_0 : List UInt8 := [44, 16, 12, 182, 0, 1, 27, 42, 185, 0, 7, 1, 0, 42, 185, 0, 13, 1, 0, 100, 108, 172]
abbrev dktX29_parts_0 : List UInt8 := dkwX29_parts_0 ++ []
theorem dksX29_parts_0 : cX29_parts.data.toList.drop 0 = dktX29_parts_0 := by decide +kernel
theorem dX29_parts_0 : decode cX29_parts 0 = .ok (.aload_n 2, 1) := dk_44 (dk_at dksX29_parts_0 0 rfl rfl)
theorem dX29_parts_1 : decode cX29_parts 1 = .ok (.bipush 12, 2) := dk_16 12 (dk_at dksX29_parts_0 1 rfl rfl)
theorem dX29_parts_3 : decode cX29_parts 3 = .ok (.invokevirtual 1, 3) := dk_182 0 1 (dk_at dksX29_parts_0 3 rfl rfl)
theorem dX29_parts_6 : decode cX29_parts 6 = .ok (.iload_n 1, 1) := dk_27 (dk_at dksX29_parts_0 6 rfl rfl)
theorem dX29_parts_7 : decode cX29_parts 7 = .ok (.aload_n 0, 1) := dk_42 (dk_at dksX29_parts_0 7 rfl rfl)
theorem dX29_parts_8 : decode cX29_parts 8 = .ok (.invokeinterface 7 1, 5) := by decide +kernel
theorem dX29_parts_13 : decode cX29_parts 13 = .ok (.aload_n 0, 1) := dk_42 (dk_at dksX29_parts_0 13 rfl rfl)
theorem dX29_parts_14 : decode cX29_parts 14 = .ok (.invokeinterface 13 1, 5) := by decide +kernel
theorem dX29_parts_19 : decode cX29_parts 19 = .ok (.isub, 1) := dk_100 (dk_at dksX29_parts_0 19 rfl rfl)
theorem dX29_parts_20 : decode cX29_parts 20 = .ok (.idiv, 1) := dk_108 (dk_at dksX29_parts_0 20 rfl rfl)
theorem dX29_parts_21 : decode cX29_parts 21 = .ok (.ireturn, 1) := dk_172 (dk_at dksX29_parts_0 21 rfl rfl)
theorem q1783 : (Jvm.Cond.declares ({ cls := "CoarserOrders$Parts", name := "parts", desc := "(ILCoarserOrders$Trace;)I" } : Jvm.MethodName)) ∈ lw_tbl := lw_at lw_m7 193 rfl
theorem q1785 : (Jvm.Cond.instanceMethod ({ cls := "CoarserOrders$Parts", name := "parts", desc := "(ILCoarserOrders$Trace;)I" } : Jvm.MethodName)) ∈ lw_all := lw_g (lw_at lw_m7 195 rfl) rfl
theorem q1786 : (Jvm.Cond.publicMethod ({ cls := "CoarserOrders$Parts", name := "parts", desc := "(ILCoarserOrders$Trace;)I" } : Jvm.MethodName)) ∈ lw_tbl := lw_at lw_m7 196 rfl
theorem q1787 : (Jvm.Cond.code ({ cls := "CoarserOrders$Parts", name := "parts", desc := "(ILCoarserOrders$Trace;)I" } : Jvm.MethodName) prog_18_method_1_code (3 : Nat) (Option.some Jvm.ClassFile.FieldType.int)) ∈ lw_all := lw_g (lw_at lw_m7 197 rfl) rfl
theorem q1788 : (Jvm.Cond.methodLink "CoarserOrders$Parts" (1 : Nat) ({ cls := "CoarserOrders$Trace", name := "ran", desc := "(I)V" } : Jvm.MethodName)) ∈ lw_all := lw_g (lw_at lw_m7 198 rfl) rfl
theorem q1789 : (Jvm.Cond.interfaceEntry "CoarserOrders$Parts" (7 : Nat)) ∈ lw_tbl := lw_at lw_m7 199 rfl
theorem q1796 : (Jvm.Cond.interfaceEntry "CoarserOrders$Parts" (13 : Nat)) ∈ lw_tbl := lw_at lw_m7 206 rfl

abbrev cX30_joins : ByteArray := prog_11_method_1_code
def yX30_joins : MethodName := ⟨RX30, "joins", "(ILCoarserOrders$Trace;)I"⟩
def dkwX30_joins_1 : List UInt8 := [185, 0, 13, 3, 0, 130, 172]
abbrev dktX30_joins_1 : List UInt8 := dkwX30_joins_1 ++ []
def dkwX30_joins_0 : List UInt8 := [44, 16, 13, 182, 0, 1, 42, 27, 44, 185, 0, 7, 3, 0, 62, 29, 42, 27, 4, 96, 44]
abbrev dktX30_joins_0 : List UInt8 := dkwX30_joins_0 ++ dktX30_joins_1
theorem dksX30_joins_0 : cX30_joins.data.toList.drop 0 = dktX30_joins_0 := by decide +kernel
theorem dksX30_joins_1 : cX30_joins.data.toList.drop 21 = dktX30_joins_1 := dk_seg dksX30_joins_0 21 rfl rfl
theorem dX30_joins_0 : decode cX30_joins 0 = .ok (.aload_n 2, 1) := dk_44 (dk_at dksX30_joins_0 0 rfl rfl)
theorem dX30_joins_1 : decode cX30_joins 1 = .ok (.bipush 13, 2) := dk_16 13 (dk_at dksX30_joins_0 1 rfl rfl)
theorem dX30_joins_3 : decode cX30_joins 3 = .ok (.invokevirtual 1, 3) := dk_182 0 1 (dk_at dksX30_joins_0 3 rfl rfl)
theorem dX30_joins_6 : decode cX30_joins 6 = .ok (.aload_n 0, 1) := dk_42 (dk_at dksX30_joins_0 6 rfl rfl)
theorem dX30_joins_7 : decode cX30_joins 7 = .ok (.iload_n 1, 1) := dk_27 (dk_at dksX30_joins_0 7 rfl rfl)
theorem dX30_joins_8 : decode cX30_joins 8 = .ok (.aload_n 2, 1) := dk_44 (dk_at dksX30_joins_0 8 rfl rfl)
theorem dX30_joins_9 : decode cX30_joins 9 = .ok (.invokeinterface 7 3, 5) := by decide +kernel
theorem dX30_joins_14 : decode cX30_joins 14 = .ok (.istore_n 3, 1) := dk_62 (dk_at dksX30_joins_0 14 rfl rfl)
theorem dX30_joins_15 : decode cX30_joins 15 = .ok (.iload_n 3, 1) := dk_29 (dk_at dksX30_joins_0 15 rfl rfl)
theorem dX30_joins_16 : decode cX30_joins 16 = .ok (.aload_n 0, 1) := dk_42 (dk_at dksX30_joins_0 16 rfl rfl)
theorem dX30_joins_17 : decode cX30_joins 17 = .ok (.iload_n 1, 1) := dk_27 (dk_at dksX30_joins_0 17 rfl rfl)
theorem dX30_joins_18 : decode cX30_joins 18 = .ok (.iconst 1, 1) := dk_4 (dk_at dksX30_joins_0 18 rfl rfl)
theorem dX30_joins_19 : decode cX30_joins 19 = .ok (.iadd, 1) := dk_96 (dk_at dksX30_joins_0 19 rfl rfl)
theorem dX30_joins_20 : decode cX30_joins 20 = .ok (.aload_n 2, 1) := dk_44 (dk_at dksX30_joins_0 20 rfl rfl)
theorem dX30_joins_21 : decode cX30_joins 21 = .ok (.invokeinterface 13 3, 5) := by decide +kernel
theorem dX30_joins_26 : decode cX30_joins 26 = .ok (.ixor, 1) := dk_130 (dk_at dksX30_joins_1 5 rfl rfl)
theorem dX30_joins_27 : decode cX30_joins 27 = .ok (.ireturn, 1) := dk_172 (dk_at dksX30_joins_1 6 rfl rfl)
theorem q1822 : (Jvm.Cond.interfaceMethod "CoarserOrders$Joins" "CoarserOrders$Joins" "joins" "(ILCoarserOrders$Trace;)I") ∈ lw_tbl := lw_at lw_m7 232 rfl
theorem q1823 : (Jvm.Cond.declares ({ cls := "CoarserOrders$Joins", name := "joins", desc := "(ILCoarserOrders$Trace;)I" } : Jvm.MethodName)) ∈ lw_tbl := lw_at lw_m7 233 rfl
theorem q1825 : (Jvm.Cond.instanceMethod ({ cls := "CoarserOrders$Joins", name := "joins", desc := "(ILCoarserOrders$Trace;)I" } : Jvm.MethodName)) ∈ lw_all := lw_g (lw_at lw_m7 235 rfl) rfl
theorem q1826 : (Jvm.Cond.publicMethod ({ cls := "CoarserOrders$Joins", name := "joins", desc := "(ILCoarserOrders$Trace;)I" } : Jvm.MethodName)) ∈ lw_tbl := lw_at lw_m7 236 rfl
theorem q1827 : (Jvm.Cond.code ({ cls := "CoarserOrders$Joins", name := "joins", desc := "(ILCoarserOrders$Trace;)I" } : Jvm.MethodName) prog_11_method_1_code (4 : Nat) (Option.some Jvm.ClassFile.FieldType.int)) ∈ lw_all := lw_g (lw_at lw_m7 237 rfl) rfl
theorem q1828 : (Jvm.Cond.methodLink "CoarserOrders$Joins" (1 : Nat) ({ cls := "CoarserOrders$Trace", name := "ran", desc := "(I)V" } : Jvm.MethodName)) ∈ lw_all := lw_g (lw_at lw_m7 238 rfl) rfl
theorem q1829 : (Jvm.Cond.interfaceEntry "CoarserOrders$Joins" (7 : Nat)) ∈ lw_tbl := lw_at lw_m7 239 rfl
theorem q1830 : (Jvm.Cond.interfaceEntry "CoarserOrders$Joins" (13 : Nat)) ∈ lw_tbl := lw_at lw_m8 0 rfl

theorem q311 : (Jvm.Cond.arrayOver (Jvm.ClassFile.FieldType.array (Jvm.ClassFile.FieldType.object "CoarserOrders$Arc"))) ∈ lw_tbl := lw_at lw_m1 161 rfl
theorem q312 : (Jvm.Cond.arrayOver (Jvm.ClassFile.FieldType.object "CoarserOrders$Arc")) ∈ lw_tbl := lw_at lw_m1 162 rfl
theorem q345 : (Jvm.Cond.arrayClass Jvm.ClassFile.FieldType.int) ∈ lw_all := lw_g (lw_at lw_m1 195 rfl) rfl
theorem q347 : (Jvm.Cond.arrayOver (Jvm.ClassFile.FieldType.object "CoarserOrders$Plain")) ∈ lw_tbl := lw_at lw_m1 197 rfl
theorem q349 : (Jvm.Cond.arrayOver (Jvm.ClassFile.FieldType.array Jvm.ClassFile.FieldType.byte)) ∈ lw_tbl := lw_at lw_m1 199 rfl
theorem q351 : (Jvm.Cond.arrayOver (Jvm.ClassFile.FieldType.object "java/lang/String")) ∈ lw_tbl := lw_at lw_m1 201 rfl
theorem q358 : (Jvm.Cond.arrayOver (Jvm.ClassFile.FieldType.object "CoarserOrders$Shelf")) ∈ lw_tbl := lw_at lw_m1 208 rfl
theorem q374 : (Jvm.Cond.arrayClass Jvm.ClassFile.FieldType.byte) ∈ lw_all := lw_g (lw_at lw_m1 224 rfl) rfl
theorem q375 : (Jvm.Cond.arrayClass Jvm.ClassFile.FieldType.boolean) ∈ lw_all := lw_g (lw_at lw_m1 225 rfl) rfl
theorem q1547 : (Jvm.Cond.arrayClass Jvm.ClassFile.FieldType.short) ∈ lw_all := lw_g (lw_at lw_m6 197 rfl) rfl
theorem q1548 : (Jvm.Cond.arrayClass Jvm.ClassFile.FieldType.long) ∈ lw_all := lw_g (lw_at lw_m6 198 rfl) rfl
theorem q165 : (Jvm.Cond.initialized "java/lang/System") ∈ lw_all := lw_g (lw_at lw_m1 15 rfl) rfl
theorem q733 : (Jvm.Cond.static ({ cls := "java/lang/System", name := "arraycopy", desc := "(Ljava/lang/Object;ILjava/lang/Object;II)V" } : Jvm.MethodName)) ∈ lw_all := lw_g (lw_at lw_m3 103 rfl) rfl
theorem q734 : (Jvm.Cond.native ({ cls := "java/lang/System", name := "arraycopy", desc := "(Ljava/lang/Object;ILjava/lang/Object;II)V" } : Jvm.MethodName)) ∈ lw_all := lw_g (lw_at lw_m3 104 rfl) rfl
theorem q1294 : (Jvm.Cond.interfaceMethod "java/util/Iterator" "java/util/Iterator" "hasNext" "()Z") ∈ lw_tbl := lw_at lw_m5 184 rfl
theorem q1295 : (Jvm.Cond.declares ({ cls := "java/util/Iterator", name := "hasNext", desc := "()Z" } : Jvm.MethodName)) ∈ lw_tbl := lw_at lw_m5 185 rfl
theorem q1304 : (Jvm.Cond.interfaceMethod "java/util/Iterator" "java/util/Iterator" "next" "()Ljava/lang/Object;") ∈ lw_tbl := lw_at lw_m5 194 rfl
theorem q1305 : (Jvm.Cond.declares ({ cls := "java/util/Iterator", name := "next", desc := "()Ljava/lang/Object;" } : Jvm.MethodName)) ∈ lw_tbl := lw_at lw_m5 195 rfl
