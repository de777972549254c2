/-! ===== the x layer, eleventh part: the words of the machine's exceptions ===== -/
set_option maxRecDepth 100000
theorem q152 : (Jvm.Cond.initialized "java/lang/Throwable") ∈ lw_all := lw_g (lw_at lw_m1 2 rfl) rfl
theorem q210 : (Jvm.Cond.declares ({ cls := "java/lang/Throwable", name := "<init>", desc := "()V" } : Jvm.MethodName)) ∈ lw_tbl := lw_at lw_m1 60 rfl
theorem q211 : (Jvm.Cond.declares ({ cls := "java/lang/Throwable", name := "<init>", desc := "(Ljava/lang/String;)V" } : Jvm.MethodName)) ∈ lw_tbl := lw_at lw_m1 61 rfl
theorem q215 : (Jvm.Cond.lays "java/lang/Throwable" "java/lang/Throwable" "cause" "Ljava/lang/Throwable;") ∈ lw_all := lw_g (lw_at lw_m1 65 rfl) rfl
theorem q217 : (Jvm.Cond.lays "java/lang/Throwable" "java/lang/Throwable" "stackTrace" "[Ljava/lang/StackTraceElement;") ∈ lw_all := lw_g (lw_at lw_m1 67 rfl) rfl
theorem q219 : (Jvm.Cond.lays "java/lang/Throwable" "java/lang/Throwable" "suppressedExceptions" "Ljava/util/List;") ∈ lw_all := lw_g (lw_at lw_m1 69 rfl) rfl
theorem q221 : (Jvm.Cond.lays "java/lang/Throwable" "java/lang/Throwable" "detailMessage" "Ljava/lang/String;") ∈ lw_all := lw_g (lw_at lw_m1 71 rfl) rfl
theorem q223 : (Jvm.Cond.lays "java/lang/Throwable" "java/lang/Throwable" "backtrace" "Ljava/lang/Object;") ∈ lw_all := lw_g (lw_at lw_m1 73 rfl) rfl
theorem q224 : (Jvm.Cond.fieldLink "java/lang/Throwable" (198 : Nat) "java/lang/Throwable" "backtrace" "Ljava/lang/Object;") ∈ lw_all := lw_g (lw_at lw_m1 74 rfl) rfl
theorem q225 : (Jvm.Cond.superclass "java/lang/Throwable" "java/lang/Object") ∈ lw_all := lw_g (lw_at lw_m1 75 rfl) rfl
theorem q226 : (Jvm.Cond.instanceMethod ({ cls := "java/lang/Throwable", name := "<init>", desc := "()V" } : Jvm.MethodName)) ∈ lw_all := lw_g (lw_at lw_m1 76 rfl) rfl
theorem q227 : (Jvm.Cond.code ({ cls := "java/lang/Throwable", name := "<init>", desc := "()V" } : Jvm.MethodName) prog_51_method_1_code (1 : Nat) (Option.none : Option Jvm.ClassFile.FieldType)) ∈ lw_all := lw_g (lw_at lw_m1 77 rfl) rfl
theorem q228 : (Jvm.Cond.methodLink "java/lang/Throwable" (1 : Nat) ({ cls := "java/lang/Object", name := "<init>", desc := "()V" } : Jvm.MethodName)) ∈ lw_all := lw_g (lw_at lw_m1 78 rfl) rfl
theorem q229 : (Jvm.Cond.fieldLink "java/lang/Throwable" (13 : Nat) "java/lang/Throwable" "UNASSIGNED_STACK" "[Ljava/lang/StackTraceElement;") ∈ lw_all := lw_g (lw_at lw_m1 79 rfl) rfl
theorem q230 : (Jvm.Cond.laysStatic "java/lang/Throwable" "UNASSIGNED_STACK" "[Ljava/lang/StackTraceElement;") ∈ lw_tbl := lw_at lw_m1 80 rfl
theorem q231 : (Jvm.Cond.fieldLink "java/lang/Throwable" (20 : Nat) "java/lang/Throwable" "SUPPRESSED_SENTINEL" "Ljava/util/List;") ∈ lw_all := lw_g (lw_at lw_m1 81 rfl) rfl
theorem q232 : (Jvm.Cond.laysStatic "java/lang/Throwable" "SUPPRESSED_SENTINEL" "Ljava/util/List;") ∈ lw_tbl := lw_at lw_m1 82 rfl
theorem q233 : (Jvm.Cond.methodLink "java/lang/Throwable" (27 : Nat) ({ cls := "java/lang/Throwable", name := "fillInStackTrace", desc := "()Ljava/lang/Throwable;" } : Jvm.MethodName)) ∈ lw_all := lw_g (lw_at lw_m1 83 rfl) rfl
theorem q234 : (Jvm.Cond.instanceMethod ({ cls := "java/lang/Throwable", name := "fillInStackTrace", desc := "()Ljava/lang/Throwable;" } : Jvm.MethodName)) ∈ lw_all := lw_g (lw_at lw_m1 84 rfl) rfl
theorem q256 : (Jvm.Cond.codeSync ({ cls := "java/lang/Throwable", name := "fillInStackTrace", desc := "()Ljava/lang/Throwable;" } : Jvm.MethodName) prog_51_method_18_code (1 : Nat) (Option.some (Jvm.ClassFile.FieldType.object "java/lang/Throwable"))) ∈ lw_all := lw_g (lw_at lw_m1 106 rfl) rfl
theorem q257 : (Jvm.Cond.methodLink "java/lang/Throwable" (202 : Nat) ({ cls := "java/lang/Throwable", name := "fillInStackTrace", desc := "(I)Ljava/lang/Throwable;" } : Jvm.MethodName)) ∈ lw_all := lw_g (lw_at lw_m1 107 rfl) rfl
theorem q259 : (Jvm.Cond.instanceMethod ({ cls := "java/lang/Throwable", name := "fillInStackTrace", desc := "(I)Ljava/lang/Throwable;" } : Jvm.MethodName)) ∈ lw_all := lw_g (lw_at lw_m1 109 rfl) rfl
theorem q261 : (Jvm.Cond.native ({ cls := "java/lang/Throwable", name := "fillInStackTrace", desc := "(I)Ljava/lang/Throwable;" } : Jvm.MethodName)) ∈ lw_all := lw_g (lw_at lw_m1 111 rfl) rfl
theorem q279 : (Jvm.Cond.fieldLink "java/lang/Throwable" (31 : Nat) "java/lang/Throwable" "detailMessage" "Ljava/lang/String;") ∈ lw_all := lw_g (lw_at lw_m1 129 rfl) rfl
theorem q280 : (Jvm.Cond.fieldLink "java/lang/Throwable" (7 : Nat) "java/lang/Throwable" "cause" "Ljava/lang/Throwable;") ∈ lw_all := lw_g (lw_at lw_m1 130 rfl) rfl
theorem q281 : (Jvm.Cond.fieldLink "java/lang/Throwable" (17 : Nat) "java/lang/Throwable" "stackTrace" "[Ljava/lang/StackTraceElement;") ∈ lw_all := lw_g (lw_at lw_m1 131 rfl) rfl
theorem q282 : (Jvm.Cond.fieldLink "java/lang/Throwable" (24 : Nat) "java/lang/Throwable" "suppressedExceptions" "Ljava/util/List;") ∈ lw_all := lw_g (lw_at lw_m1 132 rfl) rfl
theorem q703 : (Jvm.Cond.instanceMethod ({ cls := "java/lang/Throwable", name := "<init>", desc := "(Ljava/lang/String;)V" } : Jvm.MethodName)) ∈ lw_all := lw_g (lw_at lw_m3 73 rfl) rfl
theorem q704 : (Jvm.Cond.code ({ cls := "java/lang/Throwable", name := "<init>", desc := "(Ljava/lang/String;)V" } : Jvm.MethodName) prog_51_method_2_code (2 : Nat) (Option.none : Option Jvm.ClassFile.FieldType)) ∈ lw_all := lw_g (lw_at lw_m3 74 rfl) rfl
theorem q208 : (Jvm.Cond.declares ({ cls := "java/lang/Exception", name := "<init>", desc := "()V" } : Jvm.MethodName)) ∈ lw_tbl := lw_at lw_m1 58 rfl
theorem q209 : (Jvm.Cond.declares ({ cls := "java/lang/Exception", name := "<init>", desc := "(Ljava/lang/String;)V" } : Jvm.MethodName)) ∈ lw_tbl := lw_at lw_m1 59 rfl
theorem q700 : (Jvm.Cond.instanceMethod ({ cls := "java/lang/Exception", name := "<init>", desc := "(Ljava/lang/String;)V" } : Jvm.MethodName)) ∈ lw_all := lw_g (lw_at lw_m3 70 rfl) rfl
theorem q701 : (Jvm.Cond.code ({ cls := "java/lang/Exception", name := "<init>", desc := "(Ljava/lang/String;)V" } : Jvm.MethodName) prog_39_method_2_code (2 : Nat) (Option.none : Option Jvm.ClassFile.FieldType)) ∈ lw_all := lw_g (lw_at lw_m3 71 rfl) rfl
theorem q702 : (Jvm.Cond.methodLink "java/lang/Exception" (7 : Nat) ({ cls := "java/lang/Throwable", name := "<init>", desc := "(Ljava/lang/String;)V" } : Jvm.MethodName)) ∈ lw_all := lw_g (lw_at lw_m3 72 rfl) rfl
theorem q1572 : (Jvm.Cond.instanceMethod ({ cls := "java/lang/Exception", name := "<init>", desc := "()V" } : Jvm.MethodName)) ∈ lw_all := lw_g (lw_at lw_m6 222 rfl) rfl
theorem q1573 : (Jvm.Cond.code ({ cls := "java/lang/Exception", name := "<init>", desc := "()V" } : Jvm.MethodName) prog_39_method_1_code (1 : Nat) (Option.none : Option Jvm.ClassFile.FieldType)) ∈ lw_all := lw_g (lw_at lw_m6 223 rfl) rfl
theorem q1574 : (Jvm.Cond.methodLink "java/lang/Exception" (1 : Nat) ({ cls := "java/lang/Throwable", name := "<init>", desc := "()V" } : Jvm.MethodName)) ∈ lw_all := lw_g (lw_at lw_m6 224 rfl) rfl
theorem q187 : (Jvm.Cond.initialized "java/lang/ClassCastException") ∈ lw_all := lw_g (lw_at lw_m1 37 rfl) rfl
theorem q240 : (Jvm.Cond.selects "java/lang/ClassCastException" ({ cls := "java/lang/Throwable", name := "fillInStackTrace", desc := "()Ljava/lang/Throwable;" } : Jvm.MethodName) ({ cls := "java/lang/Throwable", name := "fillInStackTrace", desc := "()Ljava/lang/Throwable;" } : Jvm.MethodName)) ∈ lw_all := lw_g (lw_at lw_m1 90 rfl) rfl
theorem q1455 : (Jvm.Cond.instantiable "java/lang/ClassCastException" (6 : Nat)) ∈ lw_all := lw_g (lw_at lw_m6 105 rfl) rfl
theorem q1456 : (Jvm.Cond.instanceMethod ({ cls := "java/lang/ClassCastException", name := "<init>", desc := "(Ljava/lang/String;)V" } : Jvm.MethodName)) ∈ lw_all := lw_g (lw_at lw_m6 106 rfl) rfl
theorem q1457 : (Jvm.Cond.code ({ cls := "java/lang/ClassCastException", name := "<init>", desc := "(Ljava/lang/String;)V" } : Jvm.MethodName) prog_37_method_2_code (2 : Nat) (Option.none : Option Jvm.ClassFile.FieldType)) ∈ lw_all := lw_g (lw_at lw_m6 107 rfl) rfl
theorem q1458 : (Jvm.Cond.methodLink "java/lang/ClassCastException" (7 : Nat) ({ cls := "java/lang/RuntimeException", name := "<init>", desc := "(Ljava/lang/String;)V" } : Jvm.MethodName)) ∈ lw_all := lw_g (lw_at lw_m6 108 rfl) rfl
theorem q1459 : (Jvm.Cond.lays "java/lang/ClassCastException" "java/lang/Throwable" "backtrace" "Ljava/lang/Object;") ∈ lw_all := lw_g (lw_at lw_m6 109 rfl) rfl
theorem q1460 : (Jvm.Cond.lays "java/lang/ClassCastException" "java/lang/Throwable" "detailMessage" "Ljava/lang/String;") ∈ lw_all := lw_g (lw_at lw_m6 110 rfl) rfl
theorem q1461 : (Jvm.Cond.lays "java/lang/ClassCastException" "java/lang/Throwable" "cause" "Ljava/lang/Throwable;") ∈ lw_all := lw_g (lw_at lw_m6 111 rfl) rfl
theorem q1462 : (Jvm.Cond.lays "java/lang/ClassCastException" "java/lang/Throwable" "stackTrace" "[Ljava/lang/StackTraceElement;") ∈ lw_all := lw_g (lw_at lw_m6 112 rfl) rfl
theorem q1464 : (Jvm.Cond.lays "java/lang/ClassCastException" "java/lang/Throwable" "suppressedExceptions" "Ljava/util/List;") ∈ lw_all := lw_g (lw_at lw_m6 114 rfl) rfl
theorem q1466 : (Jvm.Cond.castable "java/lang/ClassCastException" "java/lang/ClassCastException") ∈ lw_tbl := lw_at lw_m6 116 rfl
theorem q1467 : (Jvm.Cond.selects "java/lang/ClassCastException" ({ cls := "java/lang/Throwable", name := "fillInStackTrace", desc := "(I)Ljava/lang/Throwable;" } : Jvm.MethodName) ({ cls := "java/lang/Throwable", name := "fillInStackTrace", desc := "(I)Ljava/lang/Throwable;" } : Jvm.MethodName)) ∈ lw_all := lw_g (lw_at lw_m6 117 rfl) rfl
theorem q188 : (Jvm.Cond.initialized "java/lang/NegativeArraySizeException") ∈ lw_all := lw_g (lw_at lw_m1 38 rfl) rfl
theorem q241 : (Jvm.Cond.selects "java/lang/NegativeArraySizeException" ({ cls := "java/lang/Throwable", name := "fillInStackTrace", desc := "()Ljava/lang/Throwable;" } : Jvm.MethodName) ({ cls := "java/lang/Throwable", name := "fillInStackTrace", desc := "()Ljava/lang/Throwable;" } : Jvm.MethodName)) ∈ lw_all := lw_g (lw_at lw_m1 91 rfl) rfl
theorem q1531 : (Jvm.Cond.instantiable "java/lang/NegativeArraySizeException" (6 : Nat)) ∈ lw_all := lw_g (lw_at lw_m6 181 rfl) rfl
theorem q1532 : (Jvm.Cond.instanceMethod ({ cls := "java/lang/NegativeArraySizeException", name := "<init>", desc := "(Ljava/lang/String;)V" } : Jvm.MethodName)) ∈ lw_all := lw_g (lw_at lw_m6 182 rfl) rfl
theorem q1533 : (Jvm.Cond.code ({ cls := "java/lang/NegativeArraySizeException", name := "<init>", desc := "(Ljava/lang/String;)V" } : Jvm.MethodName) prog_44_method_2_code (2 : Nat) (Option.none : Option Jvm.ClassFile.FieldType)) ∈ lw_all := lw_g (lw_at lw_m6 183 rfl) rfl
theorem q1534 : (Jvm.Cond.methodLink "java/lang/NegativeArraySizeException" (7 : Nat) ({ cls := "java/lang/RuntimeException", name := "<init>", desc := "(Ljava/lang/String;)V" } : Jvm.MethodName)) ∈ lw_all := lw_g (lw_at lw_m6 184 rfl) rfl
theorem q1535 : (Jvm.Cond.lays "java/lang/NegativeArraySizeException" "java/lang/Throwable" "backtrace" "Ljava/lang/Object;") ∈ lw_all := lw_g (lw_at lw_m6 185 rfl) rfl
theorem q1536 : (Jvm.Cond.lays "java/lang/NegativeArraySizeException" "java/lang/Throwable" "detailMessage" "Ljava/lang/String;") ∈ lw_all := lw_g (lw_at lw_m6 186 rfl) rfl
theorem q1537 : (Jvm.Cond.lays "java/lang/NegativeArraySizeException" "java/lang/Throwable" "cause" "Ljava/lang/Throwable;") ∈ lw_all := lw_g (lw_at lw_m6 187 rfl) rfl
theorem q1538 : (Jvm.Cond.lays "java/lang/NegativeArraySizeException" "java/lang/Throwable" "stackTrace" "[Ljava/lang/StackTraceElement;") ∈ lw_all := lw_g (lw_at lw_m6 188 rfl) rfl
theorem q1540 : (Jvm.Cond.lays "java/lang/NegativeArraySizeException" "java/lang/Throwable" "suppressedExceptions" "Ljava/util/List;") ∈ lw_all := lw_g (lw_at lw_m6 190 rfl) rfl
theorem q1542 : (Jvm.Cond.castable "java/lang/NegativeArraySizeException" "java/lang/NegativeArraySizeException") ∈ lw_tbl := lw_at lw_m6 192 rfl
theorem q1543 : (Jvm.Cond.selects "java/lang/NegativeArraySizeException" ({ cls := "java/lang/Throwable", name := "fillInStackTrace", desc := "(I)Ljava/lang/Throwable;" } : Jvm.MethodName) ({ cls := "java/lang/Throwable", name := "fillInStackTrace", desc := "(I)Ljava/lang/Throwable;" } : Jvm.MethodName)) ∈ lw_all := lw_g (lw_at lw_m6 193 rfl) rfl
theorem q189 : (Jvm.Cond.initialized "java/lang/NullPointerException") ∈ lw_all := lw_g (lw_at lw_m1 39 rfl) rfl
theorem q242 : (Jvm.Cond.selects "java/lang/NullPointerException" ({ cls := "java/lang/Throwable", name := "fillInStackTrace", desc := "()Ljava/lang/Throwable;" } : Jvm.MethodName) ({ cls := "java/lang/NullPointerException", name := "fillInStackTrace", desc := "()Ljava/lang/Throwable;" } : Jvm.MethodName)) ∈ lw_all := lw_g (lw_at lw_m1 92 rfl) rfl
theorem q243 : (Jvm.Cond.instanceMethod ({ cls := "java/lang/NullPointerException", name := "fillInStackTrace", desc := "()Ljava/lang/Throwable;" } : Jvm.MethodName)) ∈ lw_all := lw_g (lw_at lw_m1 93 rfl) rfl
theorem q244 : (Jvm.Cond.codeSync ({ cls := "java/lang/NullPointerException", name := "fillInStackTrace", desc := "()Ljava/lang/Throwable;" } : Jvm.MethodName) prog_45_method_3_code (1 : Nat) (Option.some (Jvm.ClassFile.FieldType.object "java/lang/Throwable"))) ∈ lw_all := lw_g (lw_at lw_m1 94 rfl) rfl
theorem q248 : (Jvm.Cond.instantiable "java/lang/NullPointerException" (8 : Nat)) ∈ lw_all := lw_g (lw_at lw_m1 98 rfl) rfl
theorem q250 : (Jvm.Cond.methodLink "java/lang/NullPointerException" (24 : Nat) ({ cls := "java/lang/RuntimeException", name := "fillInStackTrace", desc := "()Ljava/lang/Throwable;" } : Jvm.MethodName)) ∈ lw_all := lw_g (lw_at lw_m1 100 rfl) rfl
theorem q253 : (Jvm.Cond.superclass "java/lang/NullPointerException" "java/lang/RuntimeException") ∈ lw_all := lw_g (lw_at lw_m1 103 rfl) rfl
theorem q1566 : (Jvm.Cond.instanceMethod ({ cls := "java/lang/NullPointerException", name := "<init>", desc := "()V" } : Jvm.MethodName)) ∈ lw_all := lw_g (lw_at lw_m6 216 rfl) rfl
theorem q1567 : (Jvm.Cond.code ({ cls := "java/lang/NullPointerException", name := "<init>", desc := "()V" } : Jvm.MethodName) prog_45_method_1_code (1 : Nat) (Option.none : Option Jvm.ClassFile.FieldType)) ∈ lw_all := lw_g (lw_at lw_m6 217 rfl) rfl
theorem q1568 : (Jvm.Cond.methodLink "java/lang/NullPointerException" (1 : Nat) ({ cls := "java/lang/RuntimeException", name := "<init>", desc := "()V" } : Jvm.MethodName)) ∈ lw_all := lw_g (lw_at lw_m6 218 rfl) rfl
theorem q1575 : (Jvm.Cond.fieldLink "java/lang/NullPointerException" (10 : Nat) "java/lang/NullPointerException" "extendedMessageState" "I") ∈ lw_all := lw_g (lw_at lw_m6 225 rfl) rfl
theorem q1577 : (Jvm.Cond.lays "java/lang/NullPointerException" "java/lang/NullPointerException" "extendedMessageState" "I") ∈ lw_all := lw_g (lw_at lw_m6 227 rfl) rfl
theorem q1581 : (Jvm.Cond.lays "java/lang/NullPointerException" "java/lang/Throwable" "backtrace" "Ljava/lang/Object;") ∈ lw_all := lw_g (lw_at lw_m6 231 rfl) rfl
theorem q1583 : (Jvm.Cond.lays "java/lang/NullPointerException" "java/lang/Throwable" "cause" "Ljava/lang/Throwable;") ∈ lw_all := lw_g (lw_at lw_m6 233 rfl) rfl
theorem q1584 : (Jvm.Cond.lays "java/lang/NullPointerException" "java/lang/Throwable" "stackTrace" "[Ljava/lang/StackTraceElement;") ∈ lw_all := lw_g (lw_at lw_m6 234 rfl) rfl
theorem q1586 : (Jvm.Cond.lays "java/lang/NullPointerException" "java/lang/Throwable" "suppressedExceptions" "Ljava/util/List;") ∈ lw_all := lw_g (lw_at lw_m6 236 rfl) rfl
theorem q1587 : (Jvm.Cond.castable "java/lang/NullPointerException" "java/lang/NullPointerException") ∈ lw_tbl := lw_at lw_m6 237 rfl
theorem q1588 : (Jvm.Cond.selects "java/lang/NullPointerException" ({ cls := "java/lang/Throwable", name := "fillInStackTrace", desc := "(I)Ljava/lang/Throwable;" } : Jvm.MethodName) ({ cls := "java/lang/Throwable", name := "fillInStackTrace", desc := "(I)Ljava/lang/Throwable;" } : Jvm.MethodName)) ∈ lw_all := lw_g (lw_at lw_m6 238 rfl) rfl
theorem q190 : (Jvm.Cond.initialized "java/lang/ArrayStoreException") ∈ lw_all := lw_g (lw_at lw_m1 40 rfl) rfl
theorem q239 : (Jvm.Cond.selects "java/lang/ArrayStoreException" ({ cls := "java/lang/Throwable", name := "fillInStackTrace", desc := "()Ljava/lang/Throwable;" } : Jvm.MethodName) ({ cls := "java/lang/Throwable", name := "fillInStackTrace", desc := "()Ljava/lang/Throwable;" } : Jvm.MethodName)) ∈ lw_all := lw_g (lw_at lw_m1 89 rfl) rfl
theorem q1602 : (Jvm.Cond.instantiable "java/lang/ArrayStoreException" (6 : Nat)) ∈ lw_all := lw_g (lw_at lw_m7 12 rfl) rfl
theorem q1603 : (Jvm.Cond.instanceMethod ({ cls := "java/lang/ArrayStoreException", name := "<init>", desc := "(Ljava/lang/String;)V" } : Jvm.MethodName)) ∈ lw_all := lw_g (lw_at lw_m7 13 rfl) rfl
theorem q1604 : (Jvm.Cond.code ({ cls := "java/lang/ArrayStoreException", name := "<init>", desc := "(Ljava/lang/String;)V" } : Jvm.MethodName) prog_36_method_2_code (2 : Nat) (Option.none : Option Jvm.ClassFile.FieldType)) ∈ lw_all := lw_g (lw_at lw_m7 14 rfl) rfl
theorem q1605 : (Jvm.Cond.methodLink "java/lang/ArrayStoreException" (7 : Nat) ({ cls := "java/lang/RuntimeException", name := "<init>", desc := "(Ljava/lang/String;)V" } : Jvm.MethodName)) ∈ lw_all := lw_g (lw_at lw_m7 15 rfl) rfl
theorem q1606 : (Jvm.Cond.lays "java/lang/ArrayStoreException" "java/lang/Throwable" "backtrace" "Ljava/lang/Object;") ∈ lw_all := lw_g (lw_at lw_m7 16 rfl) rfl
theorem q1607 : (Jvm.Cond.lays "java/lang/ArrayStoreException" "java/lang/Throwable" "detailMessage" "Ljava/lang/String;") ∈ lw_all := lw_g (lw_at lw_m7 17 rfl) rfl
theorem q1608 : (Jvm.Cond.lays "java/lang/ArrayStoreException" "java/lang/Throwable" "cause" "Ljava/lang/Throwable;") ∈ lw_all := lw_g (lw_at lw_m7 18 rfl) rfl
theorem q1609 : (Jvm.Cond.lays "java/lang/ArrayStoreException" "java/lang/Throwable" "stackTrace" "[Ljava/lang/StackTraceElement;") ∈ lw_all := lw_g (lw_at lw_m7 19 rfl) rfl
theorem q1611 : (Jvm.Cond.lays "java/lang/ArrayStoreException" "java/lang/Throwable" "suppressedExceptions" "Ljava/util/List;") ∈ lw_all := lw_g (lw_at lw_m7 21 rfl) rfl
theorem q1613 : (Jvm.Cond.castable "java/lang/ArrayStoreException" "java/lang/ArrayStoreException") ∈ lw_tbl := lw_at lw_m7 23 rfl
theorem q1614 : (Jvm.Cond.selects "java/lang/ArrayStoreException" ({ cls := "java/lang/Throwable", name := "fillInStackTrace", desc := "(I)Ljava/lang/Throwable;" } : Jvm.MethodName) ({ cls := "java/lang/Throwable", name := "fillInStackTrace", desc := "(I)Ljava/lang/Throwable;" } : Jvm.MethodName)) ∈ lw_all := lw_g (lw_at lw_m7 24 rfl) rfl
theorem q192 : (Jvm.Cond.initialized "java/lang/ArithmeticException") ∈ lw_all := lw_g (lw_at lw_m1 42 rfl) rfl
theorem q237 : (Jvm.Cond.selects "java/lang/ArithmeticException" ({ cls := "java/lang/Throwable", name := "fillInStackTrace", desc := "()Ljava/lang/Throwable;" } : Jvm.MethodName) ({ cls := "java/lang/Throwable", name := "fillInStackTrace", desc := "()Ljava/lang/Throwable;" } : Jvm.MethodName)) ∈ lw_all := lw_g (lw_at lw_m1 87 rfl) rfl
theorem q1672 : (Jvm.Cond.instantiable "java/lang/ArithmeticException" (6 : Nat)) ∈ lw_all := lw_g (lw_at lw_m7 82 rfl) rfl
theorem q1673 : (Jvm.Cond.instanceMethod ({ cls := "java/lang/ArithmeticException", name := "<init>", desc := "(Ljava/lang/String;)V" } : Jvm.MethodName)) ∈ lw_all := lw_g (lw_at lw_m7 83 rfl) rfl
theorem q1674 : (Jvm.Cond.code ({ cls := "java/lang/ArithmeticException", name := "<init>", desc := "(Ljava/lang/String;)V" } : Jvm.MethodName) prog_34_method_2_code (2 : Nat) (Option.none : Option Jvm.ClassFile.FieldType)) ∈ lw_all := lw_g (lw_at lw_m7 84 rfl) rfl
theorem q1675 : (Jvm.Cond.methodLink "java/lang/ArithmeticException" (7 : Nat) ({ cls := "java/lang/RuntimeException", name := "<init>", desc := "(Ljava/lang/String;)V" } : Jvm.MethodName)) ∈ lw_all := lw_g (lw_at lw_m7 85 rfl) rfl
theorem q1676 : (Jvm.Cond.lays "java/lang/ArithmeticException" "java/lang/Throwable" "backtrace" "Ljava/lang/Object;") ∈ lw_all := lw_g (lw_at lw_m7 86 rfl) rfl
theorem q1677 : (Jvm.Cond.lays "java/lang/ArithmeticException" "java/lang/Throwable" "detailMessage" "Ljava/lang/String;") ∈ lw_all := lw_g (lw_at lw_m7 87 rfl) rfl
theorem q1678 : (Jvm.Cond.lays "java/lang/ArithmeticException" "java/lang/Throwable" "cause" "Ljava/lang/Throwable;") ∈ lw_all := lw_g (lw_at lw_m7 88 rfl) rfl
theorem q1679 : (Jvm.Cond.lays "java/lang/ArithmeticException" "java/lang/Throwable" "stackTrace" "[Ljava/lang/StackTraceElement;") ∈ lw_all := lw_g (lw_at lw_m7 89 rfl) rfl
theorem q1681 : (Jvm.Cond.lays "java/lang/ArithmeticException" "java/lang/Throwable" "suppressedExceptions" "Ljava/util/List;") ∈ lw_all := lw_g (lw_at lw_m7 91 rfl) rfl
theorem q1683 : (Jvm.Cond.castable "java/lang/ArithmeticException" "java/lang/ArithmeticException") ∈ lw_tbl := lw_at lw_m7 93 rfl
theorem q1684 : (Jvm.Cond.selects "java/lang/ArithmeticException" ({ cls := "java/lang/Throwable", name := "fillInStackTrace", desc := "(I)Ljava/lang/Throwable;" } : Jvm.MethodName) ({ cls := "java/lang/Throwable", name := "fillInStackTrace", desc := "(I)Ljava/lang/Throwable;" } : Jvm.MethodName)) ∈ lw_all := lw_g (lw_at lw_m7 94 rfl) rfl
theorem q201 : (Jvm.Cond.instanceMethod ({ cls := "java/lang/Object", name := "<init>", desc := "()V" } : Jvm.MethodName)) ∈ lw_all := lw_g (lw_at lw_m1 51 rfl) rfl
theorem q202 : (Jvm.Cond.code ({ cls := "java/lang/Object", name := "<init>", desc := "()V" } : Jvm.MethodName) object_method_1_code (1 : Nat) (Option.none : Option Jvm.ClassFile.FieldType)) ∈ lw_all := lw_g (lw_at lw_m1 52 rfl) rfl
theorem q206 : (Jvm.Cond.declares ({ cls := "java/lang/RuntimeException", name := "<init>", desc := "()V" } : Jvm.MethodName)) ∈ lw_tbl := lw_at lw_m1 56 rfl
theorem q207 : (Jvm.Cond.declares ({ cls := "java/lang/RuntimeException", name := "<init>", desc := "(Ljava/lang/String;)V" } : Jvm.MethodName)) ∈ lw_tbl := lw_at lw_m1 57 rfl
theorem q251 : (Jvm.Cond.sameMethod "java/lang/RuntimeException" "java/lang/Throwable" "fillInStackTrace" "()Ljava/lang/Throwable;") ∈ lw_all := lw_g (lw_at lw_m1 101 rfl) rfl
theorem q697 : (Jvm.Cond.instanceMethod ({ cls := "java/lang/RuntimeException", name := "<init>", desc := "(Ljava/lang/String;)V" } : Jvm.MethodName)) ∈ lw_all := lw_g (lw_at lw_m3 67 rfl) rfl
theorem q698 : (Jvm.Cond.code ({ cls := "java/lang/RuntimeException", name := "<init>", desc := "(Ljava/lang/String;)V" } : Jvm.MethodName) prog_46_method_2_code (2 : Nat) (Option.none : Option Jvm.ClassFile.FieldType)) ∈ lw_all := lw_g (lw_at lw_m3 68 rfl) rfl
theorem q699 : (Jvm.Cond.methodLink "java/lang/RuntimeException" (7 : Nat) ({ cls := "java/lang/Exception", name := "<init>", desc := "(Ljava/lang/String;)V" } : Jvm.MethodName)) ∈ lw_all := lw_g (lw_at lw_m3 69 rfl) rfl
theorem q1569 : (Jvm.Cond.instanceMethod ({ cls := "java/lang/RuntimeException", name := "<init>", desc := "()V" } : Jvm.MethodName)) ∈ lw_all := lw_g (lw_at lw_m6 219 rfl) rfl
theorem q1570 : (Jvm.Cond.code ({ cls := "java/lang/RuntimeException", name := "<init>", desc := "()V" } : Jvm.MethodName) prog_46_method_1_code (1 : Nat) (Option.none : Option Jvm.ClassFile.FieldType)) ∈ lw_all := lw_g (lw_at lw_m6 220 rfl) rfl
theorem q1571 : (Jvm.Cond.methodLink "java/lang/RuntimeException" (1 : Nat) ({ cls := "java/lang/Exception", name := "<init>", desc := "()V" } : Jvm.MethodName)) ∈ lw_all := lw_g (lw_at lw_m6 221 rfl) rfl
theorem q1589 : (Jvm.Cond.castable "java/lang/RuntimeException" "java/lang/Throwable") ∈ lw_tbl := lw_at lw_m6 239 rfl
theorem q694 : (Jvm.Cond.instanceMethod ({ cls := "java/lang/IndexOutOfBoundsException", name := "<init>", desc := "(Ljava/lang/String;)V" } : Jvm.MethodName)) ∈ lw_all := lw_g (lw_at lw_m3 64 rfl) rfl
theorem q695 : (Jvm.Cond.code ({ cls := "java/lang/IndexOutOfBoundsException", name := "<init>", desc := "(Ljava/lang/String;)V" } : Jvm.MethodName) prog_40_method_2_code (2 : Nat) (Option.none : Option Jvm.ClassFile.FieldType)) ∈ lw_all := lw_g (lw_at lw_m3 65 rfl) rfl
theorem q696 : (Jvm.Cond.methodLink "java/lang/IndexOutOfBoundsException" (7 : Nat) ({ cls := "java/lang/RuntimeException", name := "<init>", desc := "(Ljava/lang/String;)V" } : Jvm.MethodName)) ∈ lw_all := lw_g (lw_at lw_m3 66 rfl) rfl
theorem q714 : (Jvm.Cond.declares ({ cls := "java/lang/IndexOutOfBoundsException", name := "<init>", desc := "(Ljava/lang/String;)V" } : Jvm.MethodName)) ∈ lw_tbl := lw_at lw_m3 84 rfl
theorem q163 : (Jvm.Cond.initialized "java/lang/ArrayIndexOutOfBoundsException") ∈ lw_all := lw_g (lw_at lw_m1 13 rfl) rfl
theorem q238 : (Jvm.Cond.selects "java/lang/ArrayIndexOutOfBoundsException" ({ cls := "java/lang/Throwable", name := "fillInStackTrace", desc := "()Ljava/lang/Throwable;" } : Jvm.MethodName) ({ cls := "java/lang/Throwable", name := "fillInStackTrace", desc := "()Ljava/lang/Throwable;" } : Jvm.MethodName)) ∈ lw_all := lw_g (lw_at lw_m1 88 rfl) rfl
theorem q690 : (Jvm.Cond.instantiable "java/lang/ArrayIndexOutOfBoundsException" (6 : Nat)) ∈ lw_all := lw_g (lw_at lw_m3 60 rfl) rfl
theorem q691 : (Jvm.Cond.instanceMethod ({ cls := "java/lang/ArrayIndexOutOfBoundsException", name := "<init>", desc := "(Ljava/lang/String;)V" } : Jvm.MethodName)) ∈ lw_all := lw_g (lw_at lw_m3 61 rfl) rfl
theorem q692 : (Jvm.Cond.code ({ cls := "java/lang/ArrayIndexOutOfBoundsException", name := "<init>", desc := "(Ljava/lang/String;)V" } : Jvm.MethodName) prog_35_method_2_code (2 : Nat) (Option.none : Option Jvm.ClassFile.FieldType)) ∈ lw_all := lw_g (lw_at lw_m3 62 rfl) rfl
theorem q693 : (Jvm.Cond.methodLink "java/lang/ArrayIndexOutOfBoundsException" (7 : Nat) ({ cls := "java/lang/IndexOutOfBoundsException", name := "<init>", desc := "(Ljava/lang/String;)V" } : Jvm.MethodName)) ∈ lw_all := lw_g (lw_at lw_m3 63 rfl) rfl
theorem q705 : (Jvm.Cond.lays "java/lang/ArrayIndexOutOfBoundsException" "java/lang/Throwable" "backtrace" "Ljava/lang/Object;") ∈ lw_all := lw_g (lw_at lw_m3 75 rfl) rfl
theorem q706 : (Jvm.Cond.lays "java/lang/ArrayIndexOutOfBoundsException" "java/lang/Throwable" "detailMessage" "Ljava/lang/String;") ∈ lw_all := lw_g (lw_at lw_m3 76 rfl) rfl
theorem q707 : (Jvm.Cond.lays "java/lang/ArrayIndexOutOfBoundsException" "java/lang/Throwable" "cause" "Ljava/lang/Throwable;") ∈ lw_all := lw_g (lw_at lw_m3 77 rfl) rfl
theorem q708 : (Jvm.Cond.lays "java/lang/ArrayIndexOutOfBoundsException" "java/lang/Throwable" "stackTrace" "[Ljava/lang/StackTraceElement;") ∈ lw_all := lw_g (lw_at lw_m3 78 rfl) rfl
theorem q710 : (Jvm.Cond.lays "java/lang/ArrayIndexOutOfBoundsException" "java/lang/Throwable" "suppressedExceptions" "Ljava/util/List;") ∈ lw_all := lw_g (lw_at lw_m3 80 rfl) rfl
theorem q712 : (Jvm.Cond.castable "java/lang/ArrayIndexOutOfBoundsException" "java/lang/ArrayIndexOutOfBoundsException") ∈ lw_tbl := lw_at lw_m3 82 rfl
theorem q715 : (Jvm.Cond.selects "java/lang/ArrayIndexOutOfBoundsException" ({ cls := "java/lang/Throwable", name := "fillInStackTrace", desc := "(I)Ljava/lang/Throwable;" } : Jvm.MethodName) ({ cls := "java/lang/Throwable", name := "fillInStackTrace", desc := "(I)Ljava/lang/Throwable;" } : Jvm.MethodName)) ∈ lw_all := lw_g (lw_at lw_m3 85 rfl) rfl
section XJ11
variable {E : xE} {s : State} {args : Array Value}
theorem xa_thr {w : Cond} (ok : xOK E) (hW : E.2.1.WarmedH s.vm) (hw : w ∈ Bundle.throwableAtoms) (hno : vx_no w = true) : w.before args s = true := by
  rcases List.mem_cons.mp hw with rfl | hw
  · exact ok.word hW q152 args
  rcases List.mem_cons.mp hw with rfl | hw
  · exact ok.word hW q225 args
  rcases List.mem_cons.mp hw with rfl | hw
  · exact ok.word hW q234 args
  rcases List.mem_cons.mp hw with rfl | hw
  · exact ok.word hW q256 args
  rcases List.mem_cons.mp hw with rfl | hw
  · exact ok.word hW q259 args
  rcases List.mem_cons.mp hw with rfl | hw
  · exact ok.word hW q261 args
  rcases List.mem_cons.mp hw with rfl | hw
  · exact ok.word hW q226 args
  rcases List.mem_cons.mp hw with rfl | hw
  · exact ok.word hW q227 args
  rcases List.mem_cons.mp hw with rfl | hw
  · exact ok.word hW q201 args
  rcases List.mem_cons.mp hw with rfl | hw
  · exact ok.word hW q202 args
  rcases List.mem_cons.mp hw with rfl | hw
  · exact ok.word hW q228 args
  rcases List.mem_cons.mp hw with rfl | hw
  · exact ok.word hW q233 args
  rcases List.mem_cons.mp hw with rfl | hw
  · exact ok.word hW q257 args
  rcases List.mem_cons.mp hw with rfl | hw
  · exact ok.word hW q280 args
  rcases List.mem_cons.mp hw with rfl | hw
  · exact ok.word hW q215 args
  rcases List.mem_cons.mp hw with rfl | hw
  · exact ok.word hW q281 args
  rcases List.mem_cons.mp hw with rfl | hw
  · exact ok.word hW q217 args
  rcases List.mem_cons.mp hw with rfl | hw
  · exact ok.word hW q282 args
  rcases List.mem_cons.mp hw with rfl | hw
  · exact ok.word hW q219 args
  rcases List.mem_cons.mp hw with rfl | hw
  · exact ok.word hW q229 args
  rcases List.mem_cons.mp hw with rfl | hw
  · exact absurd hno (by decide)
  rcases List.mem_cons.mp hw with rfl | hw
  · exact ok.word hW q231 args
  rcases List.mem_cons.mp hw with rfl | hw
  · exact absurd hno (by decide)
  rcases List.mem_cons.mp hw with rfl | hw
  · exact ok.word hW q221 args
  cases hw
theorem xa_thrS {w : Cond} (ok : xOK E) (hW : E.2.1.WarmedH s.vm) (hw : w ∈ Bundle.throwableSAtoms) (hno : vx_no w = true) : w.before args s = true := by
  rcases List.mem_cons.mp hw with rfl | hw
  · exact ok.word hW q703 args
  rcases List.mem_cons.mp hw with rfl | hw
  · exact ok.word hW q704 args
  rcases List.mem_cons.mp hw with rfl | hw
  · exact ok.word hW q279 args
  rcases List.mem_cons.mp hw with rfl | hw
  · exact ok.word hW q221 args
  cases hw
theorem xa_str {w : Cond} (ok : xOK E) (hW : E.2.1.WarmedH s.vm) (hw : w ∈ Bundle.stringAtoms) (hno : vx_no w = true) : w.before args s = true := by
  rcases List.mem_cons.mp hw with rfl | hw
  · exact ok.word hW q164 args
  rcases List.mem_cons.mp hw with rfl | hw
  · exact ok.word hW q716 args
  rcases List.mem_cons.mp hw with rfl | hw
  · exact ok.word hW q374 args
  rcases List.mem_cons.mp hw with rfl | hw
  · exact ok.word hW q717 args
  rcases List.mem_cons.mp hw with rfl | hw
  · exact ok.word hW q719 args
  rcases List.mem_cons.mp hw with rfl | hw
  · exact ok.word hW q718 args
  rcases List.mem_cons.mp hw with rfl | hw
  · exact ok.word hW q720 args
  cases hw
theorem xa_chAE {w : Cond} (ok : xOK E) (hW : E.2.1.WarmedH s.vm) (hw : w ∈ Bundle.chainSAtoms "java/lang/ArithmeticException" ["java/lang/RuntimeException", "java/lang/Exception"]) (hno : vx_no w = true) : w.before args s = true := by
  rcases List.mem_cons.mp hw with rfl | hw
  · exact ok.word hW q1673 args
  rcases List.mem_cons.mp hw with rfl | hw
  · exact ok.word hW q1674 args
  rcases List.mem_cons.mp hw with rfl | hw
  · exact ok.word hW q1675 args
  rcases List.mem_cons.mp hw with rfl | hw
  · exact ok.word hW q697 args
  rcases List.mem_cons.mp hw with rfl | hw
  · exact va_Nw.use rfl (va_Nw.warmD hW (va_Nw.of rfl (ok.2.1 _ q207)))
  rcases List.mem_cons.mp hw with rfl | hw
  · exact ok.word hW q697 args
  rcases List.mem_cons.mp hw with rfl | hw
  · exact ok.word hW q698 args
  rcases List.mem_cons.mp hw with rfl | hw
  · exact ok.word hW q699 args
  rcases List.mem_cons.mp hw with rfl | hw
  · exact ok.word hW q700 args
  rcases List.mem_cons.mp hw with rfl | hw
  · exact va_Nw.use rfl (va_Nw.warmD hW (va_Nw.of rfl (ok.2.1 _ q209)))
  rcases List.mem_cons.mp hw with rfl | hw
  · exact ok.word hW q700 args
  rcases List.mem_cons.mp hw with rfl | hw
  · exact ok.word hW q701 args
  rcases List.mem_cons.mp hw with rfl | hw
  · exact ok.word hW q702 args
  rcases List.mem_cons.mp hw with rfl | hw
  · exact ok.word hW q703 args
  rcases List.mem_cons.mp hw with rfl | hw
  · exact va_Nw.use rfl (va_Nw.warmD hW (va_Nw.of rfl (ok.2.1 _ q211)))
  cases hw
theorem xa_owAE {w : Cond} (ok : xOK E) (hW : E.2.1.WarmedH s.vm) (hw : w ∈ ([.initialized "java/lang/ArithmeticException", .instantiable "java/lang/ArithmeticException" 6, .castable "java/lang/ArithmeticException" "java/lang/ArithmeticException", .selects "java/lang/ArithmeticException" Bundle.tFill0 Bundle.tFill0, .selects "java/lang/ArithmeticException" Bundle.tFill Bundle.tFill, .lays "java/lang/ArithmeticException" Bundle.tN "cause" "Ljava/lang/Throwable;", .lays "java/lang/ArithmeticException" Bundle.tN "stackTrace" Bundle.steD, .lays "java/lang/ArithmeticException" Bundle.tN "suppressedExceptions" Bundle.listD, .lays "java/lang/ArithmeticException" Bundle.tN "detailMessage" "Ljava/lang/String;", .isRef (.static Bundle.tN "UNASSIGNED_STACK" Bundle.steD), .isRef (.static Bundle.tN "SUPPRESSED_SENTINEL" Bundle.listD), .fieldLink Bundle.tN 198 Bundle.tN "backtrace" "Ljava/lang/Object;", .lays Bundle.tN Bundle.tN "backtrace" "Ljava/lang/Object;", .lays "java/lang/ArithmeticException" Bundle.tN "backtrace" "Ljava/lang/Object;"] : List Cond)) (hno : vx_no w = true) : w.before args s = true := by
  rcases List.mem_cons.mp hw with rfl | hw
  · exact ok.word hW q192 args
  rcases List.mem_cons.mp hw with rfl | hw
  · exact ok.word hW q1672 args
  rcases List.mem_cons.mp hw with rfl | hw
  · exact ok.castW hW q1683 args
  rcases List.mem_cons.mp hw with rfl | hw
  · exact ok.word hW q1684 args
  rcases List.mem_cons.mp hw with rfl | hw
  · exact ok.word hW q237 args
  rcases List.mem_cons.mp hw with rfl | hw
  · exact ok.word hW q1678 args
  rcases List.mem_cons.mp hw with rfl | hw
  · exact ok.word hW q1679 args
  rcases List.mem_cons.mp hw with rfl | hw
  · exact ok.word hW q1681 args
  rcases List.mem_cons.mp hw with rfl | hw
  · exact ok.word hW q1677 args
  rcases List.mem_cons.mp hw with rfl | hw
  · exact absurd hno (by decide)
  rcases List.mem_cons.mp hw with rfl | hw
  · exact absurd hno (by decide)
  rcases List.mem_cons.mp hw with rfl | hw
  · exact ok.word hW q224 args
  rcases List.mem_cons.mp hw with rfl | hw
  · exact ok.word hW q223 args
  rcases List.mem_cons.mp hw with rfl | hw
  · exact ok.word hW q1676 args
  cases hw
theorem xa_AE (ok : xOK E) (hW : E.2.1.WarmedH s.vm) : ∀ w ∈ vx_atM "java/lang/ArithmeticException" ["java/lang/RuntimeException", "java/lang/Exception"], w.before args s = true := by
  intro w hw
  obtain ⟨hw, hno⟩ := List.mem_filter.mp hw
  unfold Bundle.messageArmAtoms at hw
  rcases List.mem_append.mp hw with hw | hw
  · rcases List.mem_append.mp hw with hw | hw
    · rcases List.mem_append.mp hw with hw | hw
      · rcases List.mem_append.mp hw with hw | hw
        · exact xa_thr ok hW hw hno
        · exact xa_thrS ok hW hw hno
      · exact xa_chAE ok hW hw hno
    · exact xa_str ok hW hw hno
  · exact xa_owAE ok hW hw hno
theorem xg_AE : ∀ w ∈ vx_atM "java/lang/ArithmeticException" ["java/lang/RuntimeException", "java/lang/Exception"], vx_ot w = true := by decide +kernel
theorem xa_chAI {w : Cond} (ok : xOK E) (hW : E.2.1.WarmedH s.vm) (hw : w ∈ Bundle.chainSAtoms "java/lang/ArrayIndexOutOfBoundsException" ["java/lang/IndexOutOfBoundsException", "java/lang/RuntimeException", "java/lang/Exception"]) (hno : vx_no w = true) : w.before args s = true := by
  rcases List.mem_cons.mp hw with rfl | hw
  · exact ok.word hW q691 args
  rcases List.mem_cons.mp hw with rfl | hw
  · exact ok.word hW q692 args
  rcases List.mem_cons.mp hw with rfl | hw
  · exact ok.word hW q693 args
  rcases List.mem_cons.mp hw with rfl | hw
  · exact ok.word hW q694 args
  rcases List.mem_cons.mp hw with rfl | hw
  · exact va_Nw.use rfl (va_Nw.warmD hW (va_Nw.of rfl (ok.2.1 _ q714)))
  rcases List.mem_cons.mp hw with rfl | hw
  · exact ok.word hW q694 args
  rcases List.mem_cons.mp hw with rfl | hw
  · exact ok.word hW q695 args
  rcases List.mem_cons.mp hw with rfl | hw
  · exact ok.word hW q696 args
  rcases List.mem_cons.mp hw with rfl | hw
  · exact ok.word hW q697 args
  rcases List.mem_cons.mp hw with rfl | hw
  · exact va_Nw.use rfl (va_Nw.warmD hW (va_Nw.of rfl (ok.2.1 _ q207)))
  rcases List.mem_cons.mp hw with rfl | hw
  · exact ok.word hW q697 args
  rcases List.mem_cons.mp hw with rfl | hw
  · exact ok.word hW q698 args
  rcases List.mem_cons.mp hw with rfl | hw
  · exact ok.word hW q699 args
  rcases List.mem_cons.mp hw with rfl | hw
  · exact ok.word hW q700 args
  rcases List.mem_cons.mp hw with rfl | hw
  · exact va_Nw.use rfl (va_Nw.warmD hW (va_Nw.of rfl (ok.2.1 _ q209)))
  rcases List.mem_cons.mp hw with rfl | hw
  · exact ok.word hW q700 args
  rcases List.mem_cons.mp hw with rfl | hw
  · exact ok.word hW q701 args
  rcases List.mem_cons.mp hw with rfl | hw
  · exact ok.word hW q702 args
  rcases List.mem_cons.mp hw with rfl | hw
  · exact ok.word hW q703 args
  rcases List.mem_cons.mp hw with rfl | hw
  · exact va_Nw.use rfl (va_Nw.warmD hW (va_Nw.of rfl (ok.2.1 _ q211)))
  cases hw
theorem xa_owAI {w : Cond} (ok : xOK E) (hW : E.2.1.WarmedH s.vm) (hw : w ∈ ([.initialized "java/lang/ArrayIndexOutOfBoundsException", .instantiable "java/lang/ArrayIndexOutOfBoundsException" 6, .castable "java/lang/ArrayIndexOutOfBoundsException" "java/lang/ArrayIndexOutOfBoundsException", .selects "java/lang/ArrayIndexOutOfBoundsException" Bundle.tFill0 Bundle.tFill0, .selects "java/lang/ArrayIndexOutOfBoundsException" Bundle.tFill Bundle.tFill, .lays "java/lang/ArrayIndexOutOfBoundsException" Bundle.tN "cause" "Ljava/lang/Throwable;", .lays "java/lang/ArrayIndexOutOfBoundsException" Bundle.tN "stackTrace" Bundle.steD, .lays "java/lang/ArrayIndexOutOfBoundsException" Bundle.tN "suppressedExceptions" Bundle.listD, .lays "java/lang/ArrayIndexOutOfBoundsException" Bundle.tN "detailMessage" "Ljava/lang/String;", .isRef (.static Bundle.tN "UNASSIGNED_STACK" Bundle.steD), .isRef (.static Bundle.tN "SUPPRESSED_SENTINEL" Bundle.listD), .fieldLink Bundle.tN 198 Bundle.tN "backtrace" "Ljava/lang/Object;", .lays Bundle.tN Bundle.tN "backtrace" "Ljava/lang/Object;", .lays "java/lang/ArrayIndexOutOfBoundsException" Bundle.tN "backtrace" "Ljava/lang/Object;"] : List Cond)) (hno : vx_no w = true) : w.before args s = true := by
  rcases List.mem_cons.mp hw with rfl | hw
  · exact ok.word hW q163 args
  rcases List.mem_cons.mp hw with rfl | hw
  · exact ok.word hW q690 args
  rcases List.mem_cons.mp hw with rfl | hw
  · exact ok.castW hW q712 args
  rcases List.mem_cons.mp hw with rfl | hw
  · exact ok.word hW q715 args
  rcases List.mem_cons.mp hw with rfl | hw
  · exact ok.word hW q238 args
  rcases List.mem_cons.mp hw with rfl | hw
  · exact ok.word hW q707 args
  rcases List.mem_cons.mp hw with rfl | hw
  · exact ok.word hW q708 args
  rcases List.mem_cons.mp hw with rfl | hw
  · exact ok.word hW q710 args
  rcases List.mem_cons.mp hw with rfl | hw
  · exact ok.word hW q706 args
  rcases List.mem_cons.mp hw with rfl | hw
  · exact absurd hno (by decide)
  rcases List.mem_cons.mp hw with rfl | hw
  · exact absurd hno (by decide)
  rcases List.mem_cons.mp hw with rfl | hw
  · exact ok.word hW q224 args
  rcases List.mem_cons.mp hw with rfl | hw
  · exact ok.word hW q223 args
  rcases List.mem_cons.mp hw with rfl | hw
  · exact ok.word hW q705 args
  cases hw
theorem xa_AI (ok : xOK E) (hW : E.2.1.WarmedH s.vm) : ∀ w ∈ vx_atM "java/lang/ArrayIndexOutOfBoundsException" ["java/lang/IndexOutOfBoundsException", "java/lang/RuntimeException", "java/lang/Exception"], w.before args s = true := by
  intro w hw
  obtain ⟨hw, hno⟩ := List.mem_filter.mp hw
  unfold Bundle.messageArmAtoms at hw
  rcases List.mem_append.mp hw with hw | hw
  · rcases List.mem_append.mp hw with hw | hw
    · rcases List.mem_append.mp hw with hw | hw
      · rcases List.mem_append.mp hw with hw | hw
        · exact xa_thr ok hW hw hno
        · exact xa_thrS ok hW hw hno
      · exact xa_chAI ok hW hw hno
    · exact xa_str ok hW hw hno
  · exact xa_owAI ok hW hw hno
theorem xg_AI : ∀ w ∈ vx_atM "java/lang/ArrayIndexOutOfBoundsException" ["java/lang/IndexOutOfBoundsException", "java/lang/RuntimeException", "java/lang/Exception"], vx_ot w = true := by decide +kernel
theorem xa_chCC {w : Cond} (ok : xOK E) (hW : E.2.1.WarmedH s.vm) (hw : w ∈ Bundle.chainSAtoms "java/lang/ClassCastException" ["java/lang/RuntimeException", "java/lang/Exception"]) (hno : vx_no w = true) : w.before args s = true := by
  rcases List.mem_cons.mp hw with rfl | hw
  · exact ok.word hW q1456 args
  rcases List.mem_cons.mp hw with rfl | hw
  · exact ok.word hW q1457 args
  rcases List.mem_cons.mp hw with rfl | hw
  · exact ok.word hW q1458 args
  rcases List.mem_cons.mp hw with rfl | hw
  · exact ok.word hW q697 args
  rcases List.mem_cons.mp hw with rfl | hw
  · exact va_Nw.use rfl (va_Nw.warmD hW (va_Nw.of rfl (ok.2.1 _ q207)))
  rcases List.mem_cons.mp hw with rfl | hw
  · exact ok.word hW q697 args
  rcases List.mem_cons.mp hw with rfl | hw
  · exact ok.word hW q698 args
  rcases List.mem_cons.mp hw with rfl | hw
  · exact ok.word hW q699 args
  rcases List.mem_cons.mp hw with rfl | hw
  · exact ok.word hW q700 args
  rcases List.mem_cons.mp hw with rfl | hw
  · exact va_Nw.use rfl (va_Nw.warmD hW (va_Nw.of rfl (ok.2.1 _ q209)))
  rcases List.mem_cons.mp hw with rfl | hw
  · exact ok.word hW q700 args
  rcases List.mem_cons.mp hw with rfl | hw
  · exact ok.word hW q701 args
  rcases List.mem_cons.mp hw with rfl | hw
  · exact ok.word hW q702 args
  rcases List.mem_cons.mp hw with rfl | hw
  · exact ok.word hW q703 args
  rcases List.mem_cons.mp hw with rfl | hw
  · exact va_Nw.use rfl (va_Nw.warmD hW (va_Nw.of rfl (ok.2.1 _ q211)))
  cases hw
theorem xa_owCC {w : Cond} (ok : xOK E) (hW : E.2.1.WarmedH s.vm) (hw : w ∈ ([.initialized "java/lang/ClassCastException", .instantiable "java/lang/ClassCastException" 6, .castable "java/lang/ClassCastException" "java/lang/ClassCastException", .selects "java/lang/ClassCastException" Bundle.tFill0 Bundle.tFill0, .selects "java/lang/ClassCastException" Bundle.tFill Bundle.tFill, .lays "java/lang/ClassCastException" Bundle.tN "cause" "Ljava/lang/Throwable;", .lays "java/lang/ClassCastException" Bundle.tN "stackTrace" Bundle.steD, .lays "java/lang/ClassCastException" Bundle.tN "suppressedExceptions" Bundle.listD, .lays "java/lang/ClassCastException" Bundle.tN "detailMessage" "Ljava/lang/String;", .isRef (.static Bundle.tN "UNASSIGNED_STACK" Bundle.steD), .isRef (.static Bundle.tN "SUPPRESSED_SENTINEL" Bundle.listD), .fieldLink Bundle.tN 198 Bundle.tN "backtrace" "Ljava/lang/Object;", .lays Bundle.tN Bundle.tN "backtrace" "Ljava/lang/Object;", .lays "java/lang/ClassCastException" Bundle.tN "backtrace" "Ljava/lang/Object;"] : List Cond)) (hno : vx_no w = true) : w.before args s = true := by
  rcases List.mem_cons.mp hw with rfl | hw
  · exact ok.word hW q187 args
  rcases List.mem_cons.mp hw with rfl | hw
  · exact ok.word hW q1455 args
  rcases List.mem_cons.mp hw with rfl | hw
  · exact ok.castW hW q1466 args
  rcases List.mem_cons.mp hw with rfl | hw
  · exact ok.word hW q1467 args
  rcases List.mem_cons.mp hw with rfl | hw
  · exact ok.word hW q240 args
  rcases List.mem_cons.mp hw with rfl | hw
  · exact ok.word hW q1461 args
  rcases List.mem_cons.mp hw with rfl | hw
  · exact ok.word hW q1462 args
  rcases List.mem_cons.mp hw with rfl | hw
  · exact ok.word hW q1464 args
  rcases List.mem_cons.mp hw with rfl | hw
  · exact ok.word hW q1460 args
  rcases List.mem_cons.mp hw with rfl | hw
  · exact absurd hno (by decide)
  rcases List.mem_cons.mp hw with rfl | hw
  · exact absurd hno (by decide)
  rcases List.mem_cons.mp hw with rfl | hw
  · exact ok.word hW q224 args
  rcases List.mem_cons.mp hw with rfl | hw
  · exact ok.word hW q223 args
  rcases List.mem_cons.mp hw with rfl | hw
  · exact ok.word hW q1459 args
  cases hw
theorem xa_CC (ok : xOK E) (hW : E.2.1.WarmedH s.vm) : ∀ w ∈ vx_atM "java/lang/ClassCastException" ["java/lang/RuntimeException", "java/lang/Exception"], w.before args s = true := by
  intro w hw
  obtain ⟨hw, hno⟩ := List.mem_filter.mp hw
  unfold Bundle.messageArmAtoms at hw
  rcases List.mem_append.mp hw with hw | hw
  · rcases List.mem_append.mp hw with hw | hw
    · rcases List.mem_append.mp hw with hw | hw
      · rcases List.mem_append.mp hw with hw | hw
        · exact xa_thr ok hW hw hno
        · exact xa_thrS ok hW hw hno
      · exact xa_chCC ok hW hw hno
    · exact xa_str ok hW hw hno
  · exact xa_owCC ok hW hw hno
theorem xg_CC : ∀ w ∈ vx_atM "java/lang/ClassCastException" ["java/lang/RuntimeException", "java/lang/Exception"], vx_ot w = true := by decide +kernel
theorem xa_chNA {w : Cond} (ok : xOK E) (hW : E.2.1.WarmedH s.vm) (hw : w ∈ Bundle.chainSAtoms "java/lang/NegativeArraySizeException" ["java/lang/RuntimeException", "java/lang/Exception"]) (hno : vx_no w = true) : w.before args s = true := by
  rcases List.mem_cons.mp hw with rfl | hw
  · exact ok.word hW q1532 args
  rcases List.mem_cons.mp hw with rfl | hw
  · exact ok.word hW q1533 args
  rcases List.mem_cons.mp hw with rfl | hw
  · exact ok.word hW q1534 args
  rcases List.mem_cons.mp hw with rfl | hw
  · exact ok.word hW q697 args
  rcases List.mem_cons.mp hw with rfl | hw
  · exact va_Nw.use rfl (va_Nw.warmD hW (va_Nw.of rfl (ok.2.1 _ q207)))
  rcases List.mem_cons.mp hw with rfl | hw
  · exact ok.word hW q697 args
  rcases List.mem_cons.mp hw with rfl | hw
  · exact ok.word hW q698 args
  rcases List.mem_cons.mp hw with rfl | hw
  · exact ok.word hW q699 args
  rcases List.mem_cons.mp hw with rfl | hw
  · exact ok.word hW q700 args
  rcases List.mem_cons.mp hw with rfl | hw
  · exact va_Nw.use rfl (va_Nw.warmD hW (va_Nw.of rfl (ok.2.1 _ q209)))
  rcases List.mem_cons.mp hw with rfl | hw
  · exact ok.word hW q700 args
  rcases List.mem_cons.mp hw with rfl | hw
  · exact ok.word hW q701 args
  rcases List.mem_cons.mp hw with rfl | hw
  · exact ok.word hW q702 args
  rcases List.mem_cons.mp hw with rfl | hw
  · exact ok.word hW q703 args
  rcases List.mem_cons.mp hw with rfl | hw
  · exact va_Nw.use rfl (va_Nw.warmD hW (va_Nw.of rfl (ok.2.1 _ q211)))
  cases hw
theorem xa_owNA {w : Cond} (ok : xOK E) (hW : E.2.1.WarmedH s.vm) (hw : w ∈ ([.initialized "java/lang/NegativeArraySizeException", .instantiable "java/lang/NegativeArraySizeException" 6, .castable "java/lang/NegativeArraySizeException" "java/lang/NegativeArraySizeException", .selects "java/lang/NegativeArraySizeException" Bundle.tFill0 Bundle.tFill0, .selects "java/lang/NegativeArraySizeException" Bundle.tFill Bundle.tFill, .lays "java/lang/NegativeArraySizeException" Bundle.tN "cause" "Ljava/lang/Throwable;", .lays "java/lang/NegativeArraySizeException" Bundle.tN "stackTrace" Bundle.steD, .lays "java/lang/NegativeArraySizeException" Bundle.tN "suppressedExceptions" Bundle.listD, .lays "java/lang/NegativeArraySizeException" Bundle.tN "detailMessage" "Ljava/lang/String;", .isRef (.static Bundle.tN "UNASSIGNED_STACK" Bundle.steD), .isRef (.static Bundle.tN "SUPPRESSED_SENTINEL" Bundle.listD), .fieldLink Bundle.tN 198 Bundle.tN "backtrace" "Ljava/lang/Object;", .lays Bundle.tN Bundle.tN "backtrace" "Ljava/lang/Object;", .lays "java/lang/NegativeArraySizeException" Bundle.tN "backtrace" "Ljava/lang/Object;"] : List Cond)) (hno : vx_no w = true) : w.before args s = true := by
  rcases List.mem_cons.mp hw with rfl | hw
  · exact ok.word hW q188 args
  rcases List.mem_cons.mp hw with rfl | hw
  · exact ok.word hW q1531 args
  rcases List.mem_cons.mp hw with rfl | hw
  · exact ok.castW hW q1542 args
  rcases List.mem_cons.mp hw with rfl | hw
  · exact ok.word hW q1543 args
  rcases List.mem_cons.mp hw with rfl | hw
  · exact ok.word hW q241 args
  rcases List.mem_cons.mp hw with rfl | hw
  · exact ok.word hW q1537 args
  rcases List.mem_cons.mp hw with rfl | hw
  · exact ok.word hW q1538 args
  rcases List.mem_cons.mp hw with rfl | hw
  · exact ok.word hW q1540 args
  rcases List.mem_cons.mp hw with rfl | hw
  · exact ok.word hW q1536 args
  rcases List.mem_cons.mp hw with rfl | hw
  · exact absurd hno (by decide)
  rcases List.mem_cons.mp hw with rfl | hw
  · exact absurd hno (by decide)
  rcases List.mem_cons.mp hw with rfl | hw
  · exact ok.word hW q224 args
  rcases List.mem_cons.mp hw with rfl | hw
  · exact ok.word hW q223 args
  rcases List.mem_cons.mp hw with rfl | hw
  · exact ok.word hW q1535 args
  cases hw
theorem xa_NA (ok : xOK E) (hW : E.2.1.WarmedH s.vm) : ∀ w ∈ vx_atM "java/lang/NegativeArraySizeException" ["java/lang/RuntimeException", "java/lang/Exception"], w.before args s = true := by
  intro w hw
  obtain ⟨hw, hno⟩ := List.mem_filter.mp hw
  unfold Bundle.messageArmAtoms at hw
  rcases List.mem_append.mp hw with hw | hw
  · rcases List.mem_append.mp hw with hw | hw
    · rcases List.mem_append.mp hw with hw | hw
      · rcases List.mem_append.mp hw with hw | hw
        · exact xa_thr ok hW hw hno
        · exact xa_thrS ok hW hw hno
      · exact xa_chNA ok hW hw hno
    · exact xa_str ok hW hw hno
  · exact xa_owNA ok hW hw hno
theorem xg_NA : ∀ w ∈ vx_atM "java/lang/NegativeArraySizeException" ["java/lang/RuntimeException", "java/lang/Exception"], vx_ot w = true := by decide +kernel
theorem xa_chAS {w : Cond} (ok : xOK E) (hW : E.2.1.WarmedH s.vm) (hw : w ∈ Bundle.chainSAtoms "java/lang/ArrayStoreException" ["java/lang/RuntimeException", "java/lang/Exception"]) (hno : vx_no w = true) : w.before args s = true := by
  rcases List.mem_cons.mp hw with rfl | hw
  · exact ok.word hW q1603 args
  rcases List.mem_cons.mp hw with rfl | hw
  · exact ok.word hW q1604 args
  rcases List.mem_cons.mp hw with rfl | hw
  · exact ok.word hW q1605 args
  rcases List.mem_cons.mp hw with rfl | hw
  · exact ok.word hW q697 args
  rcases List.mem_cons.mp hw with rfl | hw
  · exact va_Nw.use rfl (va_Nw.warmD hW (va_Nw.of rfl (ok.2.1 _ q207)))
  rcases List.mem_cons.mp hw with rfl | hw
  · exact ok.word hW q697 args
  rcases List.mem_cons.mp hw with rfl | hw
  · exact ok.word hW q698 args
  rcases List.mem_cons.mp hw with rfl | hw
  · exact ok.word hW q699 args
  rcases List.mem_cons.mp hw with rfl | hw
  · exact ok.word hW q700 args
  rcases List.mem_cons.mp hw with rfl | hw
  · exact va_Nw.use rfl (va_Nw.warmD hW (va_Nw.of rfl (ok.2.1 _ q209)))
  rcases List.mem_cons.mp hw with rfl | hw
  · exact ok.word hW q700 args
  rcases List.mem_cons.mp hw with rfl | hw
  · exact ok.word hW q701 args
  rcases List.mem_cons.mp hw with rfl | hw
  · exact ok.word hW q702 args
  rcases List.mem_cons.mp hw with rfl | hw
  · exact ok.word hW q703 args
  rcases List.mem_cons.mp hw with rfl | hw
  · exact va_Nw.use rfl (va_Nw.warmD hW (va_Nw.of rfl (ok.2.1 _ q211)))
  cases hw
theorem xa_owAS {w : Cond} (ok : xOK E) (hW : E.2.1.WarmedH s.vm) (hw : w ∈ ([.initialized "java/lang/ArrayStoreException", .instantiable "java/lang/ArrayStoreException" 6, .castable "java/lang/ArrayStoreException" "java/lang/ArrayStoreException", .selects "java/lang/ArrayStoreException" Bundle.tFill0 Bundle.tFill0, .selects "java/lang/ArrayStoreException" Bundle.tFill Bundle.tFill, .lays "java/lang/ArrayStoreException" Bundle.tN "cause" "Ljava/lang/Throwable;", .lays "java/lang/ArrayStoreException" Bundle.tN "stackTrace" Bundle.steD, .lays "java/lang/ArrayStoreException" Bundle.tN "suppressedExceptions" Bundle.listD, .lays "java/lang/ArrayStoreException" Bundle.tN "detailMessage" "Ljava/lang/String;", .isRef (.static Bundle.tN "UNASSIGNED_STACK" Bundle.steD), .isRef (.static Bundle.tN "SUPPRESSED_SENTINEL" Bundle.listD), .fieldLink Bundle.tN 198 Bundle.tN "backtrace" "Ljava/lang/Object;", .lays Bundle.tN Bundle.tN "backtrace" "Ljava/lang/Object;", .lays "java/lang/ArrayStoreException" Bundle.tN "backtrace" "Ljava/lang/Object;"] : List Cond)) (hno : vx_no w = true) : w.before args s = true := by
  rcases List.mem_cons.mp hw with rfl | hw
  · exact ok.word hW q190 args
  rcases List.mem_cons.mp hw with rfl | hw
  · exact ok.word hW q1602 args
  rcases List.mem_cons.mp hw with rfl | hw
  · exact ok.castW hW q1613 args
  rcases List.mem_cons.mp hw with rfl | hw
  · exact ok.word hW q1614 args
  rcases List.mem_cons.mp hw with rfl | hw
  · exact ok.word hW q239 args
  rcases List.mem_cons.mp hw with rfl | hw
  · exact ok.word hW q1608 args
  rcases List.mem_cons.mp hw with rfl | hw
  · exact ok.word hW q1609 args
  rcases List.mem_cons.mp hw with rfl | hw
  · exact ok.word hW q1611 args
  rcases List.mem_cons.mp hw with rfl | hw
  · exact ok.word hW q1607 args
  rcases List.mem_cons.mp hw with rfl | hw
  · exact absurd hno (by decide)
  rcases List.mem_cons.mp hw with rfl | hw
  · exact absurd hno (by decide)
  rcases List.mem_cons.mp hw with rfl | hw
  · exact ok.word hW q224 args
  rcases List.mem_cons.mp hw with rfl | hw
  · exact ok.word hW q223 args
  rcases List.mem_cons.mp hw with rfl | hw
  · exact ok.word hW q1606 args
  cases hw
theorem xa_AS (ok : xOK E) (hW : E.2.1.WarmedH s.vm) : ∀ w ∈ vx_atM "java/lang/ArrayStoreException" ["java/lang/RuntimeException", "java/lang/Exception"], w.before args s = true := by
  intro w hw
  obtain ⟨hw, hno⟩ := List.mem_filter.mp hw
  unfold Bundle.messageArmAtoms at hw
  rcases List.mem_append.mp hw with hw | hw
  · rcases List.mem_append.mp hw with hw | hw
    · rcases List.mem_append.mp hw with hw | hw
      · rcases List.mem_append.mp hw with hw | hw
        · exact xa_thr ok hW hw hno
        · exact xa_thrS ok hW hw hno
      · exact xa_chAS ok hW hw hno
    · exact xa_str ok hW hw hno
  · exact xa_owAS ok hW hw hno
theorem xg_AS : ∀ w ∈ vx_atM "java/lang/ArrayStoreException" ["java/lang/RuntimeException", "java/lang/Exception"], vx_ot w = true := by decide +kernel
theorem xa_npe {w : Cond} (ok : xOK E) (hW : E.2.1.WarmedH s.vm) (hw : w ∈ Bundle.npeAtoms) (hno : vx_no w = true) : w.before args s = true := by
  rcases List.mem_cons.mp hw with rfl | hw
  · exact ok.word hW q253 args
  rcases List.mem_cons.mp hw with rfl | hw
  · exact ok.word hW q243 args
  rcases List.mem_cons.mp hw with rfl | hw
  · exact ok.word hW q244 args
  rcases List.mem_cons.mp hw with rfl | hw
  · exact ok.word hW q1575 args
  rcases List.mem_cons.mp hw with rfl | hw
  · exact ok.word hW q1577 args
  rcases List.mem_cons.mp hw with rfl | hw
  · exact ok.word hW q250 args
  rcases List.mem_cons.mp hw with rfl | hw
  · exact ok.word hW q251 args
  rcases List.mem_cons.mp hw with rfl | hw
  · exact ok.castW hW q1589 args
  cases hw
theorem xa_p0 {w : Cond} (ok : xOK E) (hW : E.2.1.WarmedH s.vm) (hw : w ∈ Bundle.passAtoms Bundle.nN Bundle.rN 1 LibCode.NullPointerException.Init0.code) (hno : vx_no w = true) : w.before args s = true := by
  rcases List.mem_cons.mp hw with rfl | hw
  · exact ok.word hW q1566 args
  rcases List.mem_cons.mp hw with rfl | hw
  · exact ok.word hW q1567 args
  rcases List.mem_cons.mp hw with rfl | hw
  · exact ok.word hW q1568 args
  rcases List.mem_cons.mp hw with rfl | hw
  · exact ok.word hW q1569 args
  rcases List.mem_cons.mp hw with rfl | hw
  · exact va_Nw.use rfl (va_Nw.warmD hW (va_Nw.of rfl (ok.2.1 _ q206)))
  cases hw
theorem xa_p1 {w : Cond} (ok : xOK E) (hW : E.2.1.WarmedH s.vm) (hw : w ∈ Bundle.passAtoms Bundle.rN Bundle.eN 1 LibCode.RuntimeException.Init0.code) (hno : vx_no w = true) : w.before args s = true := by
  rcases List.mem_cons.mp hw with rfl | hw
  · exact ok.word hW q1569 args
  rcases List.mem_cons.mp hw with rfl | hw
  · exact ok.word hW q1570 args
  rcases List.mem_cons.mp hw with rfl | hw
  · exact ok.word hW q1571 args
  rcases List.mem_cons.mp hw with rfl | hw
  · exact ok.word hW q1572 args
  rcases List.mem_cons.mp hw with rfl | hw
  · exact va_Nw.use rfl (va_Nw.warmD hW (va_Nw.of rfl (ok.2.1 _ q208)))
  cases hw
theorem xa_p2 {w : Cond} (ok : xOK E) (hW : E.2.1.WarmedH s.vm) (hw : w ∈ Bundle.passAtoms Bundle.eN Bundle.tN 1 LibCode.Exception.Init0.code) (hno : vx_no w = true) : w.before args s = true := by
  rcases List.mem_cons.mp hw with rfl | hw
  · exact ok.word hW q1572 args
  rcases List.mem_cons.mp hw with rfl | hw
  · exact ok.word hW q1573 args
  rcases List.mem_cons.mp hw with rfl | hw
  · exact ok.word hW q1574 args
  rcases List.mem_cons.mp hw with rfl | hw
  · exact ok.word hW q226 args
  rcases List.mem_cons.mp hw with rfl | hw
  · exact va_Nw.use rfl (va_Nw.warmD hW (va_Nw.of rfl (ok.2.1 _ q210)))
  cases hw
theorem xa_owN {w : Cond} (ok : xOK E) (hW : E.2.1.WarmedH s.vm) (hw : w ∈ ([.initialized Bundle.nN, .instantiable Bundle.nN 8, .castable Bundle.nN Bundle.nN, .selects Bundle.nN Bundle.tFill0 Bundle.tFill0, .selects Bundle.nN Bundle.tFill Bundle.nFill, .lays Bundle.nN Bundle.tN "cause" "Ljava/lang/Throwable;", .lays Bundle.nN Bundle.tN "stackTrace" Bundle.steD, .lays Bundle.nN Bundle.tN "suppressedExceptions" Bundle.listD, .isRef (.static Bundle.tN "UNASSIGNED_STACK" Bundle.steD), .isRef (.static Bundle.tN "SUPPRESSED_SENTINEL" Bundle.listD), .fieldLink Bundle.tN 198 Bundle.tN "backtrace" Bundle.objD, .lays Bundle.tN Bundle.tN "backtrace" Bundle.objD, .lays Bundle.nN Bundle.tN "backtrace" Bundle.objD] : List Cond)) (hno : vx_no w = true) : w.before args s = true := by
  rcases List.mem_cons.mp hw with rfl | hw
  · exact ok.word hW q189 args
  rcases List.mem_cons.mp hw with rfl | hw
  · exact ok.word hW q248 args
  rcases List.mem_cons.mp hw with rfl | hw
  · exact ok.castW hW q1587 args
  rcases List.mem_cons.mp hw with rfl | hw
  · exact ok.word hW q1588 args
  rcases List.mem_cons.mp hw with rfl | hw
  · exact ok.word hW q242 args
  rcases List.mem_cons.mp hw with rfl | hw
  · exact ok.word hW q1583 args
  rcases List.mem_cons.mp hw with rfl | hw
  · exact ok.word hW q1584 args
  rcases List.mem_cons.mp hw with rfl | hw
  · exact ok.word hW q1586 args
  rcases List.mem_cons.mp hw with rfl | hw
  · exact absurd hno (by decide)
  rcases List.mem_cons.mp hw with rfl | hw
  · exact absurd hno (by decide)
  rcases List.mem_cons.mp hw with rfl | hw
  · exact ok.word hW q224 args
  rcases List.mem_cons.mp hw with rfl | hw
  · exact ok.word hW q223 args
  rcases List.mem_cons.mp hw with rfl | hw
  · exact ok.word hW q1581 args
  cases hw
theorem xa_NP (ok : xOK E) (hW : E.2.1.WarmedH s.vm) : ∀ w ∈ vx_atN 8, w.before args s = true := by
  intro w hw
  obtain ⟨hw, hno⟩ := List.mem_filter.mp hw
  unfold Bundle.npeArmAtoms at hw
  rcases List.mem_append.mp hw with hw | hw
  · rcases List.mem_append.mp hw with hw | hw
    · rcases List.mem_append.mp hw with hw | hw
      · rcases List.mem_append.mp hw with hw | hw
        · rcases List.mem_append.mp hw with hw | hw
          · exact xa_thr ok hW hw hno
          · exact xa_npe ok hW hw hno
        · exact xa_p0 ok hW hw hno
      · exact xa_p1 ok hW hw hno
    · exact xa_p2 ok hW hw hno
  · exact xa_owN ok hW hw hno
theorem xg_NP : ∀ w ∈ vx_atN 8, vx_ot w = true := by decide +kernel
end XJ11
