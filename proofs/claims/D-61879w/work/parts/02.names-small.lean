/-! java/lang/Object -/
set_option maxRecDepth 100000
def RJ8 : String := "java/lang/Object"
abbrev cJ8_init : ByteArray := object_method_1_code
def yJ8_init : MethodName := ⟨RJ8, "<init>", "()V"⟩
theorem dJ8_init_0 : decode cJ8_init 0 = .ok (.return_, 1) := by decide +kernel
theorem q67 : (Jvm.Cond.instanceMethod ({ cls := "java/lang/Object", name := "<init>", desc := "()V" } : Jvm.MethodName)) ∈ lw_all := lw_g (lw_at lw_m1 23 rfl) rfl
theorem q68 : (Jvm.Cond.code ({ cls := "java/lang/Object", name := "<init>", desc := "()V" } : Jvm.MethodName) object_method_1_code (1 : Nat) (Option.none : Option Jvm.ClassFile.FieldType)) ∈ lw_all := lw_g (lw_at lw_m1 24 rfl) rfl

/-! java/lang/Math -/
set_option maxRecDepth 100000
def RJ0 : String := "java/lang/Math"
abbrev cJ0_min : ByteArray := prog_15_method_69_code
def yJ0_min : MethodName := ⟨RJ0, "min", "(II)I"⟩
theorem dJ0_min_0 : decode cJ0_min 0 = .ok (.iload_n 0, 1) := by decide +kernel
theorem dJ0_min_1 : decode cJ0_min 1 = .ok (.iload_n 1, 1) := by decide +kernel
theorem dJ0_min_2 : decode cJ0_min 2 = .ok (.if_icmp .gt 7, 3) := by decide +kernel
theorem dJ0_min_5 : decode cJ0_min 5 = .ok (.iload_n 0, 1) := by decide +kernel
theorem dJ0_min_6 : decode cJ0_min 6 = .ok (.goto 4, 3) := by decide +kernel
theorem dJ0_min_9 : decode cJ0_min 9 = .ok (.iload_n 1, 1) := by decide +kernel
theorem dJ0_min_10 : decode cJ0_min 10 = .ok (.ireturn, 1) := by decide +kernel
abbrev cJ0_max : ByteArray := prog_15_method_65_code
def yJ0_max : MethodName := ⟨RJ0, "max", "(II)I"⟩
theorem dJ0_max_0 : decode cJ0_max 0 = .ok (.iload_n 0, 1) := by decide +kernel
theorem dJ0_max_1 : decode cJ0_max 1 = .ok (.iload_n 1, 1) := by decide +kernel
theorem dJ0_max_2 : decode cJ0_max 2 = .ok (.if_icmp .lt 7, 3) := by decide +kernel
theorem dJ0_max_5 : decode cJ0_max 5 = .ok (.iload_n 0, 1) := by decide +kernel
theorem dJ0_max_6 : decode cJ0_max 6 = .ok (.goto 4, 3) := by decide +kernel
theorem dJ0_max_9 : decode cJ0_max 9 = .ok (.iload_n 1, 1) := by decide +kernel
theorem dJ0_max_10 : decode cJ0_max 10 = .ok (.ireturn, 1) := by decide +kernel
theorem q49 : (Jvm.Cond.initialized "java/lang/Math") ∈ lw_all := lw_g (lw_at lw_m1 5 rfl) rfl
theorem q135 : (Jvm.Cond.static ({ cls := "java/lang/Math", name := "min", desc := "(II)I" } : Jvm.MethodName)) ∈ lw_all := lw_g (lw_at lw_m1 91 rfl) rfl
theorem q136 : (Jvm.Cond.code ({ cls := "java/lang/Math", name := "min", desc := "(II)I" } : Jvm.MethodName) prog_15_method_69_code (2 : Nat) (Option.some Jvm.ClassFile.FieldType.int)) ∈ lw_all := lw_g (lw_at lw_m1 92 rfl) rfl
theorem q138 : (Jvm.Cond.static ({ cls := "java/lang/Math", name := "max", desc := "(II)I" } : Jvm.MethodName)) ∈ lw_all := lw_g (lw_at lw_m1 94 rfl) rfl
theorem q139 : (Jvm.Cond.code ({ cls := "java/lang/Math", name := "max", desc := "(II)I" } : Jvm.MethodName) prog_15_method_65_code (2 : Nat) (Option.some Jvm.ClassFile.FieldType.int)) ∈ lw_all := lw_g (lw_at lw_m1 95 rfl) rfl

/-! java/lang/Throwable -/
set_option maxRecDepth 100000
def RJ1 : String := "java/lang/Throwable"
def TJ1 : u_T := fun k => match k with
  | 0 => ("java/lang/Throwable", "cause", "Ljava/lang/Throwable;", false)
  | 1 => ("java/lang/Throwable", "stackTrace", "[Ljava/lang/StackTraceElement;", false)
  | 2 => ("java/lang/Throwable", "suppressedExceptions", "Ljava/util/List;", false)
  | 3 => ("java/lang/Throwable", "detailMessage", "Ljava/lang/String;", false)
  | _ => ("java/lang/Throwable", "backtrace", "Ljava/lang/Object;", false)
def tyJ1 : Nat → FieldType := fun k => match k with
  | 0 => .object "java/lang/Throwable"
  | 1 => .array (.object "java/lang/StackTraceElement")
  | 2 => .object "java/util/List"
  | 3 => .object "java/lang/String"
  | _ => .object "java/lang/Object"
abbrev wsJ10 : List Cond := u_ws RJ1 TJ1 5
theorem nmJ1 : ∀ a, a < 5 → ∀ b, b < 5 → a ≠ b → (TJ1 a).2.1 ≠ (TJ1 b).2.1 := by decide +kernel
theorem tyJ1_ok : ∀ k, k < 5 → parseFieldDescriptor (TJ1 k).2.2.1 = some (tyJ1 k) := by decide +kernel
abbrev cJ1_init : ByteArray := prog_18_method_1_code
def yJ1_init : MethodName := ⟨RJ1, "<init>", "()V"⟩
theorem dJ1_init_0 : decode cJ1_init 0 = .ok (.aload_n 0, 1) := by decide +kernel
theorem dJ1_init_1 : decode cJ1_init 1 = .ok (.invokespecial 1, 3) := by decide +kernel
theorem dJ1_init_4 : decode cJ1_init 4 = .ok (.aload_n 0, 1) := by decide +kernel
theorem dJ1_init_5 : decode cJ1_init 5 = .ok (.aload_n 0, 1) := by decide +kernel
theorem dJ1_init_6 : decode cJ1_init 6 = .ok (.putfield 7, 3) := by decide +kernel
theorem dJ1_init_9 : decode cJ1_init 9 = .ok (.aload_n 0, 1) := by decide +kernel
theorem dJ1_init_10 : decode cJ1_init 10 = .ok (.getstatic 13, 3) := by decide +kernel
theorem dJ1_init_13 : decode cJ1_init 13 = .ok (.putfield 17, 3) := by decide +kernel
theorem dJ1_init_16 : decode cJ1_init 16 = .ok (.aload_n 0, 1) := by decide +kernel
theorem dJ1_init_17 : decode cJ1_init 17 = .ok (.getstatic 20, 3) := by decide +kernel
theorem dJ1_init_20 : decode cJ1_init 20 = .ok (.putfield 24, 3) := by decide +kernel
theorem dJ1_init_23 : decode cJ1_init 23 = .ok (.aload_n 0, 1) := by decide +kernel
theorem dJ1_init_24 : decode cJ1_init 24 = .ok (.invokevirtual 27, 3) := by decide +kernel
theorem dJ1_init_27 : decode cJ1_init 27 = .ok (.pop, 1) := by decide +kernel
theorem dJ1_init_28 : decode cJ1_init 28 = .ok (.return_, 1) := by decide +kernel
abbrev cJ1_init_2 : ByteArray := prog_18_method_2_code
def yJ1_init_2 : MethodName := ⟨RJ1, "<init>", "(Ljava/lang/String;)V"⟩
theorem dJ1_init_2_0 : decode cJ1_init_2 0 = .ok (.aload_n 0, 1) := by decide +kernel
theorem dJ1_init_2_1 : decode cJ1_init_2 1 = .ok (.invokespecial 1, 3) := by decide +kernel
theorem dJ1_init_2_4 : decode cJ1_init_2 4 = .ok (.aload_n 0, 1) := by decide +kernel
theorem dJ1_init_2_5 : decode cJ1_init_2 5 = .ok (.aload_n 0, 1) := by decide +kernel
theorem dJ1_init_2_6 : decode cJ1_init_2 6 = .ok (.putfield 7, 3) := by decide +kernel
theorem dJ1_init_2_9 : decode cJ1_init_2 9 = .ok (.aload_n 0, 1) := by decide +kernel
theorem dJ1_init_2_10 : decode cJ1_init_2 10 = .ok (.getstatic 13, 3) := by decide +kernel
theorem dJ1_init_2_13 : decode cJ1_init_2 13 = .ok (.putfield 17, 3) := by decide +kernel
theorem dJ1_init_2_16 : decode cJ1_init_2 16 = .ok (.aload_n 0, 1) := by decide +kernel
theorem dJ1_init_2_17 : decode cJ1_init_2 17 = .ok (.getstatic 20, 3) := by decide +kernel
theorem dJ1_init_2_20 : decode cJ1_init_2 20 = .ok (.putfield 24, 3) := by decide +kernel
theorem dJ1_init_2_23 : decode cJ1_init_2 23 = .ok (.aload_n 0, 1) := by decide +kernel
theorem dJ1_init_2_24 : decode cJ1_init_2 24 = .ok (.invokevirtual 27, 3) := by decide +kernel
theorem dJ1_init_2_27 : decode cJ1_init_2 27 = .ok (.pop, 1) := by decide +kernel
theorem dJ1_init_2_28 : decode cJ1_init_2 28 = .ok (.aload_n 0, 1) := by decide +kernel
theorem dJ1_init_2_29 : decode cJ1_init_2 29 = .ok (.aload_n 1, 1) := by decide +kernel
theorem dJ1_init_2_30 : decode cJ1_init_2 30 = .ok (.putfield 31, 3) := by decide +kernel
theorem dJ1_init_2_33 : decode cJ1_init_2 33 = .ok (.return_, 1) := by decide +kernel
theorem q51 : (Jvm.Cond.initialized "java/lang/Throwable") ∈ lw_all := lw_g (lw_at lw_m1 7 rfl) rfl
theorem q281 : (Jvm.Cond.declares ({ cls := "java/lang/Throwable", name := "<init>", desc := "()V" } : Jvm.MethodName)) ∈ lw_tbl := lw_at lw_m1 237 rfl
theorem q282 : (Jvm.Cond.declares ({ cls := "java/lang/Throwable", name := "<init>", desc := "(Ljava/lang/String;)V" } : Jvm.MethodName)) ∈ lw_tbl := lw_at lw_m1 238 rfl
theorem q286 : (Jvm.Cond.lays "java/lang/Throwable" "java/lang/Throwable" "cause" "Ljava/lang/Throwable;") ∈ lw_all := lw_g (lw_at lw_m2 2 rfl) rfl
theorem q288 : (Jvm.Cond.lays "java/lang/Throwable" "java/lang/Throwable" "stackTrace" "[Ljava/lang/StackTraceElement;") ∈ lw_all := lw_g (lw_at lw_m2 4 rfl) rfl
theorem q290 : (Jvm.Cond.lays "java/lang/Throwable" "java/lang/Throwable" "suppressedExceptions" "Ljava/util/List;") ∈ lw_all := lw_g (lw_at lw_m2 6 rfl) rfl
theorem q292 : (Jvm.Cond.lays "java/lang/Throwable" "java/lang/Throwable" "detailMessage" "Ljava/lang/String;") ∈ lw_all := lw_g (lw_at lw_m2 8 rfl) rfl
theorem q294 : (Jvm.Cond.lays "java/lang/Throwable" "java/lang/Throwable" "backtrace" "Ljava/lang/Object;") ∈ lw_all := lw_g (lw_at lw_m2 10 rfl) rfl
theorem q295 : (Jvm.Cond.fieldLink "java/lang/Throwable" (198 : Nat) "java/lang/Throwable" "backtrace" "Ljava/lang/Object;") ∈ lw_all := lw_g (lw_at lw_m2 11 rfl) rfl
theorem q296 : (Jvm.Cond.superclass "java/lang/Throwable" "java/lang/Object") ∈ lw_all := lw_g (lw_at lw_m2 12 rfl) rfl
theorem q297 : (Jvm.Cond.instanceMethod ({ cls := "java/lang/Throwable", name := "<init>", desc := "()V" } : Jvm.MethodName)) ∈ lw_all := lw_g (lw_at lw_m2 13 rfl) rfl
theorem q298 : (Jvm.Cond.code ({ cls := "java/lang/Throwable", name := "<init>", desc := "()V" } : Jvm.MethodName) prog_18_method_1_code (1 : Nat) (Option.none : Option Jvm.ClassFile.FieldType)) ∈ lw_all := lw_g (lw_at lw_m2 14 rfl) rfl
theorem q299 : (Jvm.Cond.methodLink "java/lang/Throwable" (1 : Nat) ({ cls := "java/lang/Object", name := "<init>", desc := "()V" } : Jvm.MethodName)) ∈ lw_all := lw_g (lw_at lw_m2 15 rfl) rfl
theorem q300 : (Jvm.Cond.fieldLink "java/lang/Throwable" (13 : Nat) "java/lang/Throwable" "UNASSIGNED_STACK" "[Ljava/lang/StackTraceElement;") ∈ lw_all := lw_g (lw_at lw_m2 16 rfl) rfl
theorem q301 : (Jvm.Cond.laysStatic "java/lang/Throwable" "UNASSIGNED_STACK" "[Ljava/lang/StackTraceElement;") ∈ lw_tbl := lw_at lw_m2 17 rfl
theorem q302 : (Jvm.Cond.fieldLink "java/lang/Throwable" (20 : Nat) "java/lang/Throwable" "SUPPRESSED_SENTINEL" "Ljava/util/List;") ∈ lw_all := lw_g (lw_at lw_m2 18 rfl) rfl
theorem q303 : (Jvm.Cond.laysStatic "java/lang/Throwable" "SUPPRESSED_SENTINEL" "Ljava/util/List;") ∈ lw_tbl := lw_at lw_m2 19 rfl
theorem q304 : (Jvm.Cond.methodLink "java/lang/Throwable" (27 : Nat) ({ cls := "java/lang/Throwable", name := "fillInStackTrace", desc := "()Ljava/lang/Throwable;" } : Jvm.MethodName)) ∈ lw_all := lw_g (lw_at lw_m2 20 rfl) rfl
theorem q305 : (Jvm.Cond.instanceMethod ({ cls := "java/lang/Throwable", name := "fillInStackTrace", desc := "()Ljava/lang/Throwable;" } : Jvm.MethodName)) ∈ lw_all := lw_g (lw_at lw_m2 21 rfl) rfl
theorem q306 : (Jvm.Cond.sameMethod "java/lang/Throwable" "java/lang/Throwable" "fillInStackTrace" "()Ljava/lang/Throwable;") ∈ lw_all := lw_g (lw_at lw_m2 22 rfl) rfl
theorem q309 : (Jvm.Cond.codeSync ({ cls := "java/lang/Throwable", name := "fillInStackTrace", desc := "()Ljava/lang/Throwable;" } : Jvm.MethodName) prog_18_method_18_code (1 : Nat) (Option.some (Jvm.ClassFile.FieldType.object "java/lang/Throwable"))) ∈ lw_all := lw_g (lw_at lw_m2 25 rfl) rfl
theorem q310 : (Jvm.Cond.methodLink "java/lang/Throwable" (202 : Nat) ({ cls := "java/lang/Throwable", name := "fillInStackTrace", desc := "(I)Ljava/lang/Throwable;" } : Jvm.MethodName)) ∈ lw_all := lw_g (lw_at lw_m2 26 rfl) rfl
theorem q311 : (Jvm.Cond.privateMethod ({ cls := "java/lang/Throwable", name := "fillInStackTrace", desc := "(I)Ljava/lang/Throwable;" } : Jvm.MethodName)) ∈ lw_tbl := lw_at lw_m2 27 rfl
theorem q312 : (Jvm.Cond.instanceMethod ({ cls := "java/lang/Throwable", name := "fillInStackTrace", desc := "(I)Ljava/lang/Throwable;" } : Jvm.MethodName)) ∈ lw_all := lw_g (lw_at lw_m2 28 rfl) rfl
theorem q313 : (Jvm.Cond.instantiable "java/lang/Throwable" (6 : Nat)) ∈ lw_all := lw_g (lw_at lw_m2 29 rfl) rfl
theorem q314 : (Jvm.Cond.native ({ cls := "java/lang/Throwable", name := "fillInStackTrace", desc := "(I)Ljava/lang/Throwable;" } : Jvm.MethodName)) ∈ lw_all := lw_g (lw_at lw_m2 30 rfl) rfl
theorem q325 : (Jvm.Cond.fieldLink "java/lang/Throwable" (198 : Nat) "java/lang/Throwable" "backtrace" "Ljava/lang/Object;") ∈ lw_all := lw_g (lw_at lw_m2 41 rfl) rfl
theorem q326 : (Jvm.Cond.fieldLink "java/lang/Throwable" (31 : Nat) "java/lang/Throwable" "detailMessage" "Ljava/lang/String;") ∈ lw_all := lw_g (lw_at lw_m2 42 rfl) rfl
theorem q327 : (Jvm.Cond.fieldLink "java/lang/Throwable" (7 : Nat) "java/lang/Throwable" "cause" "Ljava/lang/Throwable;") ∈ lw_all := lw_g (lw_at lw_m2 43 rfl) rfl
theorem q328 : (Jvm.Cond.fieldLink "java/lang/Throwable" (17 : Nat) "java/lang/Throwable" "stackTrace" "[Ljava/lang/StackTraceElement;") ∈ lw_all := lw_g (lw_at lw_m2 44 rfl) rfl
theorem q329 : (Jvm.Cond.fieldLink "java/lang/Throwable" (24 : Nat) "java/lang/Throwable" "suppressedExceptions" "Ljava/util/List;") ∈ lw_all := lw_g (lw_at lw_m2 45 rfl) rfl
theorem q330 : (Jvm.Cond.soleField "java/lang/Throwable" "backtrace") ∈ lw_all := lw_g (lw_at lw_m2 46 rfl) rfl
theorem q331 : (Jvm.Cond.soleField "java/lang/Throwable" "detailMessage") ∈ lw_all := lw_g (lw_at lw_m2 47 rfl) rfl
theorem q332 : (Jvm.Cond.soleField "java/lang/Throwable" "cause") ∈ lw_all := lw_g (lw_at lw_m2 48 rfl) rfl
theorem q333 : (Jvm.Cond.soleField "java/lang/Throwable" "stackTrace") ∈ lw_all := lw_g (lw_at lw_m2 49 rfl) rfl
theorem q335 : (Jvm.Cond.soleField "java/lang/Throwable" "depth") ∈ lw_all := lw_g (lw_at lw_m2 51 rfl) rfl
theorem q336 : (Jvm.Cond.soleField "java/lang/Throwable" "suppressedExceptions") ∈ lw_all := lw_g (lw_at lw_m2 52 rfl) rfl
theorem q358 : (Jvm.Cond.instanceMethod ({ cls := "java/lang/Throwable", name := "<init>", desc := "(Ljava/lang/String;)V" } : Jvm.MethodName)) ∈ lw_all := lw_g (lw_at lw_m2 74 rfl) rfl
theorem q359 : (Jvm.Cond.code ({ cls := "java/lang/Throwable", name := "<init>", desc := "(Ljava/lang/String;)V" } : Jvm.MethodName) prog_18_method_2_code (2 : Nat) (Option.none : Option Jvm.ClassFile.FieldType)) ∈ lw_all := lw_g (lw_at lw_m2 75 rfl) rfl
theorem q1081 : (Jvm.Cond.sameMethod "java/lang/Throwable" "java/lang/Throwable" "fillInStackTrace" "(I)Ljava/lang/Throwable;") ∈ lw_all := lw_g (lw_at lw_m5 77 rfl) rfl
theorem in_J1 : ∀ w ∈ wsJ10, w ∈ lw_all := lw_in wsJ10 [286, 288, 290, 292, 294] (by decide +kernel) (by decide +kernel)

/-! java/lang/Exception -/
set_option maxRecDepth 100000
def RJ2 : String := "java/lang/Exception"
abbrev cJ2_init : ByteArray := prog_12_method_1_code
def yJ2_init : MethodName := ⟨RJ2, "<init>", "()V"⟩
theorem dJ2_init_0 : decode cJ2_init 0 = .ok (.aload_n 0, 1) := by decide +kernel
theorem dJ2_init_1 : decode cJ2_init 1 = .ok (.invokespecial 1, 3) := by decide +kernel
theorem dJ2_init_4 : decode cJ2_init 4 = .ok (.return_, 1) := by decide +kernel
abbrev cJ2_init_2 : ByteArray := prog_12_method_2_code
def yJ2_init_2 : MethodName := ⟨RJ2, "<init>", "(Ljava/lang/String;)V"⟩
theorem dJ2_init_2_0 : decode cJ2_init_2 0 = .ok (.aload_n 0, 1) := by decide +kernel
theorem dJ2_init_2_1 : decode cJ2_init_2 1 = .ok (.aload_n 1, 1) := by decide +kernel
theorem dJ2_init_2_2 : decode cJ2_init_2 2 = .ok (.invokespecial 7, 3) := by decide +kernel
theorem dJ2_init_2_5 : decode cJ2_init_2 5 = .ok (.return_, 1) := by decide +kernel
theorem q52 : (Jvm.Cond.initialized "java/lang/Exception") ∈ lw_all := lw_g (lw_at lw_m1 8 rfl) rfl
theorem q279 : (Jvm.Cond.declares ({ cls := "java/lang/Exception", name := "<init>", desc := "()V" } : Jvm.MethodName)) ∈ lw_tbl := lw_at lw_m1 235 rfl
theorem q280 : (Jvm.Cond.declares ({ cls := "java/lang/Exception", name := "<init>", desc := "(Ljava/lang/String;)V" } : Jvm.MethodName)) ∈ lw_tbl := lw_at lw_m1 236 rfl
theorem q322 : (Jvm.Cond.instanceMethod ({ cls := "java/lang/Exception", name := "<init>", desc := "()V" } : Jvm.MethodName)) ∈ lw_all := lw_g (lw_at lw_m2 38 rfl) rfl
theorem q323 : (Jvm.Cond.code ({ cls := "java/lang/Exception", name := "<init>", desc := "()V" } : Jvm.MethodName) prog_12_method_1_code (1 : Nat) (Option.none : Option Jvm.ClassFile.FieldType)) ∈ lw_all := lw_g (lw_at lw_m2 39 rfl) rfl
theorem q324 : (Jvm.Cond.methodLink "java/lang/Exception" (1 : Nat) ({ cls := "java/lang/Throwable", name := "<init>", desc := "()V" } : Jvm.MethodName)) ∈ lw_all := lw_g (lw_at lw_m2 40 rfl) rfl
theorem q355 : (Jvm.Cond.instanceMethod ({ cls := "java/lang/Exception", name := "<init>", desc := "(Ljava/lang/String;)V" } : Jvm.MethodName)) ∈ lw_all := lw_g (lw_at lw_m2 71 rfl) rfl
theorem q356 : (Jvm.Cond.code ({ cls := "java/lang/Exception", name := "<init>", desc := "(Ljava/lang/String;)V" } : Jvm.MethodName) prog_12_method_2_code (2 : Nat) (Option.none : Option Jvm.ClassFile.FieldType)) ∈ lw_all := lw_g (lw_at lw_m2 72 rfl) rfl
theorem q357 : (Jvm.Cond.methodLink "java/lang/Exception" (7 : Nat) ({ cls := "java/lang/Throwable", name := "<init>", desc := "(Ljava/lang/String;)V" } : Jvm.MethodName)) ∈ lw_all := lw_g (lw_at lw_m2 73 rfl) rfl

/-! java/lang/RuntimeException -/
set_option maxRecDepth 100000
def RJ3 : String := "java/lang/RuntimeException"
abbrev cJ3_init : ByteArray := prog_16_method_1_code
def yJ3_init : MethodName := ⟨RJ3, "<init>", "()V"⟩
theorem dJ3_init_0 : decode cJ3_init 0 = .ok (.aload_n 0, 1) := by decide +kernel
theorem dJ3_init_1 : decode cJ3_init 1 = .ok (.invokespecial 1, 3) := by decide +kernel
theorem dJ3_init_4 : decode cJ3_init 4 = .ok (.return_, 1) := by decide +kernel
abbrev cJ3_init_2 : ByteArray := prog_16_method_2_code
def yJ3_init_2 : MethodName := ⟨RJ3, "<init>", "(Ljava/lang/String;)V"⟩
theorem dJ3_init_2_0 : decode cJ3_init_2 0 = .ok (.aload_n 0, 1) := by decide +kernel
theorem dJ3_init_2_1 : decode cJ3_init_2 1 = .ok (.aload_n 1, 1) := by decide +kernel
theorem dJ3_init_2_2 : decode cJ3_init_2 2 = .ok (.invokespecial 7, 3) := by decide +kernel
theorem dJ3_init_2_5 : decode cJ3_init_2 5 = .ok (.return_, 1) := by decide +kernel
theorem q53 : (Jvm.Cond.initialized "java/lang/RuntimeException") ∈ lw_all := lw_g (lw_at lw_m1 9 rfl) rfl
theorem q277 : (Jvm.Cond.declares ({ cls := "java/lang/RuntimeException", name := "<init>", desc := "()V" } : Jvm.MethodName)) ∈ lw_tbl := lw_at lw_m1 233 rfl
theorem q278 : (Jvm.Cond.declares ({ cls := "java/lang/RuntimeException", name := "<init>", desc := "(Ljava/lang/String;)V" } : Jvm.MethodName)) ∈ lw_tbl := lw_at lw_m1 234 rfl
theorem q319 : (Jvm.Cond.instanceMethod ({ cls := "java/lang/RuntimeException", name := "<init>", desc := "()V" } : Jvm.MethodName)) ∈ lw_all := lw_g (lw_at lw_m2 35 rfl) rfl
theorem q320 : (Jvm.Cond.code ({ cls := "java/lang/RuntimeException", name := "<init>", desc := "()V" } : Jvm.MethodName) prog_16_method_1_code (1 : Nat) (Option.none : Option Jvm.ClassFile.FieldType)) ∈ lw_all := lw_g (lw_at lw_m2 36 rfl) rfl
theorem q321 : (Jvm.Cond.methodLink "java/lang/RuntimeException" (1 : Nat) ({ cls := "java/lang/Exception", name := "<init>", desc := "()V" } : Jvm.MethodName)) ∈ lw_all := lw_g (lw_at lw_m2 37 rfl) rfl
theorem q352 : (Jvm.Cond.instanceMethod ({ cls := "java/lang/RuntimeException", name := "<init>", desc := "(Ljava/lang/String;)V" } : Jvm.MethodName)) ∈ lw_all := lw_g (lw_at lw_m2 68 rfl) rfl
theorem q353 : (Jvm.Cond.code ({ cls := "java/lang/RuntimeException", name := "<init>", desc := "(Ljava/lang/String;)V" } : Jvm.MethodName) prog_16_method_2_code (2 : Nat) (Option.none : Option Jvm.ClassFile.FieldType)) ∈ lw_all := lw_g (lw_at lw_m2 69 rfl) rfl
theorem q354 : (Jvm.Cond.methodLink "java/lang/RuntimeException" (7 : Nat) ({ cls := "java/lang/Exception", name := "<init>", desc := "(Ljava/lang/String;)V" } : Jvm.MethodName)) ∈ lw_all := lw_g (lw_at lw_m2 70 rfl) rfl

/-! java/lang/IllegalArgumentException -/
set_option maxRecDepth 100000
def RJ4 : String := "java/lang/IllegalArgumentException"
def TJ4 : u_T := fun k => match k with
  | 0 => ("java/lang/Throwable", "cause", "Ljava/lang/Throwable;", false)
  | 1 => ("java/lang/Throwable", "stackTrace", "[Ljava/lang/StackTraceElement;", false)
  | 2 => ("java/lang/Throwable", "suppressedExceptions", "Ljava/util/List;", false)
  | 3 => ("java/lang/Throwable", "detailMessage", "Ljava/lang/String;", false)
  | 4 => ("java/lang/Throwable", "backtrace", "Ljava/lang/Object;", false)
  | _ => ("java/lang/Throwable", "depth", "I", false)
def tyJ4 : Nat → FieldType := fun k => match k with
  | 0 => .object "java/lang/Throwable"
  | 1 => .array (.object "java/lang/StackTraceElement")
  | 2 => .object "java/util/List"
  | 3 => .object "java/lang/String"
  | 4 => .object "java/lang/Object"
  | _ => .int
abbrev wsJ40 : List Cond := u_ws RJ4 TJ4 6
theorem nmJ4 : ∀ a, a < 6 → ∀ b, b < 6 → a ≠ b → (TJ4 a).2.1 ≠ (TJ4 b).2.1 := by decide +kernel
theorem tyJ4_ok : ∀ k, k < 6 → parseFieldDescriptor (TJ4 k).2.2.1 = some (tyJ4 k) := by decide +kernel
abbrev cJ4_init : ByteArray := prog_13_method_1_code
def yJ4_init : MethodName := ⟨RJ4, "<init>", "()V"⟩
theorem dJ4_init_0 : decode cJ4_init 0 = .ok (.aload_n 0, 1) := by decide +kernel
theorem dJ4_init_1 : decode cJ4_init 1 = .ok (.invokespecial 1, 3) := by decide +kernel
theorem dJ4_init_4 : decode cJ4_init 4 = .ok (.return_, 1) := by decide +kernel
theorem q54 : (Jvm.Cond.initialized "java/lang/IllegalArgumentException") ∈ lw_all := lw_g (lw_at lw_m1 10 rfl) rfl
theorem q275 : (Jvm.Cond.instantiable "java/lang/IllegalArgumentException" (6 : Nat)) ∈ lw_all := lw_g (lw_at lw_m1 231 rfl) rfl
theorem q276 : (Jvm.Cond.castable "java/lang/IllegalArgumentException" "java/lang/IllegalArgumentException") ∈ lw_tbl := lw_at lw_m1 232 rfl
theorem q283 : (Jvm.Cond.selects "java/lang/IllegalArgumentException" ({ cls := "java/lang/Throwable", name := "fillInStackTrace", desc := "(I)Ljava/lang/Throwable;" } : Jvm.MethodName) ({ cls := "java/lang/Throwable", name := "fillInStackTrace", desc := "(I)Ljava/lang/Throwable;" } : Jvm.MethodName)) ∈ lw_all := lw_g (lw_at lw_m1 239 rfl) rfl
theorem q284 : (Jvm.Cond.selects "java/lang/IllegalArgumentException" ({ cls := "java/lang/Throwable", name := "fillInStackTrace", desc := "()Ljava/lang/Throwable;" } : Jvm.MethodName) ({ cls := "java/lang/Throwable", name := "fillInStackTrace", desc := "()Ljava/lang/Throwable;" } : Jvm.MethodName)) ∈ lw_all := lw_g (lw_at lw_m2 0 rfl) rfl
theorem q285 : (Jvm.Cond.lays "java/lang/IllegalArgumentException" "java/lang/Throwable" "cause" "Ljava/lang/Throwable;") ∈ lw_all := lw_g (lw_at lw_m2 1 rfl) rfl
theorem q287 : (Jvm.Cond.lays "java/lang/IllegalArgumentException" "java/lang/Throwable" "stackTrace" "[Ljava/lang/StackTraceElement;") ∈ lw_all := lw_g (lw_at lw_m2 3 rfl) rfl
theorem q289 : (Jvm.Cond.lays "java/lang/IllegalArgumentException" "java/lang/Throwable" "suppressedExceptions" "Ljava/util/List;") ∈ lw_all := lw_g (lw_at lw_m2 5 rfl) rfl
theorem q291 : (Jvm.Cond.lays "java/lang/IllegalArgumentException" "java/lang/Throwable" "detailMessage" "Ljava/lang/String;") ∈ lw_all := lw_g (lw_at lw_m2 7 rfl) rfl
theorem q293 : (Jvm.Cond.lays "java/lang/IllegalArgumentException" "java/lang/Throwable" "backtrace" "Ljava/lang/Object;") ∈ lw_all := lw_g (lw_at lw_m2 9 rfl) rfl
theorem q316 : (Jvm.Cond.instanceMethod ({ cls := "java/lang/IllegalArgumentException", name := "<init>", desc := "()V" } : Jvm.MethodName)) ∈ lw_all := lw_g (lw_at lw_m2 32 rfl) rfl
theorem q317 : (Jvm.Cond.code ({ cls := "java/lang/IllegalArgumentException", name := "<init>", desc := "()V" } : Jvm.MethodName) prog_13_method_1_code (1 : Nat) (Option.none : Option Jvm.ClassFile.FieldType)) ∈ lw_all := lw_g (lw_at lw_m2 33 rfl) rfl
theorem q318 : (Jvm.Cond.methodLink "java/lang/IllegalArgumentException" (1 : Nat) ({ cls := "java/lang/RuntimeException", name := "<init>", desc := "()V" } : Jvm.MethodName)) ∈ lw_all := lw_g (lw_at lw_m2 34 rfl) rfl
theorem q334 : (Jvm.Cond.lays "java/lang/IllegalArgumentException" "java/lang/Throwable" "depth" "I") ∈ lw_all := lw_g (lw_at lw_m2 50 rfl) rfl
theorem q337 : (Jvm.Cond.superclass "java/lang/IllegalArgumentException" "java/lang/RuntimeException") ∈ lw_all := lw_g (lw_at lw_m2 53 rfl) rfl
theorem in_J4 : ∀ w ∈ wsJ40, w ∈ lw_all := lw_in wsJ40 [285, 287, 289, 291, 293, 334] (by decide +kernel) (by decide +kernel)

/-! java/lang/IllegalStateException -/
set_option maxRecDepth 100000
def RJ5 : String := "java/lang/IllegalStateException"
def TJ5 : u_T := fun k => match k with
  | 0 => ("java/lang/Throwable", "cause", "Ljava/lang/Throwable;", false)
  | 1 => ("java/lang/Throwable", "stackTrace", "[Ljava/lang/StackTraceElement;", false)
  | 2 => ("java/lang/Throwable", "suppressedExceptions", "Ljava/util/List;", false)
  | 3 => ("java/lang/Throwable", "detailMessage", "Ljava/lang/String;", false)
  | 4 => ("java/lang/Throwable", "backtrace", "Ljava/lang/Object;", false)
  | _ => ("java/lang/Throwable", "depth", "I", false)
def tyJ5 : Nat → FieldType := fun k => match k with
  | 0 => .object "java/lang/Throwable"
  | 1 => .array (.object "java/lang/StackTraceElement")
  | 2 => .object "java/util/List"
  | 3 => .object "java/lang/String"
  | 4 => .object "java/lang/Object"
  | _ => .int
abbrev wsJ50 : List Cond := u_ws RJ5 TJ5 6
theorem nmJ5 : ∀ a, a < 6 → ∀ b, b < 6 → a ≠ b → (TJ5 a).2.1 ≠ (TJ5 b).2.1 := by decide +kernel
theorem tyJ5_ok : ∀ k, k < 6 → parseFieldDescriptor (TJ5 k).2.2.1 = some (tyJ5 k) := by decide +kernel
abbrev cJ5_init : ByteArray := prog_14_method_2_code
def yJ5_init : MethodName := ⟨RJ5, "<init>", "(Ljava/lang/String;)V"⟩
theorem dJ5_init_0 : decode cJ5_init 0 = .ok (.aload_n 0, 1) := by decide +kernel
theorem dJ5_init_1 : decode cJ5_init 1 = .ok (.aload_n 1, 1) := by decide +kernel
theorem dJ5_init_2 : decode cJ5_init 2 = .ok (.invokespecial 7, 3) := by decide +kernel
theorem dJ5_init_5 : decode cJ5_init 5 = .ok (.return_, 1) := by decide +kernel
abbrev cJ5_init_2 : ByteArray := prog_14_method_1_code
def yJ5_init_2 : MethodName := ⟨RJ5, "<init>", "()V"⟩
theorem dJ5_init_2_0 : decode cJ5_init_2 0 = .ok (.aload_n 0, 1) := by decide +kernel
theorem dJ5_init_2_1 : decode cJ5_init_2 1 = .ok (.invokespecial 1, 3) := by decide +kernel
theorem dJ5_init_2_4 : decode cJ5_init_2 4 = .ok (.return_, 1) := by decide +kernel
theorem q55 : (Jvm.Cond.initialized "java/lang/IllegalStateException") ∈ lw_all := lw_g (lw_at lw_m1 11 rfl) rfl
theorem q308 : (Jvm.Cond.selects "java/lang/IllegalStateException" ({ cls := "java/lang/Throwable", name := "fillInStackTrace", desc := "()Ljava/lang/Throwable;" } : Jvm.MethodName) ({ cls := "java/lang/Throwable", name := "fillInStackTrace", desc := "()Ljava/lang/Throwable;" } : Jvm.MethodName)) ∈ lw_all := lw_g (lw_at lw_m2 24 rfl) rfl
theorem q339 : (Jvm.Cond.instantiable "java/lang/IllegalStateException" (6 : Nat)) ∈ lw_all := lw_g (lw_at lw_m2 55 rfl) rfl
theorem q340 : (Jvm.Cond.castable "java/lang/IllegalStateException" "java/lang/IllegalStateException") ∈ lw_tbl := lw_at lw_m2 56 rfl
theorem q341 : (Jvm.Cond.selects "java/lang/IllegalStateException" ({ cls := "java/lang/Throwable", name := "fillInStackTrace", desc := "(I)Ljava/lang/Throwable;" } : Jvm.MethodName) ({ cls := "java/lang/Throwable", name := "fillInStackTrace", desc := "(I)Ljava/lang/Throwable;" } : Jvm.MethodName)) ∈ lw_all := lw_g (lw_at lw_m2 57 rfl) rfl
theorem q342 : (Jvm.Cond.lays "java/lang/IllegalStateException" "java/lang/Throwable" "cause" "Ljava/lang/Throwable;") ∈ lw_all := lw_g (lw_at lw_m2 58 rfl) rfl
theorem q343 : (Jvm.Cond.lays "java/lang/IllegalStateException" "java/lang/Throwable" "stackTrace" "[Ljava/lang/StackTraceElement;") ∈ lw_all := lw_g (lw_at lw_m2 59 rfl) rfl
theorem q344 : (Jvm.Cond.lays "java/lang/IllegalStateException" "java/lang/Throwable" "suppressedExceptions" "Ljava/util/List;") ∈ lw_all := lw_g (lw_at lw_m2 60 rfl) rfl
theorem q345 : (Jvm.Cond.lays "java/lang/IllegalStateException" "java/lang/Throwable" "detailMessage" "Ljava/lang/String;") ∈ lw_all := lw_g (lw_at lw_m2 61 rfl) rfl
theorem q346 : (Jvm.Cond.lays "java/lang/IllegalStateException" "java/lang/Throwable" "backtrace" "Ljava/lang/Object;") ∈ lw_all := lw_g (lw_at lw_m2 62 rfl) rfl
theorem q349 : (Jvm.Cond.instanceMethod ({ cls := "java/lang/IllegalStateException", name := "<init>", desc := "(Ljava/lang/String;)V" } : Jvm.MethodName)) ∈ lw_all := lw_g (lw_at lw_m2 65 rfl) rfl
theorem q350 : (Jvm.Cond.code ({ cls := "java/lang/IllegalStateException", name := "<init>", desc := "(Ljava/lang/String;)V" } : Jvm.MethodName) prog_14_method_2_code (2 : Nat) (Option.none : Option Jvm.ClassFile.FieldType)) ∈ lw_all := lw_g (lw_at lw_m2 66 rfl) rfl
theorem q351 : (Jvm.Cond.methodLink "java/lang/IllegalStateException" (7 : Nat) ({ cls := "java/lang/RuntimeException", name := "<init>", desc := "(Ljava/lang/String;)V" } : Jvm.MethodName)) ∈ lw_all := lw_g (lw_at lw_m2 67 rfl) rfl
theorem q360 : (Jvm.Cond.lays "java/lang/IllegalStateException" "java/lang/Throwable" "depth" "I") ∈ lw_all := lw_g (lw_at lw_m2 76 rfl) rfl
theorem q361 : (Jvm.Cond.superclass "java/lang/IllegalStateException" "java/lang/RuntimeException") ∈ lw_all := lw_g (lw_at lw_m2 77 rfl) rfl
theorem q554 : (Jvm.Cond.instanceMethod ({ cls := "java/lang/IllegalStateException", name := "<init>", desc := "()V" } : Jvm.MethodName)) ∈ lw_all := lw_g (lw_at lw_m3 30 rfl) rfl
theorem q555 : (Jvm.Cond.code ({ cls := "java/lang/IllegalStateException", name := "<init>", desc := "()V" } : Jvm.MethodName) prog_14_method_1_code (1 : Nat) (Option.none : Option Jvm.ClassFile.FieldType)) ∈ lw_all := lw_g (lw_at lw_m3 31 rfl) rfl
theorem q556 : (Jvm.Cond.methodLink "java/lang/IllegalStateException" (1 : Nat) ({ cls := "java/lang/RuntimeException", name := "<init>", desc := "()V" } : Jvm.MethodName)) ∈ lw_all := lw_g (lw_at lw_m3 32 rfl) rfl
theorem in_J5 : ∀ w ∈ wsJ50, w ∈ lw_all := lw_in wsJ50 [342, 343, 344, 345, 346, 360] (by decide +kernel) (by decide +kernel)

/-! java/lang/ArithmeticException -/
set_option maxRecDepth 100000
def RJ6 : String := "java/lang/ArithmeticException"
def TJ6 : u_T := fun k => match k with
  | 0 => ("java/lang/Throwable", "backtrace", "Ljava/lang/Object;", false)
  | 1 => ("java/lang/Throwable", "detailMessage", "Ljava/lang/String;", false)
  | 2 => ("java/lang/Throwable", "cause", "Ljava/lang/Throwable;", false)
  | 3 => ("java/lang/Throwable", "stackTrace", "[Ljava/lang/StackTraceElement;", false)
  | 4 => ("java/lang/Throwable", "depth", "I", false)
  | _ => ("java/lang/Throwable", "suppressedExceptions", "Ljava/util/List;", false)
def tyJ6 : Nat → FieldType := fun k => match k with
  | 0 => .object "java/lang/Object"
  | 1 => .object "java/lang/String"
  | 2 => .object "java/lang/Throwable"
  | 3 => .array (.object "java/lang/StackTraceElement")
  | 4 => .int
  | _ => .object "java/util/List"
abbrev wsJ60 : List Cond := u_ws RJ6 TJ6 6
theorem nmJ6 : ∀ a, a < 6 → ∀ b, b < 6 → a ≠ b → (TJ6 a).2.1 ≠ (TJ6 b).2.1 := by decide +kernel
theorem tyJ6_ok : ∀ k, k < 6 → parseFieldDescriptor (TJ6 k).2.2.1 = some (tyJ6 k) := by decide +kernel
abbrev cJ6_init : ByteArray := prog_11_method_2_code
def yJ6_init : MethodName := ⟨RJ6, "<init>", "(Ljava/lang/String;)V"⟩
theorem dJ6_init_0 : decode cJ6_init 0 = .ok (.aload_n 0, 1) := by decide +kernel
theorem dJ6_init_1 : decode cJ6_init 1 = .ok (.aload_n 1, 1) := by decide +kernel
theorem dJ6_init_2 : decode cJ6_init 2 = .ok (.invokespecial 7, 3) := by decide +kernel
theorem dJ6_init_5 : decode cJ6_init 5 = .ok (.return_, 1) := by decide +kernel
abbrev cJ6_init_2 : ByteArray := prog_11_method_1_code
def yJ6_init_2 : MethodName := ⟨RJ6, "<init>", "()V"⟩
theorem dJ6_init_2_0 : decode cJ6_init_2 0 = .ok (.aload_n 0, 1) := by decide +kernel
theorem dJ6_init_2_1 : decode cJ6_init_2 1 = .ok (.invokespecial 1, 3) := by decide +kernel
theorem dJ6_init_2_4 : decode cJ6_init_2 4 = .ok (.return_, 1) := by decide +kernel
theorem q59 : (Jvm.Cond.initialized "java/lang/ArithmeticException") ∈ lw_all := lw_g (lw_at lw_m1 15 rfl) rfl
theorem q307 : (Jvm.Cond.selects "java/lang/ArithmeticException" ({ cls := "java/lang/Throwable", name := "fillInStackTrace", desc := "()Ljava/lang/Throwable;" } : Jvm.MethodName) ({ cls := "java/lang/Throwable", name := "fillInStackTrace", desc := "()Ljava/lang/Throwable;" } : Jvm.MethodName)) ∈ lw_all := lw_g (lw_at lw_m2 23 rfl) rfl
theorem q530 : (Jvm.Cond.instantiable "java/lang/ArithmeticException" (6 : Nat)) ∈ lw_all := lw_g (lw_at lw_m3 6 rfl) rfl
theorem q531 : (Jvm.Cond.instanceMethod ({ cls := "java/lang/ArithmeticException", name := "<init>", desc := "(Ljava/lang/String;)V" } : Jvm.MethodName)) ∈ lw_all := lw_g (lw_at lw_m3 7 rfl) rfl
theorem q532 : (Jvm.Cond.code ({ cls := "java/lang/ArithmeticException", name := "<init>", desc := "(Ljava/lang/String;)V" } : Jvm.MethodName) prog_11_method_2_code (2 : Nat) (Option.none : Option Jvm.ClassFile.FieldType)) ∈ lw_all := lw_g (lw_at lw_m3 8 rfl) rfl
theorem q533 : (Jvm.Cond.methodLink "java/lang/ArithmeticException" (7 : Nat) ({ cls := "java/lang/RuntimeException", name := "<init>", desc := "(Ljava/lang/String;)V" } : Jvm.MethodName)) ∈ lw_all := lw_g (lw_at lw_m3 9 rfl) rfl
theorem q534 : (Jvm.Cond.lays "java/lang/ArithmeticException" "java/lang/Throwable" "backtrace" "Ljava/lang/Object;") ∈ lw_all := lw_g (lw_at lw_m3 10 rfl) rfl
theorem q535 : (Jvm.Cond.lays "java/lang/ArithmeticException" "java/lang/Throwable" "detailMessage" "Ljava/lang/String;") ∈ lw_all := lw_g (lw_at lw_m3 11 rfl) rfl
theorem q536 : (Jvm.Cond.lays "java/lang/ArithmeticException" "java/lang/Throwable" "cause" "Ljava/lang/Throwable;") ∈ lw_all := lw_g (lw_at lw_m3 12 rfl) rfl
theorem q537 : (Jvm.Cond.lays "java/lang/ArithmeticException" "java/lang/Throwable" "stackTrace" "[Ljava/lang/StackTraceElement;") ∈ lw_all := lw_g (lw_at lw_m3 13 rfl) rfl
theorem q538 : (Jvm.Cond.lays "java/lang/ArithmeticException" "java/lang/Throwable" "depth" "I") ∈ lw_all := lw_g (lw_at lw_m3 14 rfl) rfl
theorem q539 : (Jvm.Cond.lays "java/lang/ArithmeticException" "java/lang/Throwable" "suppressedExceptions" "Ljava/util/List;") ∈ lw_all := lw_g (lw_at lw_m3 15 rfl) rfl
theorem q540 : (Jvm.Cond.superclass "java/lang/ArithmeticException" "java/lang/RuntimeException") ∈ lw_all := lw_g (lw_at lw_m3 16 rfl) rfl
theorem q541 : (Jvm.Cond.castable "java/lang/ArithmeticException" "java/lang/ArithmeticException") ∈ lw_tbl := lw_at lw_m3 17 rfl
theorem q542 : (Jvm.Cond.selects "java/lang/ArithmeticException" ({ cls := "java/lang/Throwable", name := "fillInStackTrace", desc := "(I)Ljava/lang/Throwable;" } : Jvm.MethodName) ({ cls := "java/lang/Throwable", name := "fillInStackTrace", desc := "(I)Ljava/lang/Throwable;" } : Jvm.MethodName)) ∈ lw_all := lw_g (lw_at lw_m3 18 rfl) rfl
theorem q589 : (Jvm.Cond.instanceMethod ({ cls := "java/lang/ArithmeticException", name := "<init>", desc := "()V" } : Jvm.MethodName)) ∈ lw_all := lw_g (lw_at lw_m3 65 rfl) rfl
theorem q590 : (Jvm.Cond.code ({ cls := "java/lang/ArithmeticException", name := "<init>", desc := "()V" } : Jvm.MethodName) prog_11_method_1_code (1 : Nat) (Option.none : Option Jvm.ClassFile.FieldType)) ∈ lw_all := lw_g (lw_at lw_m3 66 rfl) rfl
theorem q591 : (Jvm.Cond.methodLink "java/lang/ArithmeticException" (1 : Nat) ({ cls := "java/lang/RuntimeException", name := "<init>", desc := "()V" } : Jvm.MethodName)) ∈ lw_all := lw_g (lw_at lw_m3 67 rfl) rfl
theorem in_J6 : ∀ w ∈ wsJ60, w ∈ lw_all := lw_in wsJ60 [534, 535, 536, 537, 538, 539] (by decide +kernel) (by decide +kernel)

/-! java/lang/String -/
set_option maxRecDepth 100000
def RJ7 : String := "java/lang/String"
def TJ7 : u_T := fun k => match k with
  | 0 => ("java/lang/String", "value", "[B", true)
  | _ => ("java/lang/String", "coder", "B", true)
def tyJ7 : Nat → FieldType := fun k => match k with
  | 0 => .array .byte
  | _ => .byte
abbrev wsJ70 : List Cond := u_ws RJ7 TJ7 2
theorem nmJ7 : ∀ a, a < 2 → ∀ b, b < 2 → a ≠ b → (TJ7 a).2.1 ≠ (TJ7 b).2.1 := by decide +kernel
theorem tyJ7_ok : ∀ k, k < 2 → parseFieldDescriptor (TJ7 k).2.2.1 = some (tyJ7 k) := by decide +kernel
theorem q60 : (Jvm.Cond.initialized "java/lang/String") ∈ lw_all := lw_g (lw_at lw_m1 16 rfl) rfl
theorem q543 : (Jvm.Cond.instantiable "java/lang/String" (4 : Nat)) ∈ lw_all := lw_g (lw_at lw_m3 19 rfl) rfl
theorem q544 : (Jvm.Cond.laysFinal "java/lang/String" "java/lang/String" "value" "[B") ∈ lw_all := lw_g (lw_at lw_m3 20 rfl) rfl
theorem q545 : (Jvm.Cond.soleField "java/lang/String" "value") ∈ lw_all := lw_g (lw_at lw_m3 21 rfl) rfl
theorem q546 : (Jvm.Cond.laysFinal "java/lang/String" "java/lang/String" "coder" "B") ∈ lw_all := lw_g (lw_at lw_m3 22 rfl) rfl
theorem q547 : (Jvm.Cond.soleField "java/lang/String" "coder") ∈ lw_all := lw_g (lw_at lw_m3 23 rfl) rfl
theorem in_J7 : ∀ w ∈ wsJ70, w ∈ lw_all := lw_in wsJ70 [544, 546] (by decide +kernel) (by decide +kernel)

/-! ParticleBox$Sort -/
set_option maxRecDepth 100000
def RX2 : String := "ParticleBox$Sort"
def TX2 : u_T := fun k => match k with
  | 0 => ("ParticleBox$Sort", "width", "D", false)
  | 1 => ("ParticleBox$Sort", "depth", "D", false)
  | _ => ("ParticleBox$Sort", "charge", "D", false)
def tyX2 : Nat → FieldType := fun k => match k with
  | 0 => .double
  | 1 => .double
  | _ => .double
abbrev wsX20 : List Cond := u_ws RX2 TX2 3
theorem nmX2 : ∀ a, a < 3 → ∀ b, b < 3 → a ≠ b → (TX2 a).2.1 ≠ (TX2 b).2.1 := by decide +kernel
theorem tyX2_ok : ∀ k, k < 3 → parseFieldDescriptor (TX2 k).2.2.1 = some (tyX2 k) := by decide +kernel
abbrev cX2_init : ByteArray := prog_6_method_1_code
def yX2_init : MethodName := ⟨RX2, "<init>", "()V"⟩
theorem dX2_init_0 : decode cX2_init 0 = .ok (.aload_n 0, 1) := by decide +kernel
theorem dX2_init_1 : decode cX2_init 1 = .ok (.invokespecial 1, 3) := by decide +kernel
theorem dX2_init_4 : decode cX2_init 4 = .ok (.aload_n 0, 1) := by decide +kernel
theorem dX2_init_5 : decode cX2_init 5 = .ok (.dconst 1, 1) := by decide +kernel
theorem dX2_init_6 : decode cX2_init 6 = .ok (.putfield 7, 3) := by decide +kernel
theorem dX2_init_9 : decode cX2_init 9 = .ok (.aload_n 0, 1) := by decide +kernel
theorem dX2_init_10 : decode cX2_init 10 = .ok (.dconst 1, 1) := by decide +kernel
theorem dX2_init_11 : decode cX2_init 11 = .ok (.putfield 13, 3) := by decide +kernel
theorem dX2_init_14 : decode cX2_init 14 = .ok (.return_, 1) := by decide +kernel
theorem q46 : (Jvm.Cond.initialized "ParticleBox$Sort") ∈ lw_all := lw_g (lw_at lw_m1 2 rfl) rfl
theorem q73 : (Jvm.Cond.instantiable "ParticleBox$Sort" (3 : Nat)) ∈ lw_all := lw_g (lw_at lw_m1 29 rfl) rfl
theorem q75 : (Jvm.Cond.instanceMethod ({ cls := "ParticleBox$Sort", name := "<init>", desc := "()V" } : Jvm.MethodName)) ∈ lw_all := lw_g (lw_at lw_m1 31 rfl) rfl
theorem q76 : (Jvm.Cond.code ({ cls := "ParticleBox$Sort", name := "<init>", desc := "()V" } : Jvm.MethodName) prog_6_method_1_code (1 : Nat) (Option.none : Option Jvm.ClassFile.FieldType)) ∈ lw_all := lw_g (lw_at lw_m1 32 rfl) rfl
theorem q77 : (Jvm.Cond.methodLink "ParticleBox$Sort" (1 : Nat) ({ cls := "java/lang/Object", name := "<init>", desc := "()V" } : Jvm.MethodName)) ∈ lw_all := lw_g (lw_at lw_m1 33 rfl) rfl
theorem q78 : (Jvm.Cond.fieldLink "ParticleBox$Sort" (7 : Nat) "ParticleBox$Sort" "width" "D") ∈ lw_all := lw_g (lw_at lw_m1 34 rfl) rfl
theorem q81 : (Jvm.Cond.fieldLink "ParticleBox$Sort" (13 : Nat) "ParticleBox$Sort" "depth" "D") ∈ lw_all := lw_g (lw_at lw_m1 37 rfl) rfl
theorem q86 : (Jvm.Cond.lays "ParticleBox$Sort" "ParticleBox$Sort" "width" "D") ∈ lw_all := lw_g (lw_at lw_m1 42 rfl) rfl
theorem q87 : (Jvm.Cond.soleField "ParticleBox$Sort" "width") ∈ lw_all := lw_g (lw_at lw_m1 43 rfl) rfl
theorem q88 : (Jvm.Cond.lays "ParticleBox$Sort" "ParticleBox$Sort" "depth" "D") ∈ lw_all := lw_g (lw_at lw_m1 44 rfl) rfl
theorem q89 : (Jvm.Cond.soleField "ParticleBox$Sort" "depth") ∈ lw_all := lw_g (lw_at lw_m1 45 rfl) rfl
theorem q90 : (Jvm.Cond.lays "ParticleBox$Sort" "ParticleBox$Sort" "charge" "D") ∈ lw_all := lw_g (lw_at lw_m1 46 rfl) rfl
theorem q91 : (Jvm.Cond.soleField "ParticleBox$Sort" "charge") ∈ lw_all := lw_g (lw_at lw_m1 47 rfl) rfl
theorem q92 : (Jvm.Cond.superclass "ParticleBox$Sort" "java/lang/Object") ∈ lw_all := lw_g (lw_at lw_m1 48 rfl) rfl
theorem in_X2 : ∀ w ∈ wsX20, w ∈ lw_all := lw_in wsX20 [86, 88, 90] (by decide +kernel) (by decide +kernel)

/-! ParticleBox$Neighbourhood -/
set_option maxRecDepth 100000
def RX3 : String := "ParticleBox$Neighbourhood"
def TX3 : u_T := fun k => match k with
  | 0 => ("ParticleBox$Neighbourhood", "cut", "D", false)
  | 1 => ("ParticleBox$Neighbourhood", "one", "LParticleBox$Atom;", false)
  | _ => ("ParticleBox$Neighbourhood", "other", "LParticleBox$Atom;", false)
def tyX3 : Nat → FieldType := fun k => match k with
  | 0 => .double
  | 1 => .object "ParticleBox$Atom"
  | _ => .object "ParticleBox$Atom"
abbrev wsX30 : List Cond := u_ws RX3 TX3 3
theorem nmX3 : ∀ a, a < 3 → ∀ b, b < 3 → a ≠ b → (TX3 a).2.1 ≠ (TX3 b).2.1 := by decide +kernel
theorem tyX3_ok : ∀ k, k < 3 → parseFieldDescriptor (TX3 k).2.2.1 = some (tyX3 k) := by decide +kernel
abbrev cX3_init : ByteArray := prog_4_method_1_code
def yX3_init : MethodName := ⟨RX3, "<init>", "()V"⟩
theorem dX3_init_0 : decode cX3_init 0 = .ok (.aload_n 0, 1) := by decide +kernel
theorem dX3_init_1 : decode cX3_init 1 = .ok (.invokespecial 1, 3) := by decide +kernel
theorem dX3_init_4 : decode cX3_init 4 = .ok (.return_, 1) := by decide +kernel
abbrev cX3_of : ByteArray := prog_4_method_2_code
def yX3_of : MethodName := ⟨RX3, "of", "(LParticleBox$Atom;LParticleBox$Atom;D)LParticleBox$Tie;"⟩
theorem dX3_of_0 : decode cX3_of 0 = .ok (.aload_n 0, 1) := by decide +kernel
theorem dX3_of_1 : decode cX3_of 1 = .ok (.aload_n 1, 1) := by decide +kernel
theorem dX3_of_2 : decode cX3_of 2 = .ok (.putfield 7, 3) := by decide +kernel
theorem dX3_of_5 : decode cX3_of 5 = .ok (.aload_n 0, 1) := by decide +kernel
theorem dX3_of_6 : decode cX3_of 6 = .ok (.aload_n 2, 1) := by decide +kernel
theorem dX3_of_7 : decode cX3_of 7 = .ok (.putfield 13, 3) := by decide +kernel
theorem dX3_of_10 : decode cX3_of 10 = .ok (.aload_n 0, 1) := by decide +kernel
theorem dX3_of_11 : decode cX3_of 11 = .ok (.dload_n 3, 1) := by decide +kernel
theorem dX3_of_12 : decode cX3_of 12 = .ok (.putfield 16, 3) := by decide +kernel
theorem dX3_of_15 : decode cX3_of 15 = .ok (.aload_n 0, 1) := by decide +kernel
theorem dX3_of_16 : decode cX3_of 16 = .ok (.areturn, 1) := by decide +kernel
abbrev cX3_factor : ByteArray := prog_4_method_5_code
def yX3_factor : MethodName := ⟨RX3, "factor", "(D)D"⟩
theorem dX3_factor_0 : decode cX3_factor 0 = .ok (.aload_n 0, 1) := by decide +kernel
theorem dX3_factor_1 : decode cX3_factor 1 = .ok (.dload_n 1, 1) := by decide +kernel
theorem dX3_factor_2 : decode cX3_factor 2 = .ok (.invokevirtual 36, 3) := by decide +kernel
theorem dX3_factor_5 : decode cX3_factor 5 = .ok (.dstore_n 3, 1) := by decide +kernel
theorem dX3_factor_6 : decode cX3_factor 6 = .ok (.aload_n 0, 1) := by decide +kernel
theorem dX3_factor_7 : decode cX3_factor 7 = .ok (.getfield 7, 3) := by decide +kernel
theorem dX3_factor_10 : decode cX3_factor 10 = .ok (.getfield 20, 3) := by decide +kernel
theorem dX3_factor_13 : decode cX3_factor 13 = .ok (.getfield 40, 3) := by decide +kernel
theorem dX3_factor_16 : decode cX3_factor 16 = .ok (.aload_n 0, 1) := by decide +kernel
theorem dX3_factor_17 : decode cX3_factor 17 = .ok (.getfield 13, 3) := by decide +kernel
theorem dX3_factor_20 : decode cX3_factor 20 = .ok (.getfield 20, 3) := by decide +kernel
theorem dX3_factor_23 : decode cX3_factor 23 = .ok (.getfield 40, 3) := by decide +kernel
theorem dX3_factor_26 : decode cX3_factor 26 = .ok (.dmul, 1) := by decide +kernel
theorem dX3_factor_27 : decode cX3_factor 27 = .ok (.dstore 5, 2) := by decide +kernel
theorem dX3_factor_29 : decode cX3_factor 29 = .ok (.ldc2_w 43, 3) := by decide +kernel
theorem dX3_factor_32 : decode cX3_factor 32 = .ok (.aload_n 0, 1) := by decide +kernel
theorem dX3_factor_33 : decode cX3_factor 33 = .ok (.invokevirtual 45, 3) := by decide +kernel
theorem dX3_factor_36 : decode cX3_factor 36 = .ok (.dmul, 1) := by decide +kernel
theorem dX3_factor_37 : decode cX3_factor 37 = .ok (.dload_n 3, 1) := by decide +kernel
theorem dX3_factor_38 : decode cX3_factor 38 = .ok (.ldc2_w 49, 3) := by decide +kernel
theorem dX3_factor_41 : decode cX3_factor 41 = .ok (.dload_n 3, 1) := by decide +kernel
theorem dX3_factor_42 : decode cX3_factor 42 = .ok (.dmul, 1) := by decide +kernel
theorem dX3_factor_43 : decode cX3_factor 43 = .ok (.dload_n 3, 1) := by decide +kernel
theorem dX3_factor_44 : decode cX3_factor 44 = .ok (.dmul, 1) := by decide +kernel
theorem dX3_factor_45 : decode cX3_factor 45 = .ok (.dsub, 1) := by decide +kernel
theorem dX3_factor_46 : decode cX3_factor 46 = .ok (.dmul, 1) := by decide +kernel
theorem dX3_factor_47 : decode cX3_factor 47 = .ok (.dload_n 1, 1) := by decide +kernel
theorem dX3_factor_48 : decode cX3_factor 48 = .ok (.ddiv, 1) := by decide +kernel
theorem dX3_factor_49 : decode cX3_factor 49 = .ok (.ldc2_w 49, 3) := by decide +kernel
theorem dX3_factor_52 : decode cX3_factor 52 = .ok (.dload 5, 2) := by decide +kernel
theorem dX3_factor_54 : decode cX3_factor 54 = .ok (.dmul, 1) := by decide +kernel
theorem dX3_factor_55 : decode cX3_factor 55 = .ok (.dload_n 1, 1) := by decide +kernel
theorem dX3_factor_56 : decode cX3_factor 56 = .ok (.dload_n 1, 1) := by decide +kernel
theorem dX3_factor_57 : decode cX3_factor 57 = .ok (.dmul, 1) := by decide +kernel
theorem dX3_factor_58 : decode cX3_factor 58 = .ok (.ddiv, 1) := by decide +kernel
theorem dX3_factor_59 : decode cX3_factor 59 = .ok (.dsub, 1) := by decide +kernel
theorem dX3_factor_60 : decode cX3_factor 60 = .ok (.dreturn, 1) := by decide +kernel
abbrev cX3_sixth : ByteArray := prog_4_method_3_code
def yX3_sixth : MethodName := ⟨RX3, "sixth", "(D)D"⟩
theorem dX3_sixth_0 : decode cX3_sixth 0 = .ok (.aload_n 0, 1) := by decide +kernel
theorem dX3_sixth_1 : decode cX3_sixth 1 = .ok (.getfield 7, 3) := by decide +kernel
theorem dX3_sixth_4 : decode cX3_sixth 4 = .ok (.getfield 20, 3) := by decide +kernel
theorem dX3_sixth_7 : decode cX3_sixth 7 = .ok (.getfield 26, 3) := by decide +kernel
theorem dX3_sixth_10 : decode cX3_sixth 10 = .ok (.aload_n 0, 1) := by decide +kernel
theorem dX3_sixth_11 : decode cX3_sixth 11 = .ok (.getfield 13, 3) := by decide +kernel
theorem dX3_sixth_14 : decode cX3_sixth 14 = .ok (.getfield 20, 3) := by decide +kernel
theorem dX3_sixth_17 : decode cX3_sixth 17 = .ok (.getfield 26, 3) := by decide +kernel
theorem dX3_sixth_20 : decode cX3_sixth 20 = .ok (.dadd, 1) := by decide +kernel
theorem dX3_sixth_21 : decode cX3_sixth 21 = .ok (.ldc2_w 31, 3) := by decide +kernel
theorem dX3_sixth_24 : decode cX3_sixth 24 = .ok (.dmul, 1) := by decide +kernel
theorem dX3_sixth_25 : decode cX3_sixth 25 = .ok (.dstore_n 3, 1) := by decide +kernel
theorem dX3_sixth_26 : decode cX3_sixth 26 = .ok (.dload_n 3, 1) := by decide +kernel
theorem dX3_sixth_27 : decode cX3_sixth 27 = .ok (.dload_n 3, 1) := by decide +kernel
theorem dX3_sixth_28 : decode cX3_sixth 28 = .ok (.dmul, 1) := by decide +kernel
theorem dX3_sixth_29 : decode cX3_sixth 29 = .ok (.dload_n 1, 1) := by decide +kernel
theorem dX3_sixth_30 : decode cX3_sixth 30 = .ok (.ddiv, 1) := by decide +kernel
theorem dX3_sixth_31 : decode cX3_sixth 31 = .ok (.dstore 5, 2) := by decide +kernel
theorem dX3_sixth_33 : decode cX3_sixth 33 = .ok (.dload 5, 2) := by decide +kernel
theorem dX3_sixth_35 : decode cX3_sixth 35 = .ok (.dload 5, 2) := by decide +kernel
theorem dX3_sixth_37 : decode cX3_sixth 37 = .ok (.dmul, 1) := by decide +kernel
theorem dX3_sixth_38 : decode cX3_sixth 38 = .ok (.dload 5, 2) := by decide +kernel
theorem dX3_sixth_40 : decode cX3_sixth 40 = .ok (.dmul, 1) := by decide +kernel
theorem dX3_sixth_41 : decode cX3_sixth 41 = .ok (.dreturn, 1) := by decide +kernel
abbrev cX3_strength : ByteArray := prog_4_method_4_code
def yX3_strength : MethodName := ⟨RX3, "strength", "()D"⟩
theorem dX3_strength_0 : decode cX3_strength 0 = .ok (.aload_n 0, 1) := by decide +kernel
theorem dX3_strength_1 : decode cX3_strength 1 = .ok (.getfield 7, 3) := by decide +kernel
theorem dX3_strength_4 : decode cX3_strength 4 = .ok (.getfield 20, 3) := by decide +kernel
theorem dX3_strength_7 : decode cX3_strength 7 = .ok (.getfield 33, 3) := by decide +kernel
theorem dX3_strength_10 : decode cX3_strength 10 = .ok (.aload_n 0, 1) := by decide +kernel
theorem dX3_strength_11 : decode cX3_strength 11 = .ok (.getfield 13, 3) := by decide +kernel
theorem dX3_strength_14 : decode cX3_strength 14 = .ok (.getfield 20, 3) := by decide +kernel
theorem dX3_strength_17 : decode cX3_strength 17 = .ok (.getfield 33, 3) := by decide +kernel
theorem dX3_strength_20 : decode cX3_strength 20 = .ok (.dadd, 1) := by decide +kernel
theorem dX3_strength_21 : decode cX3_strength 21 = .ok (.ldc2_w 31, 3) := by decide +kernel
theorem dX3_strength_24 : decode cX3_strength 24 = .ok (.dmul, 1) := by decide +kernel
theorem dX3_strength_25 : decode cX3_strength 25 = .ok (.dreturn, 1) := by decide +kernel
abbrev cX3_energy : ByteArray := prog_4_method_6_code
def yX3_energy : MethodName := ⟨RX3, "energy", "(D)D"⟩
theorem dX3_energy_0 : decode cX3_energy 0 = .ok (.aload_n 0, 1) := by decide +kernel
theorem dX3_energy_1 : decode cX3_energy 1 = .ok (.dload_n 1, 1) := by decide +kernel
theorem dX3_energy_2 : decode cX3_energy 2 = .ok (.invokevirtual 36, 3) := by decide +kernel
theorem dX3_energy_5 : decode cX3_energy 5 = .ok (.dstore_n 3, 1) := by decide +kernel
theorem dX3_energy_6 : decode cX3_energy 6 = .ok (.aload_n 0, 1) := by decide +kernel
theorem dX3_energy_7 : decode cX3_energy 7 = .ok (.getfield 7, 3) := by decide +kernel
theorem dX3_energy_10 : decode cX3_energy 10 = .ok (.getfield 20, 3) := by decide +kernel
theorem dX3_energy_13 : decode cX3_energy 13 = .ok (.getfield 40, 3) := by decide +kernel
theorem dX3_energy_16 : decode cX3_energy 16 = .ok (.aload_n 0, 1) := by decide +kernel
theorem dX3_energy_17 : decode cX3_energy 17 = .ok (.getfield 13, 3) := by decide +kernel
theorem dX3_energy_20 : decode cX3_energy 20 = .ok (.getfield 20, 3) := by decide +kernel
theorem dX3_energy_23 : decode cX3_energy 23 = .ok (.getfield 40, 3) := by decide +kernel
theorem dX3_energy_26 : decode cX3_energy 26 = .ok (.dmul, 1) := by decide +kernel
theorem dX3_energy_27 : decode cX3_energy 27 = .ok (.dstore 5, 2) := by decide +kernel
theorem dX3_energy_29 : decode cX3_energy 29 = .ok (.ldc2_w 51, 3) := by decide +kernel
theorem dX3_energy_32 : decode cX3_energy 32 = .ok (.aload_n 0, 1) := by decide +kernel
theorem dX3_energy_33 : decode cX3_energy 33 = .ok (.invokevirtual 45, 3) := by decide +kernel
theorem dX3_energy_36 : decode cX3_energy 36 = .ok (.dmul, 1) := by decide +kernel
theorem dX3_energy_37 : decode cX3_energy 37 = .ok (.dload_n 3, 1) := by decide +kernel
theorem dX3_energy_38 : decode cX3_energy 38 = .ok (.dload_n 3, 1) := by decide +kernel
theorem dX3_energy_39 : decode cX3_energy 39 = .ok (.dmul, 1) := by decide +kernel
theorem dX3_energy_40 : decode cX3_energy 40 = .ok (.dload_n 3, 1) := by decide +kernel
theorem dX3_energy_41 : decode cX3_energy 41 = .ok (.dsub, 1) := by decide +kernel
theorem dX3_energy_42 : decode cX3_energy 42 = .ok (.dmul, 1) := by decide +kernel
theorem dX3_energy_43 : decode cX3_energy 43 = .ok (.dload 5, 2) := by decide +kernel
theorem dX3_energy_45 : decode cX3_energy 45 = .ok (.dconst 1, 1) := by decide +kernel
theorem dX3_energy_46 : decode cX3_energy 46 = .ok (.dload_n 1, 1) := by decide +kernel
theorem dX3_energy_47 : decode cX3_energy 47 = .ok (.ddiv, 1) := by decide +kernel
theorem dX3_energy_48 : decode cX3_energy 48 = .ok (.dconst 1, 1) := by decide +kernel
theorem dX3_energy_49 : decode cX3_energy 49 = .ok (.aload_n 0, 1) := by decide +kernel
theorem dX3_energy_50 : decode cX3_energy 50 = .ok (.getfield 16, 3) := by decide +kernel
theorem dX3_energy_53 : decode cX3_energy 53 = .ok (.aload_n 0, 1) := by decide +kernel
theorem dX3_energy_54 : decode cX3_energy 54 = .ok (.getfield 16, 3) := by decide +kernel
theorem dX3_energy_57 : decode cX3_energy 57 = .ok (.dmul, 1) := by decide +kernel
theorem dX3_energy_58 : decode cX3_energy 58 = .ok (.ddiv, 1) := by decide +kernel
theorem dX3_energy_59 : decode cX3_energy 59 = .ok (.dsub, 1) := by decide +kernel
theorem dX3_energy_60 : decode cX3_energy 60 = .ok (.dmul, 1) := by decide +kernel
theorem dX3_energy_61 : decode cX3_energy 61 = .ok (.dadd, 1) := by decide +kernel
theorem dX3_energy_62 : decode cX3_energy 62 = .ok (.dreturn, 1) := by decide +kernel
theorem q47 : (Jvm.Cond.initialized "ParticleBox$Neighbourhood") ∈ lw_all := lw_g (lw_at lw_m1 3 rfl) rfl
theorem q79 : (Jvm.Cond.fieldLink "ParticleBox$Neighbourhood" (26 : Nat) "ParticleBox$Sort" "width" "D") ∈ lw_all := lw_g (lw_at lw_m1 35 rfl) rfl
theorem q82 : (Jvm.Cond.fieldLink "ParticleBox$Neighbourhood" (33 : Nat) "ParticleBox$Sort" "depth" "D") ∈ lw_all := lw_g (lw_at lw_m1 38 rfl) rfl
theorem q84 : (Jvm.Cond.fieldLink "ParticleBox$Neighbourhood" (40 : Nat) "ParticleBox$Sort" "charge" "D") ∈ lw_all := lw_g (lw_at lw_m1 40 rfl) rfl
theorem q100 : (Jvm.Cond.instantiable "ParticleBox$Neighbourhood" (3 : Nat)) ∈ lw_all := lw_g (lw_at lw_m1 56 rfl) rfl
theorem q102 : (Jvm.Cond.instanceMethod ({ cls := "ParticleBox$Neighbourhood", name := "<init>", desc := "()V" } : Jvm.MethodName)) ∈ lw_all := lw_g (lw_at lw_m1 58 rfl) rfl
theorem q103 : (Jvm.Cond.code ({ cls := "ParticleBox$Neighbourhood", name := "<init>", desc := "()V" } : Jvm.MethodName) prog_4_method_1_code (1 : Nat) (Option.none : Option Jvm.ClassFile.FieldType)) ∈ lw_all := lw_g (lw_at lw_m1 59 rfl) rfl
theorem q104 : (Jvm.Cond.methodLink "ParticleBox$Neighbourhood" (1 : Nat) ({ cls := "java/lang/Object", name := "<init>", desc := "()V" } : Jvm.MethodName)) ∈ lw_all := lw_g (lw_at lw_m1 60 rfl) rfl
theorem q105 : (Jvm.Cond.fieldLink "ParticleBox$Neighbourhood" (16 : Nat) "ParticleBox$Neighbourhood" "cut" "D") ∈ lw_all := lw_g (lw_at lw_m1 61 rfl) rfl
theorem q106 : (Jvm.Cond.fieldLink "ParticleBox$Neighbourhood" (7 : Nat) "ParticleBox$Neighbourhood" "one" "LParticleBox$Atom;") ∈ lw_all := lw_g (lw_at lw_m1 62 rfl) rfl
theorem q107 : (Jvm.Cond.fieldLink "ParticleBox$Neighbourhood" (13 : Nat) "ParticleBox$Neighbourhood" "other" "LParticleBox$Atom;") ∈ lw_all := lw_g (lw_at lw_m1 63 rfl) rfl
theorem q108 : (Jvm.Cond.lays "ParticleBox$Neighbourhood" "ParticleBox$Neighbourhood" "cut" "D") ∈ lw_all := lw_g (lw_at lw_m1 64 rfl) rfl
theorem q109 : (Jvm.Cond.soleField "ParticleBox$Neighbourhood" "cut") ∈ lw_all := lw_g (lw_at lw_m1 65 rfl) rfl
theorem q110 : (Jvm.Cond.lays "ParticleBox$Neighbourhood" "ParticleBox$Neighbourhood" "one" "LParticleBox$Atom;") ∈ lw_all := lw_g (lw_at lw_m1 66 rfl) rfl
theorem q111 : (Jvm.Cond.soleField "ParticleBox$Neighbourhood" "one") ∈ lw_all := lw_g (lw_at lw_m1 67 rfl) rfl
theorem q112 : (Jvm.Cond.lays "ParticleBox$Neighbourhood" "ParticleBox$Neighbourhood" "other" "LParticleBox$Atom;") ∈ lw_all := lw_g (lw_at lw_m1 68 rfl) rfl
theorem q113 : (Jvm.Cond.soleField "ParticleBox$Neighbourhood" "other") ∈ lw_all := lw_g (lw_at lw_m1 69 rfl) rfl
theorem q114 : (Jvm.Cond.superclass "ParticleBox$Neighbourhood" "java/lang/Object") ∈ lw_all := lw_g (lw_at lw_m1 70 rfl) rfl
theorem q371 : (Jvm.Cond.fieldLink "ParticleBox$Neighbourhood" (20 : Nat) "ParticleBox$Atom" "sort" "LParticleBox$Sort;") ∈ lw_all := lw_g (lw_at lw_m2 87 rfl) rfl
theorem q593 : (Jvm.Cond.instanceMethod ({ cls := "ParticleBox$Neighbourhood", name := "of", desc := "(LParticleBox$Atom;LParticleBox$Atom;D)LParticleBox$Tie;" } : Jvm.MethodName)) ∈ lw_all := lw_g (lw_at lw_m3 69 rfl) rfl
theorem q594 : (Jvm.Cond.selects "ParticleBox$Neighbourhood" ({ cls := "ParticleBox$Neighbourhood", name := "of", desc := "(LParticleBox$Atom;LParticleBox$Atom;D)LParticleBox$Tie;" } : Jvm.MethodName) ({ cls := "ParticleBox$Neighbourhood", name := "of", desc := "(LParticleBox$Atom;LParticleBox$Atom;D)LParticleBox$Tie;" } : Jvm.MethodName)) ∈ lw_all := lw_g (lw_at lw_m3 70 rfl) rfl
theorem q595 : (Jvm.Cond.code ({ cls := "ParticleBox$Neighbourhood", name := "of", desc := "(LParticleBox$Atom;LParticleBox$Atom;D)LParticleBox$Tie;" } : Jvm.MethodName) prog_4_method_2_code (5 : Nat) (Option.some (Jvm.ClassFile.FieldType.object "ParticleBox$Tie"))) ∈ lw_all := lw_g (lw_at lw_m3 71 rfl) rfl
theorem q610 : (Jvm.Cond.castable "ParticleBox$Neighbourhood" "ParticleBox$Tie") ∈ lw_tbl := lw_at lw_m3 86 rfl
theorem q611 : (Jvm.Cond.selects "ParticleBox$Neighbourhood" ({ cls := "ParticleBox$Tie", name := "factor", desc := "(D)D" } : Jvm.MethodName) ({ cls := "ParticleBox$Neighbourhood", name := "factor", desc := "(D)D" } : Jvm.MethodName)) ∈ lw_all := lw_g (lw_at lw_m3 87 rfl) rfl
theorem q612 : (Jvm.Cond.unhidden "ParticleBox$Neighbourhood" "factor" "(D)D") ∈ lw_tbl := lw_at lw_m3 88 rfl
theorem q613 : (Jvm.Cond.instanceMethod ({ cls := "ParticleBox$Neighbourhood", name := "factor", desc := "(D)D" } : Jvm.MethodName)) ∈ lw_all := lw_g (lw_at lw_m3 89 rfl) rfl
theorem q614 : (Jvm.Cond.publicMethod ({ cls := "ParticleBox$Neighbourhood", name := "factor", desc := "(D)D" } : Jvm.MethodName)) ∈ lw_tbl := lw_at lw_m3 90 rfl
theorem q615 : (Jvm.Cond.code ({ cls := "ParticleBox$Neighbourhood", name := "factor", desc := "(D)D" } : Jvm.MethodName) prog_4_method_5_code (7 : Nat) (Option.some Jvm.ClassFile.FieldType.double)) ∈ lw_all := lw_g (lw_at lw_m3 91 rfl) rfl
theorem q616 : (Jvm.Cond.methodLink "ParticleBox$Neighbourhood" (36 : Nat) ({ cls := "ParticleBox$Neighbourhood", name := "sixth", desc := "(D)D" } : Jvm.MethodName)) ∈ lw_all := lw_g (lw_at lw_m3 92 rfl) rfl
theorem q617 : (Jvm.Cond.privateMethod ({ cls := "ParticleBox$Neighbourhood", name := "sixth", desc := "(D)D" } : Jvm.MethodName)) ∈ lw_tbl := lw_at lw_m3 93 rfl
theorem q618 : (Jvm.Cond.instanceMethod ({ cls := "ParticleBox$Neighbourhood", name := "sixth", desc := "(D)D" } : Jvm.MethodName)) ∈ lw_all := lw_g (lw_at lw_m3 94 rfl) rfl
theorem q619 : (Jvm.Cond.code ({ cls := "ParticleBox$Neighbourhood", name := "sixth", desc := "(D)D" } : Jvm.MethodName) prog_4_method_3_code (7 : Nat) (Option.some Jvm.ClassFile.FieldType.double)) ∈ lw_all := lw_g (lw_at lw_m3 95 rfl) rfl
theorem q620 : (Jvm.Cond.constantDouble "ParticleBox$Neighbourhood" (31 : Nat) (4602678819172646912 : UInt64)) ∈ lw_all := lw_g (lw_at lw_m3 96 rfl) rfl
theorem q621 : (Jvm.Cond.constantDouble "ParticleBox$Neighbourhood" (43 : Nat) (4627448617123184640 : UInt64)) ∈ lw_all := lw_g (lw_at lw_m3 97 rfl) rfl
theorem q622 : (Jvm.Cond.methodLink "ParticleBox$Neighbourhood" (45 : Nat) ({ cls := "ParticleBox$Neighbourhood", name := "strength", desc := "()D" } : Jvm.MethodName)) ∈ lw_all := lw_g (lw_at lw_m3 98 rfl) rfl
theorem q623 : (Jvm.Cond.privateMethod ({ cls := "ParticleBox$Neighbourhood", name := "strength", desc := "()D" } : Jvm.MethodName)) ∈ lw_tbl := lw_at lw_m3 99 rfl
theorem q624 : (Jvm.Cond.instanceMethod ({ cls := "ParticleBox$Neighbourhood", name := "strength", desc := "()D" } : Jvm.MethodName)) ∈ lw_all := lw_g (lw_at lw_m3 100 rfl) rfl
theorem q625 : (Jvm.Cond.code ({ cls := "ParticleBox$Neighbourhood", name := "strength", desc := "()D" } : Jvm.MethodName) prog_4_method_4_code (1 : Nat) (Option.some Jvm.ClassFile.FieldType.double)) ∈ lw_all := lw_g (lw_at lw_m3 101 rfl) rfl
theorem q626 : (Jvm.Cond.constantDouble "ParticleBox$Neighbourhood" (49 : Nat) (4611686018427387904 : UInt64)) ∈ lw_all := lw_g (lw_at lw_m3 102 rfl) rfl
theorem q703 : (Jvm.Cond.selects "ParticleBox$Neighbourhood" ({ cls := "ParticleBox$Tie", name := "energy", desc := "(D)D" } : Jvm.MethodName) ({ cls := "ParticleBox$Neighbourhood", name := "energy", desc := "(D)D" } : Jvm.MethodName)) ∈ lw_all := lw_g (lw_at lw_m3 179 rfl) rfl
theorem q704 : (Jvm.Cond.unhidden "ParticleBox$Neighbourhood" "energy" "(D)D") ∈ lw_tbl := lw_at lw_m3 180 rfl
theorem q705 : (Jvm.Cond.instanceMethod ({ cls := "ParticleBox$Neighbourhood", name := "energy", desc := "(D)D" } : Jvm.MethodName)) ∈ lw_all := lw_g (lw_at lw_m3 181 rfl) rfl
theorem q706 : (Jvm.Cond.publicMethod ({ cls := "ParticleBox$Neighbourhood", name := "energy", desc := "(D)D" } : Jvm.MethodName)) ∈ lw_tbl := lw_at lw_m3 182 rfl
theorem q707 : (Jvm.Cond.code ({ cls := "ParticleBox$Neighbourhood", name := "energy", desc := "(D)D" } : Jvm.MethodName) prog_4_method_6_code (7 : Nat) (Option.some Jvm.ClassFile.FieldType.double)) ∈ lw_all := lw_g (lw_at lw_m3 183 rfl) rfl
theorem q708 : (Jvm.Cond.constantDouble "ParticleBox$Neighbourhood" (51 : Nat) (4616189618054758400 : UInt64)) ∈ lw_all := lw_g (lw_at lw_m3 184 rfl) rfl
theorem in_X3 : ∀ w ∈ wsX30, w ∈ lw_all := lw_in wsX30 [108, 110, 112] (by decide +kernel) (by decide +kernel)

/-! ParticleBox$Way -/
set_option maxRecDepth 100000
def RX4 : String := "ParticleBox$Way"
def TX4 : u_T := fun k => match k with
  | 0 => ("ParticleBox$Way", "a", "D", false)
  | _ => ("ParticleBox$Way", "b", "D", false)
def tyX4 : Nat → FieldType := fun k => match k with
  | 0 => .double
  | _ => .double
abbrev wsX40 : List Cond := u_ws RX4 TX4 2
theorem nmX4 : ∀ a, a < 2 → ∀ b, b < 2 → a ≠ b → (TX4 a).2.1 ≠ (TX4 b).2.1 := by decide +kernel
theorem tyX4_ok : ∀ k, k < 2 → parseFieldDescriptor (TX4 k).2.2.1 = some (tyX4 k) := by decide +kernel
abbrev cX4_init : ByteArray := prog_8_method_1_code
def yX4_init : MethodName := ⟨RX4, "<init>", "()V"⟩
theorem dX4_init_0 : decode cX4_init 0 = .ok (.aload_n 0, 1) := by decide +kernel
theorem dX4_init_1 : decode cX4_init 1 = .ok (.invokespecial 1, 3) := by decide +kernel
theorem dX4_init_4 : decode cX4_init 4 = .ok (.return_, 1) := by decide +kernel
abbrev cX4_square : ByteArray := prog_8_method_2_code
def yX4_square : MethodName := ⟨RX4, "square", "()D"⟩
theorem dX4_square_0 : decode cX4_square 0 = .ok (.aload_n 0, 1) := by decide +kernel
theorem dX4_square_1 : decode cX4_square 1 = .ok (.getfield 7, 3) := by decide +kernel
theorem dX4_square_4 : decode cX4_square 4 = .ok (.aload_n 0, 1) := by decide +kernel
theorem dX4_square_5 : decode cX4_square 5 = .ok (.getfield 7, 3) := by decide +kernel
theorem dX4_square_8 : decode cX4_square 8 = .ok (.dmul, 1) := by decide +kernel
theorem dX4_square_9 : decode cX4_square 9 = .ok (.aload_n 0, 1) := by decide +kernel
theorem dX4_square_10 : decode cX4_square 10 = .ok (.getfield 13, 3) := by decide +kernel
theorem dX4_square_13 : decode cX4_square 13 = .ok (.aload_n 0, 1) := by decide +kernel
theorem dX4_square_14 : decode cX4_square 14 = .ok (.getfield 13, 3) := by decide +kernel
theorem dX4_square_17 : decode cX4_square 17 = .ok (.dmul, 1) := by decide +kernel
theorem dX4_square_18 : decode cX4_square 18 = .ok (.dadd, 1) := by decide +kernel
theorem dX4_square_19 : decode cX4_square 19 = .ok (.dreturn, 1) := by decide +kernel
theorem q48 : (Jvm.Cond.initialized "ParticleBox$Way") ∈ lw_all := lw_g (lw_at lw_m1 4 rfl) rfl
theorem q116 : (Jvm.Cond.instantiable "ParticleBox$Way" (2 : Nat)) ∈ lw_all := lw_g (lw_at lw_m1 72 rfl) rfl
theorem q118 : (Jvm.Cond.instanceMethod ({ cls := "ParticleBox$Way", name := "<init>", desc := "()V" } : Jvm.MethodName)) ∈ lw_all := lw_g (lw_at lw_m1 74 rfl) rfl
theorem q119 : (Jvm.Cond.code ({ cls := "ParticleBox$Way", name := "<init>", desc := "()V" } : Jvm.MethodName) prog_8_method_1_code (1 : Nat) (Option.none : Option Jvm.ClassFile.FieldType)) ∈ lw_all := lw_g (lw_at lw_m1 75 rfl) rfl
theorem q120 : (Jvm.Cond.methodLink "ParticleBox$Way" (1 : Nat) ({ cls := "java/lang/Object", name := "<init>", desc := "()V" } : Jvm.MethodName)) ∈ lw_all := lw_g (lw_at lw_m1 76 rfl) rfl
theorem q121 : (Jvm.Cond.fieldLink "ParticleBox$Way" (7 : Nat) "ParticleBox$Way" "a" "D") ∈ lw_all := lw_g (lw_at lw_m1 77 rfl) rfl
theorem q123 : (Jvm.Cond.fieldLink "ParticleBox$Way" (13 : Nat) "ParticleBox$Way" "b" "D") ∈ lw_all := lw_g (lw_at lw_m1 79 rfl) rfl
theorem q125 : (Jvm.Cond.lays "ParticleBox$Way" "ParticleBox$Way" "a" "D") ∈ lw_all := lw_g (lw_at lw_m1 81 rfl) rfl
theorem q126 : (Jvm.Cond.soleField "ParticleBox$Way" "a") ∈ lw_all := lw_g (lw_at lw_m1 82 rfl) rfl
theorem q127 : (Jvm.Cond.lays "ParticleBox$Way" "ParticleBox$Way" "b" "D") ∈ lw_all := lw_g (lw_at lw_m1 83 rfl) rfl
theorem q128 : (Jvm.Cond.soleField "ParticleBox$Way" "b") ∈ lw_all := lw_g (lw_at lw_m1 84 rfl) rfl
theorem q129 : (Jvm.Cond.superclass "ParticleBox$Way" "java/lang/Object") ∈ lw_all := lw_g (lw_at lw_m1 85 rfl) rfl
theorem q240 : (Jvm.Cond.instanceMethod ({ cls := "ParticleBox$Way", name := "square", desc := "()D" } : Jvm.MethodName)) ∈ lw_all := lw_g (lw_at lw_m1 196 rfl) rfl
theorem q241 : (Jvm.Cond.selects "ParticleBox$Way" ({ cls := "ParticleBox$Way", name := "square", desc := "()D" } : Jvm.MethodName) ({ cls := "ParticleBox$Way", name := "square", desc := "()D" } : Jvm.MethodName)) ∈ lw_all := lw_g (lw_at lw_m1 197 rfl) rfl
theorem q242 : (Jvm.Cond.code ({ cls := "ParticleBox$Way", name := "square", desc := "()D" } : Jvm.MethodName) prog_8_method_2_code (1 : Nat) (Option.some Jvm.ClassFile.FieldType.double)) ∈ lw_all := lw_g (lw_at lw_m1 198 rfl) rfl
theorem in_X4 : ∀ w ∈ wsX40, w ∈ lw_all := lw_in wsX40 [125, 127] (by decide +kernel) (by decide +kernel)

/-! ParticleBox$Atom -/
set_option maxRecDepth 100000
def RX6 : String := "ParticleBox$Atom"
def TX6 : u_T := fun k => match k with
  | 0 => ("ParticleBox$Atom", "mass", "D", true)
  | 1 => ("ParticleBox$Atom", "sort", "LParticleBox$Sort;", true)
  | 2 => ("ParticleBox$Atom", "number", "I", true)
  | 3 => ("ParticleBox$Atom", "x", "D", false)
  | 4 => ("ParticleBox$Atom", "y", "D", false)
  | 5 => ("ParticleBox$Atom", "u", "D", false)
  | 6 => ("ParticleBox$Atom", "v", "D", false)
  | 7 => ("ParticleBox$Atom", "forceX", "D", false)
  | 8 => ("ParticleBox$Atom", "forceY", "D", false)
  | 9 => ("ParticleBox$Atom", "stuck", "Z", false)
  | 10 => ("ParticleBox$Atom", "nextX", "D", false)
  | 11 => ("ParticleBox$Atom", "nextY", "D", false)
  | 12 => ("ParticleBox$Atom", "listX", "D", false)
  | _ => ("ParticleBox$Atom", "listY", "D", false)
def tyX6 : Nat → FieldType := fun k => match k with
  | 0 => .double
  | 1 => .object "ParticleBox$Sort"
  | 2 => .int
  | 3 => .double
  | 4 => .double
  | 5 => .double
  | 6 => .double
  | 7 => .double
  | 8 => .double
  | 9 => .boolean
  | 10 => .double
  | 11 => .double
  | 12 => .double
  | _ => .double
abbrev wsX60 : List Cond := u_ws RX6 TX6 14
set_option maxRecDepth 100000 in
theorem nmX6 : ∀ a, a < 14 → ∀ b, b < 14 → a ≠ b → (TX6 a).2.1 ≠ (TX6 b).2.1 := by decide +kernel
set_option maxRecDepth 100000 in
theorem tyX6_ok : ∀ k, k < 14 → parseFieldDescriptor (TX6 k).2.2.1 = some (tyX6 k) := by decide +kernel
abbrev cX6_init : ByteArray := prog_2_method_1_code
def yX6_init : MethodName := ⟨RX6, "<init>", "(IDLParticleBox$Sort;)V"⟩
theorem dX6_init_0 : decode cX6_init 0 = .ok (.aload_n 0, 1) := by decide +kernel
theorem dX6_init_1 : decode cX6_init 1 = .ok (.invokespecial 3, 3) := by decide +kernel
theorem dX6_init_4 : decode cX6_init 4 = .ok (.aload_n 0, 1) := by decide +kernel
theorem dX6_init_5 : decode cX6_init 5 = .ok (.iload_n 1, 1) := by decide +kernel
theorem dX6_init_6 : decode cX6_init 6 = .ok (.putfield 9, 3) := by decide +kernel
theorem dX6_init_9 : decode cX6_init 9 = .ok (.aload_n 0, 1) := by decide +kernel
theorem dX6_init_10 : decode cX6_init 10 = .ok (.dload_n 2, 1) := by decide +kernel
theorem dX6_init_11 : decode cX6_init 11 = .ok (.putfield 15, 3) := by decide +kernel
theorem dX6_init_14 : decode cX6_init 14 = .ok (.aload_n 0, 1) := by decide +kernel
theorem dX6_init_15 : decode cX6_init 15 = .ok (.aload 4, 2) := by decide +kernel
theorem dX6_init_17 : decode cX6_init 17 = .ok (.putfield 19, 3) := by decide +kernel
theorem dX6_init_20 : decode cX6_init 20 = .ok (.return_, 1) := by decide +kernel
abbrev cX6_save : ByteArray := prog_2_method_5_code
def yX6_save : MethodName := ⟨RX6, "save", "([D)V"⟩
theorem dX6_save_0 : decode cX6_save 0 = .ok (.aload_n 1, 1) := by decide +kernel
theorem dX6_save_1 : decode cX6_save 1 = .ok (.iconst 0, 1) := by decide +kernel
theorem dX6_save_2 : decode cX6_save 2 = .ok (.aload_n 0, 1) := by decide +kernel
theorem dX6_save_3 : decode cX6_save 3 = .ok (.getfield 43, 3) := by decide +kernel
theorem dX6_save_6 : decode cX6_save 6 = .ok (.dastore, 1) := by decide +kernel
theorem dX6_save_7 : decode cX6_save 7 = .ok (.aload_n 1, 1) := by decide +kernel
theorem dX6_save_8 : decode cX6_save 8 = .ok (.iconst 1, 1) := by decide +kernel
theorem dX6_save_9 : decode cX6_save 9 = .ok (.aload_n 0, 1) := by decide +kernel
theorem dX6_save_10 : decode cX6_save 10 = .ok (.getfield 46, 3) := by decide +kernel
theorem dX6_save_13 : decode cX6_save 13 = .ok (.dastore, 1) := by decide +kernel
theorem dX6_save_14 : decode cX6_save 14 = .ok (.aload_n 1, 1) := by decide +kernel
theorem dX6_save_15 : decode cX6_save 15 = .ok (.iconst 2, 1) := by decide +kernel
theorem dX6_save_16 : decode cX6_save 16 = .ok (.aload_n 0, 1) := by decide +kernel
theorem dX6_save_17 : decode cX6_save 17 = .ok (.getfield 27, 3) := by decide +kernel
theorem dX6_save_20 : decode cX6_save 20 = .ok (.dastore, 1) := by decide +kernel
theorem dX6_save_21 : decode cX6_save 21 = .ok (.aload_n 1, 1) := by decide +kernel
theorem dX6_save_22 : decode cX6_save 22 = .ok (.iconst 3, 1) := by decide +kernel
theorem dX6_save_23 : decode cX6_save 23 = .ok (.aload_n 0, 1) := by decide +kernel
theorem dX6_save_24 : decode cX6_save 24 = .ok (.getfield 34, 3) := by decide +kernel
theorem dX6_save_27 : decode cX6_save 27 = .ok (.dastore, 1) := by decide +kernel
theorem dX6_save_28 : decode cX6_save 28 = .ok (.return_, 1) := by decide +kernel
abbrev cX6_push : ByteArray := prog_2_method_4_code
def yX6_push : MethodName := ⟨RX6, "push", "(D)V"⟩
theorem dX6_push_0 : decode cX6_push 0 = .ok (.aload_n 0, 1) := by decide +kernel
theorem dX6_push_1 : decode cX6_push 1 = .ok (.getfield 23, 3) := by decide +kernel
theorem dX6_push_4 : decode cX6_push 4 = .ok (.ifCond .eq 4, 3) := by decide +kernel
theorem dX6_push_7 : decode cX6_push 7 = .ok (.return_, 1) := by decide +kernel
theorem dX6_push_8 : decode cX6_push 8 = .ok (.aload_n 0, 1) := by decide +kernel
theorem dX6_push_9 : decode cX6_push 9 = .ok (.aload_n 0, 1) := by decide +kernel
theorem dX6_push_10 : decode cX6_push 10 = .ok (.getfield 27, 3) := by decide +kernel
theorem dX6_push_13 : decode cX6_push 13 = .ok (.dload_n 1, 1) := by decide +kernel
theorem dX6_push_14 : decode cX6_push 14 = .ok (.aload_n 0, 1) := by decide +kernel
theorem dX6_push_15 : decode cX6_push 15 = .ok (.getfield 37, 3) := by decide +kernel
theorem dX6_push_18 : decode cX6_push 18 = .ok (.aload_n 0, 1) := by decide +kernel
theorem dX6_push_19 : decode cX6_push 19 = .ok (.getfield 15, 3) := by decide +kernel
theorem dX6_push_22 : decode cX6_push 22 = .ok (.ddiv, 1) := by decide +kernel
theorem dX6_push_23 : decode cX6_push 23 = .ok (.dmul, 1) := by decide +kernel
theorem dX6_push_24 : decode cX6_push 24 = .ok (.dadd, 1) := by decide +kernel
theorem dX6_push_25 : decode cX6_push 25 = .ok (.putfield 27, 3) := by decide +kernel
theorem dX6_push_28 : decode cX6_push 28 = .ok (.aload_n 0, 1) := by decide +kernel
theorem dX6_push_29 : decode cX6_push 29 = .ok (.aload_n 0, 1) := by decide +kernel
theorem dX6_push_30 : decode cX6_push 30 = .ok (.getfield 34, 3) := by decide +kernel
theorem dX6_push_33 : decode cX6_push 33 = .ok (.dload_n 1, 1) := by decide +kernel
theorem dX6_push_34 : decode cX6_push 34 = .ok (.aload_n 0, 1) := by decide +kernel
theorem dX6_push_35 : decode cX6_push 35 = .ok (.getfield 40, 3) := by decide +kernel
theorem dX6_push_38 : decode cX6_push 38 = .ok (.aload_n 0, 1) := by decide +kernel
theorem dX6_push_39 : decode cX6_push 39 = .ok (.getfield 15, 3) := by decide +kernel
theorem dX6_push_42 : decode cX6_push 42 = .ok (.ddiv, 1) := by decide +kernel
theorem dX6_push_43 : decode cX6_push 43 = .ok (.dmul, 1) := by decide +kernel
theorem dX6_push_44 : decode cX6_push 44 = .ok (.dadd, 1) := by decide +kernel
theorem dX6_push_45 : decode cX6_push 45 = .ok (.putfield 34, 3) := by decide +kernel
theorem dX6_push_48 : decode cX6_push 48 = .ok (.return_, 1) := by decide +kernel
abbrev cX6_tooFast : ByteArray := prog_2_method_3_code
def yX6_tooFast : MethodName := ⟨RX6, "tooFast", "()Z"⟩
theorem dX6_tooFast_0 : decode cX6_tooFast 0 = .ok (.aload_n 0, 1) := by decide +kernel
theorem dX6_tooFast_1 : decode cX6_tooFast 1 = .ok (.getfield 27, 3) := by decide +kernel
theorem dX6_tooFast_4 : decode cX6_tooFast 4 = .ok (.ldc2_w 30, 3) := by decide +kernel
theorem dX6_tooFast_7 : decode cX6_tooFast 7 = .ok (.dcmp .l, 1) := by decide +kernel
theorem dX6_tooFast_8 : decode cX6_tooFast 8 = .ok (.ifCond .gt 36, 3) := by decide +kernel
theorem dX6_tooFast_11 : decode cX6_tooFast 11 = .ok (.aload_n 0, 1) := by decide +kernel
theorem dX6_tooFast_12 : decode cX6_tooFast 12 = .ok (.getfield 27, 3) := by decide +kernel
theorem dX6_tooFast_15 : decode cX6_tooFast 15 = .ok (.ldc2_w 32, 3) := by decide +kernel
theorem dX6_tooFast_18 : decode cX6_tooFast 18 = .ok (.dcmp .g, 1) := by decide +kernel
theorem dX6_tooFast_19 : decode cX6_tooFast 19 = .ok (.ifCond .lt 25, 3) := by decide +kernel
theorem dX6_tooFast_22 : decode cX6_tooFast 22 = .ok (.aload_n 0, 1) := by decide +kernel
theorem dX6_tooFast_23 : decode cX6_tooFast 23 = .ok (.getfield 34, 3) := by decide +kernel
theorem dX6_tooFast_26 : decode cX6_tooFast 26 = .ok (.ldc2_w 30, 3) := by decide +kernel
theorem dX6_tooFast_29 : decode cX6_tooFast 29 = .ok (.dcmp .l, 1) := by decide +kernel
theorem dX6_tooFast_30 : decode cX6_tooFast 30 = .ok (.ifCond .gt 14, 3) := by decide +kernel
theorem dX6_tooFast_33 : decode cX6_tooFast 33 = .ok (.aload_n 0, 1) := by decide +kernel
theorem dX6_tooFast_34 : decode cX6_tooFast 34 = .ok (.getfield 34, 3) := by decide +kernel
theorem dX6_tooFast_37 : decode cX6_tooFast 37 = .ok (.ldc2_w 32, 3) := by decide +kernel
theorem dX6_tooFast_40 : decode cX6_tooFast 40 = .ok (.dcmp .g, 1) := by decide +kernel
theorem dX6_tooFast_41 : decode cX6_tooFast 41 = .ok (.ifCond .ge 7, 3) := by decide +kernel
theorem dX6_tooFast_44 : decode cX6_tooFast 44 = .ok (.iconst 1, 1) := by decide +kernel
theorem dX6_tooFast_45 : decode cX6_tooFast 45 = .ok (.goto 4, 3) := by decide +kernel
theorem dX6_tooFast_48 : decode cX6_tooFast 48 = .ok (.iconst 0, 1) := by decide +kernel
theorem dX6_tooFast_49 : decode cX6_tooFast 49 = .ok (.ireturn, 1) := by decide +kernel
abbrev cX6_ease : ByteArray := prog_2_method_2_code
def yX6_ease : MethodName := ⟨RX6, "ease", "()D"⟩
theorem dX6_ease_0 : decode cX6_ease 0 = .ok (.aload_n 0, 1) := by decide +kernel
theorem dX6_ease_1 : decode cX6_ease 1 = .ok (.getfield 23, 3) := by decide +kernel
theorem dX6_ease_4 : decode cX6_ease 4 = .ok (.ifCond .eq 7, 3) := by decide +kernel
theorem dX6_ease_7 : decode cX6_ease 7 = .ok (.dconst 0, 1) := by decide +kernel
theorem dX6_ease_8 : decode cX6_ease 8 = .ok (.goto 9, 3) := by decide +kernel
theorem dX6_ease_11 : decode cX6_ease 11 = .ok (.dconst 1, 1) := by decide +kernel
theorem dX6_ease_12 : decode cX6_ease 12 = .ok (.aload_n 0, 1) := by decide +kernel
theorem dX6_ease_13 : decode cX6_ease 13 = .ok (.getfield 15, 3) := by decide +kernel
theorem dX6_ease_16 : decode cX6_ease 16 = .ok (.ddiv, 1) := by decide +kernel
theorem dX6_ease_17 : decode cX6_ease 17 = .ok (.dreturn, 1) := by decide +kernel
abbrev cX6_restore : ByteArray := prog_2_method_6_code
def yX6_restore : MethodName := ⟨RX6, "restore", "([D)V"⟩
theorem dX6_restore_0 : decode cX6_restore 0 = .ok (.aload_n 0, 1) := by decide +kernel
theorem dX6_restore_1 : decode cX6_restore 1 = .ok (.aload_n 1, 1) := by decide +kernel
theorem dX6_restore_2 : decode cX6_restore 2 = .ok (.iconst 0, 1) := by decide +kernel
theorem dX6_restore_3 : decode cX6_restore 3 = .ok (.daload, 1) := by decide +kernel
theorem dX6_restore_4 : decode cX6_restore 4 = .ok (.putfield 43, 3) := by decide +kernel
theorem dX6_restore_7 : decode cX6_restore 7 = .ok (.aload_n 0, 1) := by decide +kernel
theorem dX6_restore_8 : decode cX6_restore 8 = .ok (.aload_n 1, 1) := by decide +kernel
theorem dX6_restore_9 : decode cX6_restore 9 = .ok (.iconst 1, 1) := by decide +kernel
theorem dX6_restore_10 : decode cX6_restore 10 = .ok (.daload, 1) := by decide +kernel
theorem dX6_restore_11 : decode cX6_restore 11 = .ok (.putfield 46, 3) := by decide +kernel
theorem dX6_restore_14 : decode cX6_restore 14 = .ok (.aload_n 0, 1) := by decide +kernel
theorem dX6_restore_15 : decode cX6_restore 15 = .ok (.aload_n 1, 1) := by decide +kernel
theorem dX6_restore_16 : decode cX6_restore 16 = .ok (.iconst 2, 1) := by decide +kernel
theorem dX6_restore_17 : decode cX6_restore 17 = .ok (.daload, 1) := by decide +kernel
theorem dX6_restore_18 : decode cX6_restore 18 = .ok (.putfield 27, 3) := by decide +kernel
theorem dX6_restore_21 : decode cX6_restore 21 = .ok (.aload_n 0, 1) := by decide +kernel
theorem dX6_restore_22 : decode cX6_restore 22 = .ok (.aload_n 1, 1) := by decide +kernel
theorem dX6_restore_23 : decode cX6_restore 23 = .ok (.iconst 3, 1) := by decide +kernel
theorem dX6_restore_24 : decode cX6_restore 24 = .ok (.daload, 1) := by decide +kernel
theorem dX6_restore_25 : decode cX6_restore 25 = .ok (.putfield 34, 3) := by decide +kernel
theorem dX6_restore_28 : decode cX6_restore 28 = .ok (.return_, 1) := by decide +kernel
theorem q56 : (Jvm.Cond.initialized "ParticleBox$Atom") ∈ lw_all := lw_g (lw_at lw_m1 12 rfl) rfl
theorem q363 : (Jvm.Cond.instantiable "ParticleBox$Atom" (14 : Nat)) ∈ lw_all := lw_g (lw_at lw_m2 79 rfl) rfl
theorem q365 : (Jvm.Cond.instanceMethod ({ cls := "ParticleBox$Atom", name := "<init>", desc := "(IDLParticleBox$Sort;)V" } : Jvm.MethodName)) ∈ lw_all := lw_g (lw_at lw_m2 81 rfl) rfl
theorem q366 : (Jvm.Cond.code ({ cls := "ParticleBox$Atom", name := "<init>", desc := "(IDLParticleBox$Sort;)V" } : Jvm.MethodName) prog_2_method_1_code (5 : Nat) (Option.none : Option Jvm.ClassFile.FieldType)) ∈ lw_all := lw_g (lw_at lw_m2 82 rfl) rfl
theorem q367 : (Jvm.Cond.methodLink "ParticleBox$Atom" (3 : Nat) ({ cls := "java/lang/Object", name := "<init>", desc := "()V" } : Jvm.MethodName)) ∈ lw_all := lw_g (lw_at lw_m2 83 rfl) rfl
theorem q368 : (Jvm.Cond.fieldLink "ParticleBox$Atom" (15 : Nat) "ParticleBox$Atom" "mass" "D") ∈ lw_all := lw_g (lw_at lw_m2 84 rfl) rfl
theorem q370 : (Jvm.Cond.fieldLink "ParticleBox$Atom" (19 : Nat) "ParticleBox$Atom" "sort" "LParticleBox$Sort;") ∈ lw_all := lw_g (lw_at lw_m2 86 rfl) rfl
theorem q373 : (Jvm.Cond.fieldLink "ParticleBox$Atom" (9 : Nat) "ParticleBox$Atom" "number" "I") ∈ lw_all := lw_g (lw_at lw_m2 89 rfl) rfl
theorem q374 : (Jvm.Cond.fieldLink "ParticleBox$Atom" (43 : Nat) "ParticleBox$Atom" "x" "D") ∈ lw_all := lw_g (lw_at lw_m2 90 rfl) rfl
theorem q376 : (Jvm.Cond.fieldLink "ParticleBox$Atom" (46 : Nat) "ParticleBox$Atom" "y" "D") ∈ lw_all := lw_g (lw_at lw_m2 92 rfl) rfl
theorem q378 : (Jvm.Cond.fieldLink "ParticleBox$Atom" (27 : Nat) "ParticleBox$Atom" "u" "D") ∈ lw_all := lw_g (lw_at lw_m2 94 rfl) rfl
theorem q380 : (Jvm.Cond.fieldLink "ParticleBox$Atom" (34 : Nat) "ParticleBox$Atom" "v" "D") ∈ lw_all := lw_g (lw_at lw_m2 96 rfl) rfl
theorem q382 : (Jvm.Cond.fieldLink "ParticleBox$Atom" (37 : Nat) "ParticleBox$Atom" "forceX" "D") ∈ lw_all := lw_g (lw_at lw_m2 98 rfl) rfl
theorem q384 : (Jvm.Cond.fieldLink "ParticleBox$Atom" (40 : Nat) "ParticleBox$Atom" "forceY" "D") ∈ lw_all := lw_g (lw_at lw_m2 100 rfl) rfl
theorem q386 : (Jvm.Cond.fieldLink "ParticleBox$Atom" (23 : Nat) "ParticleBox$Atom" "stuck" "Z") ∈ lw_all := lw_g (lw_at lw_m2 102 rfl) rfl
theorem q392 : (Jvm.Cond.laysFinal "ParticleBox$Atom" "ParticleBox$Atom" "mass" "D") ∈ lw_all := lw_g (lw_at lw_m2 108 rfl) rfl
theorem q393 : (Jvm.Cond.soleField "ParticleBox$Atom" "mass") ∈ lw_all := lw_g (lw_at lw_m2 109 rfl) rfl
theorem q394 : (Jvm.Cond.laysFinal "ParticleBox$Atom" "ParticleBox$Atom" "sort" "LParticleBox$Sort;") ∈ lw_all := lw_g (lw_at lw_m2 110 rfl) rfl
theorem q395 : (Jvm.Cond.soleField "ParticleBox$Atom" "sort") ∈ lw_all := lw_g (lw_at lw_m2 111 rfl) rfl
theorem q396 : (Jvm.Cond.laysFinal "ParticleBox$Atom" "ParticleBox$Atom" "number" "I") ∈ lw_all := lw_g (lw_at lw_m2 112 rfl) rfl
theorem q397 : (Jvm.Cond.soleField "ParticleBox$Atom" "number") ∈ lw_all := lw_g (lw_at lw_m2 113 rfl) rfl
theorem q398 : (Jvm.Cond.lays "ParticleBox$Atom" "ParticleBox$Atom" "x" "D") ∈ lw_all := lw_g (lw_at lw_m2 114 rfl) rfl
theorem q399 : (Jvm.Cond.soleField "ParticleBox$Atom" "x") ∈ lw_all := lw_g (lw_at lw_m2 115 rfl) rfl
theorem q400 : (Jvm.Cond.lays "ParticleBox$Atom" "ParticleBox$Atom" "y" "D") ∈ lw_all := lw_g (lw_at lw_m2 116 rfl) rfl
theorem q401 : (Jvm.Cond.soleField "ParticleBox$Atom" "y") ∈ lw_all := lw_g (lw_at lw_m2 117 rfl) rfl
theorem q402 : (Jvm.Cond.lays "ParticleBox$Atom" "ParticleBox$Atom" "u" "D") ∈ lw_all := lw_g (lw_at lw_m2 118 rfl) rfl
theorem q403 : (Jvm.Cond.soleField "ParticleBox$Atom" "u") ∈ lw_all := lw_g (lw_at lw_m2 119 rfl) rfl
theorem q404 : (Jvm.Cond.lays "ParticleBox$Atom" "ParticleBox$Atom" "v" "D") ∈ lw_all := lw_g (lw_at lw_m2 120 rfl) rfl
theorem q405 : (Jvm.Cond.soleField "ParticleBox$Atom" "v") ∈ lw_all := lw_g (lw_at lw_m2 121 rfl) rfl
theorem q406 : (Jvm.Cond.lays "ParticleBox$Atom" "ParticleBox$Atom" "forceX" "D") ∈ lw_all := lw_g (lw_at lw_m2 122 rfl) rfl
theorem q407 : (Jvm.Cond.soleField "ParticleBox$Atom" "forceX") ∈ lw_all := lw_g (lw_at lw_m2 123 rfl) rfl
theorem q408 : (Jvm.Cond.lays "ParticleBox$Atom" "ParticleBox$Atom" "forceY" "D") ∈ lw_all := lw_g (lw_at lw_m2 124 rfl) rfl
theorem q409 : (Jvm.Cond.soleField "ParticleBox$Atom" "forceY") ∈ lw_all := lw_g (lw_at lw_m2 125 rfl) rfl
theorem q410 : (Jvm.Cond.lays "ParticleBox$Atom" "ParticleBox$Atom" "stuck" "Z") ∈ lw_all := lw_g (lw_at lw_m2 126 rfl) rfl
theorem q411 : (Jvm.Cond.soleField "ParticleBox$Atom" "stuck") ∈ lw_all := lw_g (lw_at lw_m2 127 rfl) rfl
theorem q412 : (Jvm.Cond.lays "ParticleBox$Atom" "ParticleBox$Atom" "nextX" "D") ∈ lw_all := lw_g (lw_at lw_m2 128 rfl) rfl
theorem q413 : (Jvm.Cond.soleField "ParticleBox$Atom" "nextX") ∈ lw_all := lw_g (lw_at lw_m2 129 rfl) rfl
theorem q414 : (Jvm.Cond.lays "ParticleBox$Atom" "ParticleBox$Atom" "nextY" "D") ∈ lw_all := lw_g (lw_at lw_m2 130 rfl) rfl
theorem q415 : (Jvm.Cond.soleField "ParticleBox$Atom" "nextY") ∈ lw_all := lw_g (lw_at lw_m2 131 rfl) rfl
theorem q416 : (Jvm.Cond.lays "ParticleBox$Atom" "ParticleBox$Atom" "listX" "D") ∈ lw_all := lw_g (lw_at lw_m2 132 rfl) rfl
theorem q417 : (Jvm.Cond.soleField "ParticleBox$Atom" "listX") ∈ lw_all := lw_g (lw_at lw_m2 133 rfl) rfl
theorem q418 : (Jvm.Cond.lays "ParticleBox$Atom" "ParticleBox$Atom" "listY" "D") ∈ lw_all := lw_g (lw_at lw_m2 134 rfl) rfl
theorem q419 : (Jvm.Cond.soleField "ParticleBox$Atom" "listY") ∈ lw_all := lw_g (lw_at lw_m2 135 rfl) rfl
theorem q420 : (Jvm.Cond.superclass "ParticleBox$Atom" "java/lang/Object") ∈ lw_all := lw_g (lw_at lw_m2 136 rfl) rfl
theorem q558 : (Jvm.Cond.instanceMethod ({ cls := "ParticleBox$Atom", name := "save", desc := "([D)V" } : Jvm.MethodName)) ∈ lw_all := lw_g (lw_at lw_m3 34 rfl) rfl
theorem q559 : (Jvm.Cond.selects "ParticleBox$Atom" ({ cls := "ParticleBox$Atom", name := "save", desc := "([D)V" } : Jvm.MethodName) ({ cls := "ParticleBox$Atom", name := "save", desc := "([D)V" } : Jvm.MethodName)) ∈ lw_all := lw_g (lw_at lw_m3 35 rfl) rfl
theorem q560 : (Jvm.Cond.code ({ cls := "ParticleBox$Atom", name := "save", desc := "([D)V" } : Jvm.MethodName) prog_2_method_5_code (2 : Nat) (Option.none : Option Jvm.ClassFile.FieldType)) ∈ lw_all := lw_g (lw_at lw_m3 36 rfl) rfl
theorem q632 : (Jvm.Cond.instanceMethod ({ cls := "ParticleBox$Atom", name := "push", desc := "(D)V" } : Jvm.MethodName)) ∈ lw_all := lw_g (lw_at lw_m3 108 rfl) rfl
theorem q633 : (Jvm.Cond.selects "ParticleBox$Atom" ({ cls := "ParticleBox$Atom", name := "push", desc := "(D)V" } : Jvm.MethodName) ({ cls := "ParticleBox$Atom", name := "push", desc := "(D)V" } : Jvm.MethodName)) ∈ lw_all := lw_g (lw_at lw_m3 109 rfl) rfl
theorem q634 : (Jvm.Cond.code ({ cls := "ParticleBox$Atom", name := "push", desc := "(D)V" } : Jvm.MethodName) prog_2_method_4_code (3 : Nat) (Option.none : Option Jvm.ClassFile.FieldType)) ∈ lw_all := lw_g (lw_at lw_m3 110 rfl) rfl
theorem q640 : (Jvm.Cond.instanceMethod ({ cls := "ParticleBox$Atom", name := "tooFast", desc := "()Z" } : Jvm.MethodName)) ∈ lw_all := lw_g (lw_at lw_m3 116 rfl) rfl
theorem q641 : (Jvm.Cond.selects "ParticleBox$Atom" ({ cls := "ParticleBox$Atom", name := "tooFast", desc := "()Z" } : Jvm.MethodName) ({ cls := "ParticleBox$Atom", name := "tooFast", desc := "()Z" } : Jvm.MethodName)) ∈ lw_all := lw_g (lw_at lw_m3 117 rfl) rfl
theorem q642 : (Jvm.Cond.code ({ cls := "ParticleBox$Atom", name := "tooFast", desc := "()Z" } : Jvm.MethodName) prog_2_method_3_code (1 : Nat) (Option.some Jvm.ClassFile.FieldType.boolean)) ∈ lw_all := lw_g (lw_at lw_m3 118 rfl) rfl
theorem q643 : (Jvm.Cond.constantDouble "ParticleBox$Atom" (30 : Nat) (4696837146684686336 : UInt64)) ∈ lw_all := lw_g (lw_at lw_m3 119 rfl) rfl
theorem q644 : (Jvm.Cond.constantDouble "ParticleBox$Atom" (32 : Nat) (13920209183539462144 : UInt64)) ∈ lw_all := lw_g (lw_at lw_m3 120 rfl) rfl
theorem q655 : (Jvm.Cond.instanceMethod ({ cls := "ParticleBox$Atom", name := "ease", desc := "()D" } : Jvm.MethodName)) ∈ lw_all := lw_g (lw_at lw_m3 131 rfl) rfl
theorem q656 : (Jvm.Cond.selects "ParticleBox$Atom" ({ cls := "ParticleBox$Atom", name := "ease", desc := "()D" } : Jvm.MethodName) ({ cls := "ParticleBox$Atom", name := "ease", desc := "()D" } : Jvm.MethodName)) ∈ lw_all := lw_g (lw_at lw_m3 132 rfl) rfl
theorem q657 : (Jvm.Cond.code ({ cls := "ParticleBox$Atom", name := "ease", desc := "()D" } : Jvm.MethodName) prog_2_method_2_code (1 : Nat) (Option.some Jvm.ClassFile.FieldType.double)) ∈ lw_all := lw_g (lw_at lw_m3 133 rfl) rfl
theorem q668 : (Jvm.Cond.instanceMethod ({ cls := "ParticleBox$Atom", name := "restore", desc := "([D)V" } : Jvm.MethodName)) ∈ lw_all := lw_g (lw_at lw_m3 144 rfl) rfl
theorem q669 : (Jvm.Cond.selects "ParticleBox$Atom" ({ cls := "ParticleBox$Atom", name := "restore", desc := "([D)V" } : Jvm.MethodName) ({ cls := "ParticleBox$Atom", name := "restore", desc := "([D)V" } : Jvm.MethodName)) ∈ lw_all := lw_g (lw_at lw_m3 145 rfl) rfl
theorem q670 : (Jvm.Cond.code ({ cls := "ParticleBox$Atom", name := "restore", desc := "([D)V" } : Jvm.MethodName) prog_2_method_6_code (2 : Nat) (Option.none : Option Jvm.ClassFile.FieldType)) ∈ lw_all := lw_g (lw_at lw_m3 146 rfl) rfl
theorem in_X6 : ∀ w ∈ wsX60, w ∈ lw_all := lw_in wsX60 [392, 394, 396, 398, 400, 402, 404, 406, 408, 410, 412, 414, 416, 418] (by decide +kernel) (by decide +kernel)

/-! ParticleBox$Bond -/
set_option maxRecDepth 100000
def RX7 : String := "ParticleBox$Bond"
def TX7 : u_T := fun k => match k with
  | 0 => ("ParticleBox$Bond", "one", "LParticleBox$Atom;", true)
  | 1 => ("ParticleBox$Bond", "other", "LParticleBox$Atom;", true)
  | 2 => ("ParticleBox$Bond", "strength", "D", true)
  | _ => ("ParticleBox$Bond", "length", "D", true)
def tyX7 : Nat → FieldType := fun k => match k with
  | 0 => .object "ParticleBox$Atom"
  | 1 => .object "ParticleBox$Atom"
  | 2 => .double
  | _ => .double
abbrev wsX70 : List Cond := u_ws RX7 TX7 4
theorem nmX7 : ∀ a, a < 4 → ∀ b, b < 4 → a ≠ b → (TX7 a).2.1 ≠ (TX7 b).2.1 := by decide +kernel
theorem tyX7_ok : ∀ k, k < 4 → parseFieldDescriptor (TX7 k).2.2.1 = some (tyX7 k) := by decide +kernel
abbrev cX7_init : ByteArray := prog_3_method_1_code
def yX7_init : MethodName := ⟨RX7, "<init>", "(LParticleBox$Atom;LParticleBox$Atom;DD)V"⟩
theorem dX7_init_0 : decode cX7_init 0 = .ok (.aload_n 0, 1) := by decide +kernel
theorem dX7_init_1 : decode cX7_init 1 = .ok (.invokespecial 1, 3) := by decide +kernel
theorem dX7_init_4 : decode cX7_init 4 = .ok (.aload_n 0, 1) := by decide +kernel
theorem dX7_init_5 : decode cX7_init 5 = .ok (.aload_n 1, 1) := by decide +kernel
theorem dX7_init_6 : decode cX7_init 6 = .ok (.putfield 7, 3) := by decide +kernel
theorem dX7_init_9 : decode cX7_init 9 = .ok (.aload_n 0, 1) := by decide +kernel
theorem dX7_init_10 : decode cX7_init 10 = .ok (.aload_n 2, 1) := by decide +kernel
theorem dX7_init_11 : decode cX7_init 11 = .ok (.putfield 13, 3) := by decide +kernel
theorem dX7_init_14 : decode cX7_init 14 = .ok (.aload_n 0, 1) := by decide +kernel
theorem dX7_init_15 : decode cX7_init 15 = .ok (.dload_n 3, 1) := by decide +kernel
theorem dX7_init_16 : decode cX7_init 16 = .ok (.putfield 16, 3) := by decide +kernel
theorem dX7_init_19 : decode cX7_init 19 = .ok (.aload_n 0, 1) := by decide +kernel
theorem dX7_init_20 : decode cX7_init 20 = .ok (.dload 5, 2) := by decide +kernel
theorem dX7_init_22 : decode cX7_init 22 = .ok (.putfield 20, 3) := by decide +kernel
theorem dX7_init_25 : decode cX7_init 25 = .ok (.return_, 1) := by decide +kernel
abbrev cX7_factor : ByteArray := prog_3_method_2_code
def yX7_factor : MethodName := ⟨RX7, "factor", "(D)D"⟩
theorem dX7_factor_0 : decode cX7_factor 0 = .ok (.aload_n 0, 1) := by decide +kernel
theorem dX7_factor_1 : decode cX7_factor 1 = .ok (.getfield 16, 3) := by decide +kernel
theorem dX7_factor_4 : decode cX7_factor 4 = .ok (.dload_n 1, 1) := by decide +kernel
theorem dX7_factor_5 : decode cX7_factor 5 = .ok (.aload_n 0, 1) := by decide +kernel
theorem dX7_factor_6 : decode cX7_factor 6 = .ok (.getfield 20, 3) := by decide +kernel
theorem dX7_factor_9 : decode cX7_factor 9 = .ok (.aload_n 0, 1) := by decide +kernel
theorem dX7_factor_10 : decode cX7_factor 10 = .ok (.getfield 20, 3) := by decide +kernel
theorem dX7_factor_13 : decode cX7_factor 13 = .ok (.dmul, 1) := by decide +kernel
theorem dX7_factor_14 : decode cX7_factor 14 = .ok (.dsub, 1) := by decide +kernel
theorem dX7_factor_15 : decode cX7_factor 15 = .ok (.dmul, 1) := by decide +kernel
theorem dX7_factor_16 : decode cX7_factor 16 = .ok (.dreturn, 1) := by decide +kernel
abbrev cX7_energy : ByteArray := prog_3_method_3_code
def yX7_energy : MethodName := ⟨RX7, "energy", "(D)D"⟩
theorem dX7_energy_0 : decode cX7_energy 0 = .ok (.ldc2_w 23, 3) := by decide +kernel
theorem dX7_energy_3 : decode cX7_energy 3 = .ok (.aload_n 0, 1) := by decide +kernel
theorem dX7_energy_4 : decode cX7_energy 4 = .ok (.getfield 16, 3) := by decide +kernel
theorem dX7_energy_7 : decode cX7_energy 7 = .ok (.dmul, 1) := by decide +kernel
theorem dX7_energy_8 : decode cX7_energy 8 = .ok (.dload_n 1, 1) := by decide +kernel
theorem dX7_energy_9 : decode cX7_energy 9 = .ok (.aload_n 0, 1) := by decide +kernel
theorem dX7_energy_10 : decode cX7_energy 10 = .ok (.getfield 20, 3) := by decide +kernel
theorem dX7_energy_13 : decode cX7_energy 13 = .ok (.aload_n 0, 1) := by decide +kernel
theorem dX7_energy_14 : decode cX7_energy 14 = .ok (.getfield 20, 3) := by decide +kernel
theorem dX7_energy_17 : decode cX7_energy 17 = .ok (.dmul, 1) := by decide +kernel
theorem dX7_energy_18 : decode cX7_energy 18 = .ok (.dsub, 1) := by decide +kernel
theorem dX7_energy_19 : decode cX7_energy 19 = .ok (.dmul, 1) := by decide +kernel
theorem dX7_energy_20 : decode cX7_energy 20 = .ok (.dload_n 1, 1) := by decide +kernel
theorem dX7_energy_21 : decode cX7_energy 21 = .ok (.aload_n 0, 1) := by decide +kernel
theorem dX7_energy_22 : decode cX7_energy 22 = .ok (.getfield 20, 3) := by decide +kernel
theorem dX7_energy_25 : decode cX7_energy 25 = .ok (.aload_n 0, 1) := by decide +kernel
theorem dX7_energy_26 : decode cX7_energy 26 = .ok (.getfield 20, 3) := by decide +kernel
theorem dX7_energy_29 : decode cX7_energy 29 = .ok (.dmul, 1) := by decide +kernel
theorem dX7_energy_30 : decode cX7_energy 30 = .ok (.dsub, 1) := by decide +kernel
theorem dX7_energy_31 : decode cX7_energy 31 = .ok (.dmul, 1) := by decide +kernel
theorem dX7_energy_32 : decode cX7_energy 32 = .ok (.dreturn, 1) := by decide +kernel
theorem q57 : (Jvm.Cond.initialized "ParticleBox$Bond") ∈ lw_all := lw_g (lw_at lw_m1 13 rfl) rfl
theorem q467 : (Jvm.Cond.instantiable "ParticleBox$Bond" (4 : Nat)) ∈ lw_all := lw_g (lw_at lw_m2 183 rfl) rfl
theorem q469 : (Jvm.Cond.instanceMethod ({ cls := "ParticleBox$Bond", name := "<init>", desc := "(LParticleBox$Atom;LParticleBox$Atom;DD)V" } : Jvm.MethodName)) ∈ lw_all := lw_g (lw_at lw_m2 185 rfl) rfl
theorem q470 : (Jvm.Cond.code ({ cls := "ParticleBox$Bond", name := "<init>", desc := "(LParticleBox$Atom;LParticleBox$Atom;DD)V" } : Jvm.MethodName) prog_3_method_1_code (7 : Nat) (Option.none : Option Jvm.ClassFile.FieldType)) ∈ lw_all := lw_g (lw_at lw_m2 186 rfl) rfl
theorem q471 : (Jvm.Cond.methodLink "ParticleBox$Bond" (1 : Nat) ({ cls := "java/lang/Object", name := "<init>", desc := "()V" } : Jvm.MethodName)) ∈ lw_all := lw_g (lw_at lw_m2 187 rfl) rfl
theorem q472 : (Jvm.Cond.fieldLink "ParticleBox$Bond" (7 : Nat) "ParticleBox$Bond" "one" "LParticleBox$Atom;") ∈ lw_all := lw_g (lw_at lw_m2 188 rfl) rfl
theorem q474 : (Jvm.Cond.fieldLink "ParticleBox$Bond" (13 : Nat) "ParticleBox$Bond" "other" "LParticleBox$Atom;") ∈ lw_all := lw_g (lw_at lw_m2 190 rfl) rfl
theorem q476 : (Jvm.Cond.fieldLink "ParticleBox$Bond" (16 : Nat) "ParticleBox$Bond" "strength" "D") ∈ lw_all := lw_g (lw_at lw_m2 192 rfl) rfl
theorem q477 : (Jvm.Cond.fieldLink "ParticleBox$Bond" (20 : Nat) "ParticleBox$Bond" "length" "D") ∈ lw_all := lw_g (lw_at lw_m2 193 rfl) rfl
theorem q478 : (Jvm.Cond.laysFinal "ParticleBox$Bond" "ParticleBox$Bond" "one" "LParticleBox$Atom;") ∈ lw_all := lw_g (lw_at lw_m2 194 rfl) rfl
theorem q479 : (Jvm.Cond.soleField "ParticleBox$Bond" "one") ∈ lw_all := lw_g (lw_at lw_m2 195 rfl) rfl
theorem q480 : (Jvm.Cond.laysFinal "ParticleBox$Bond" "ParticleBox$Bond" "other" "LParticleBox$Atom;") ∈ lw_all := lw_g (lw_at lw_m2 196 rfl) rfl
theorem q481 : (Jvm.Cond.soleField "ParticleBox$Bond" "other") ∈ lw_all := lw_g (lw_at lw_m2 197 rfl) rfl
theorem q482 : (Jvm.Cond.laysFinal "ParticleBox$Bond" "ParticleBox$Bond" "strength" "D") ∈ lw_all := lw_g (lw_at lw_m2 198 rfl) rfl
theorem q483 : (Jvm.Cond.soleField "ParticleBox$Bond" "strength") ∈ lw_all := lw_g (lw_at lw_m2 199 rfl) rfl
theorem q484 : (Jvm.Cond.laysFinal "ParticleBox$Bond" "ParticleBox$Bond" "length" "D") ∈ lw_all := lw_g (lw_at lw_m2 200 rfl) rfl
theorem q485 : (Jvm.Cond.soleField "ParticleBox$Bond" "length") ∈ lw_all := lw_g (lw_at lw_m2 201 rfl) rfl
theorem q486 : (Jvm.Cond.superclass "ParticleBox$Bond" "java/lang/Object") ∈ lw_all := lw_g (lw_at lw_m2 202 rfl) rfl
theorem q604 : (Jvm.Cond.castable "ParticleBox$Bond" "ParticleBox$Tie") ∈ lw_tbl := lw_at lw_m3 80 rfl
theorem q605 : (Jvm.Cond.selects "ParticleBox$Bond" ({ cls := "ParticleBox$Tie", name := "factor", desc := "(D)D" } : Jvm.MethodName) ({ cls := "ParticleBox$Bond", name := "factor", desc := "(D)D" } : Jvm.MethodName)) ∈ lw_all := lw_g (lw_at lw_m3 81 rfl) rfl
theorem q606 : (Jvm.Cond.unhidden "ParticleBox$Bond" "factor" "(D)D") ∈ lw_tbl := lw_at lw_m3 82 rfl
theorem q607 : (Jvm.Cond.instanceMethod ({ cls := "ParticleBox$Bond", name := "factor", desc := "(D)D" } : Jvm.MethodName)) ∈ lw_all := lw_g (lw_at lw_m3 83 rfl) rfl
theorem q608 : (Jvm.Cond.publicMethod ({ cls := "ParticleBox$Bond", name := "factor", desc := "(D)D" } : Jvm.MethodName)) ∈ lw_tbl := lw_at lw_m3 84 rfl
theorem q609 : (Jvm.Cond.code ({ cls := "ParticleBox$Bond", name := "factor", desc := "(D)D" } : Jvm.MethodName) prog_3_method_2_code (3 : Nat) (Option.some Jvm.ClassFile.FieldType.double)) ∈ lw_all := lw_g (lw_at lw_m3 85 rfl) rfl
theorem q697 : (Jvm.Cond.selects "ParticleBox$Bond" ({ cls := "ParticleBox$Tie", name := "energy", desc := "(D)D" } : Jvm.MethodName) ({ cls := "ParticleBox$Bond", name := "energy", desc := "(D)D" } : Jvm.MethodName)) ∈ lw_all := lw_g (lw_at lw_m3 173 rfl) rfl
theorem q698 : (Jvm.Cond.unhidden "ParticleBox$Bond" "energy" "(D)D") ∈ lw_tbl := lw_at lw_m3 174 rfl
theorem q699 : (Jvm.Cond.instanceMethod ({ cls := "ParticleBox$Bond", name := "energy", desc := "(D)D" } : Jvm.MethodName)) ∈ lw_all := lw_g (lw_at lw_m3 175 rfl) rfl
theorem q700 : (Jvm.Cond.publicMethod ({ cls := "ParticleBox$Bond", name := "energy", desc := "(D)D" } : Jvm.MethodName)) ∈ lw_tbl := lw_at lw_m3 176 rfl
theorem q701 : (Jvm.Cond.code ({ cls := "ParticleBox$Bond", name := "energy", desc := "(D)D" } : Jvm.MethodName) prog_3_method_3_code (3 : Nat) (Option.some Jvm.ClassFile.FieldType.double)) ∈ lw_all := lw_g (lw_at lw_m3 177 rfl) rfl
theorem q702 : (Jvm.Cond.constantDouble "ParticleBox$Bond" (23 : Nat) (4598175219545276416 : UInt64)) ∈ lw_all := lw_g (lw_at lw_m3 178 rfl) rfl
theorem q1082 : (Jvm.Cond.selects "ParticleBox$Bond" ({ cls := "ParticleBox$Bond", name := "energy", desc := "(D)D" } : Jvm.MethodName) ({ cls := "ParticleBox$Bond", name := "energy", desc := "(D)D" } : Jvm.MethodName)) ∈ lw_all := lw_g (lw_at lw_m5 78 rfl) rfl
theorem in_X7 : ∀ w ∈ wsX70, w ∈ lw_all := lw_in wsX70 [478, 480, 482, 484] (by decide +kernel) (by decide +kernel)

/-! ParticleBox$Rod -/
set_option maxRecDepth 100000
def RX8 : String := "ParticleBox$Rod"
def TX8 : u_T := fun k => match k with
  | 0 => ("ParticleBox$Rod", "one", "LParticleBox$Atom;", true)
  | 1 => ("ParticleBox$Rod", "other", "LParticleBox$Atom;", true)
  | _ => ("ParticleBox$Rod", "length", "D", true)
def tyX8 : Nat → FieldType := fun k => match k with
  | 0 => .object "ParticleBox$Atom"
  | 1 => .object "ParticleBox$Atom"
  | _ => .double
abbrev wsX80 : List Cond := u_ws RX8 TX8 3
theorem nmX8 : ∀ a, a < 3 → ∀ b, b < 3 → a ≠ b → (TX8 a).2.1 ≠ (TX8 b).2.1 := by decide +kernel
theorem tyX8_ok : ∀ k, k < 3 → parseFieldDescriptor (TX8 k).2.2.1 = some (tyX8 k) := by decide +kernel
abbrev cX8_init : ByteArray := prog_5_method_1_code
def yX8_init : MethodName := ⟨RX8, "<init>", "(LParticleBox$Atom;LParticleBox$Atom;D)V"⟩
theorem dX8_init_0 : decode cX8_init 0 = .ok (.aload_n 0, 1) := by decide +kernel
theorem dX8_init_1 : decode cX8_init 1 = .ok (.invokespecial 1, 3) := by decide +kernel
theorem dX8_init_4 : decode cX8_init 4 = .ok (.aload_n 0, 1) := by decide +kernel
theorem dX8_init_5 : decode cX8_init 5 = .ok (.aload_n 1, 1) := by decide +kernel
theorem dX8_init_6 : decode cX8_init 6 = .ok (.putfield 7, 3) := by decide +kernel
theorem dX8_init_9 : decode cX8_init 9 = .ok (.aload_n 0, 1) := by decide +kernel
theorem dX8_init_10 : decode cX8_init 10 = .ok (.aload_n 2, 1) := by decide +kernel
theorem dX8_init_11 : decode cX8_init 11 = .ok (.putfield 13, 3) := by decide +kernel
theorem dX8_init_14 : decode cX8_init 14 = .ok (.aload_n 0, 1) := by decide +kernel
theorem dX8_init_15 : decode cX8_init 15 = .ok (.dload_n 3, 1) := by decide +kernel
theorem dX8_init_16 : decode cX8_init 16 = .ok (.putfield 16, 3) := by decide +kernel
theorem dX8_init_19 : decode cX8_init 19 = .ok (.return_, 1) := by decide +kernel
theorem q58 : (Jvm.Cond.initialized "ParticleBox$Rod") ∈ lw_all := lw_g (lw_at lw_m1 14 rfl) rfl
theorem q494 : (Jvm.Cond.instantiable "ParticleBox$Rod" (3 : Nat)) ∈ lw_all := lw_g (lw_at lw_m2 210 rfl) rfl
theorem q496 : (Jvm.Cond.instanceMethod ({ cls := "ParticleBox$Rod", name := "<init>", desc := "(LParticleBox$Atom;LParticleBox$Atom;D)V" } : Jvm.MethodName)) ∈ lw_all := lw_g (lw_at lw_m2 212 rfl) rfl
theorem q497 : (Jvm.Cond.code ({ cls := "ParticleBox$Rod", name := "<init>", desc := "(LParticleBox$Atom;LParticleBox$Atom;D)V" } : Jvm.MethodName) prog_5_method_1_code (5 : Nat) (Option.none : Option Jvm.ClassFile.FieldType)) ∈ lw_all := lw_g (lw_at lw_m2 213 rfl) rfl
theorem q498 : (Jvm.Cond.methodLink "ParticleBox$Rod" (1 : Nat) ({ cls := "java/lang/Object", name := "<init>", desc := "()V" } : Jvm.MethodName)) ∈ lw_all := lw_g (lw_at lw_m2 214 rfl) rfl
theorem q499 : (Jvm.Cond.fieldLink "ParticleBox$Rod" (7 : Nat) "ParticleBox$Rod" "one" "LParticleBox$Atom;") ∈ lw_all := lw_g (lw_at lw_m2 215 rfl) rfl
theorem q501 : (Jvm.Cond.fieldLink "ParticleBox$Rod" (13 : Nat) "ParticleBox$Rod" "other" "LParticleBox$Atom;") ∈ lw_all := lw_g (lw_at lw_m2 217 rfl) rfl
theorem q503 : (Jvm.Cond.fieldLink "ParticleBox$Rod" (16 : Nat) "ParticleBox$Rod" "length" "D") ∈ lw_all := lw_g (lw_at lw_m2 219 rfl) rfl
theorem q505 : (Jvm.Cond.laysFinal "ParticleBox$Rod" "ParticleBox$Rod" "one" "LParticleBox$Atom;") ∈ lw_all := lw_g (lw_at lw_m2 221 rfl) rfl
theorem q506 : (Jvm.Cond.soleField "ParticleBox$Rod" "one") ∈ lw_all := lw_g (lw_at lw_m2 222 rfl) rfl
theorem q507 : (Jvm.Cond.laysFinal "ParticleBox$Rod" "ParticleBox$Rod" "other" "LParticleBox$Atom;") ∈ lw_all := lw_g (lw_at lw_m2 223 rfl) rfl
theorem q508 : (Jvm.Cond.soleField "ParticleBox$Rod" "other") ∈ lw_all := lw_g (lw_at lw_m2 224 rfl) rfl
theorem q509 : (Jvm.Cond.laysFinal "ParticleBox$Rod" "ParticleBox$Rod" "length" "D") ∈ lw_all := lw_g (lw_at lw_m2 225 rfl) rfl
theorem q510 : (Jvm.Cond.soleField "ParticleBox$Rod" "length") ∈ lw_all := lw_g (lw_at lw_m2 226 rfl) rfl
theorem q511 : (Jvm.Cond.superclass "ParticleBox$Rod" "java/lang/Object") ∈ lw_all := lw_g (lw_at lw_m2 227 rfl) rfl
theorem in_X8 : ∀ w ∈ wsX80, w ∈ lw_all := lw_in wsX80 [505, 507, 509] (by decide +kernel) (by decide +kernel)

theorem q602 : (Jvm.Cond.interfaceMethod "ParticleBox$Tie" "ParticleBox$Tie" "factor" "(D)D") ∈ lw_tbl := lw_at lw_m3 78 rfl
set_option maxRecDepth 100000
theorem q603 : (Jvm.Cond.declares ({ cls := "ParticleBox$Tie", name := "factor", desc := "(D)D" } : Jvm.MethodName)) ∈ lw_tbl := lw_at lw_m3 79 rfl
theorem q695 : (Jvm.Cond.interfaceMethod "ParticleBox$Tie" "ParticleBox$Tie" "energy" "(D)D") ∈ lw_tbl := lw_at lw_m3 171 rfl
theorem q696 : (Jvm.Cond.declares ({ cls := "ParticleBox$Tie", name := "energy", desc := "(D)D" } : Jvm.MethodName)) ∈ lw_tbl := lw_at lw_m3 172 rfl

theorem q72 : (Jvm.Cond.arrayOver (Jvm.ClassFile.FieldType.object "ParticleBox$Sort")) ∈ lw_tbl := lw_at lw_m1 28 rfl
set_option maxRecDepth 100000
theorem q94 : (Jvm.Cond.arrayOver (Jvm.ClassFile.FieldType.object "ParticleBox$Atom")) ∈ lw_tbl := lw_at lw_m1 50 rfl
theorem q96 : (Jvm.Cond.arrayOver (Jvm.ClassFile.FieldType.object "ParticleBox$Bond")) ∈ lw_tbl := lw_at lw_m1 52 rfl
theorem q98 : (Jvm.Cond.arrayOver (Jvm.ClassFile.FieldType.object "ParticleBox$Rod")) ∈ lw_tbl := lw_at lw_m1 54 rfl
theorem q131 : (Jvm.Cond.arrayOver (Jvm.ClassFile.FieldType.array Jvm.ClassFile.FieldType.int)) ∈ lw_tbl := lw_at lw_m1 87 rfl
theorem q133 : (Jvm.Cond.arrayOver (Jvm.ClassFile.FieldType.array Jvm.ClassFile.FieldType.double)) ∈ lw_tbl := lw_at lw_m1 89 rfl
theorem q217 : (Jvm.Cond.arrayClass Jvm.ClassFile.FieldType.int) ∈ lw_all := lw_g (lw_at lw_m1 173 rfl) rfl
theorem q218 : (Jvm.Cond.arrayClass Jvm.ClassFile.FieldType.double) ∈ lw_all := lw_g (lw_at lw_m1 174 rfl) rfl
theorem q362 : (Jvm.Cond.arrayClass Jvm.ClassFile.FieldType.byte) ∈ lw_all := lw_g (lw_at lw_m2 78 rfl) rfl
theorem q885 : (Jvm.Cond.arrayClass Jvm.ClassFile.FieldType.boolean) ∈ lw_all := lw_g (lw_at lw_m4 121 rfl) rfl
theorem q1080 : (Jvm.Cond.arrayClass Jvm.ClassFile.FieldType.long) ∈ lw_all := lw_g (lw_at lw_m5 76 rfl) rfl
