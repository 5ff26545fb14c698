/-! java/lang/Throwable -/
set_option maxRecDepth 100000
def RJ0 : String := "java/lang/Throwable"
def TJ0 : u_T := fun k => match k with
  | 0 => ("java/lang/Throwable", "cause", "Ljava/lang/Throwable;", false)
  | 1 => ("java/lang/Throwable", "stackTrace", "[Ljava/lang/StackTraceElement;", false)
  | 2 => ("java/lang/Throwable", "suppressedExceptions", "Ljava/util/List;", false)
  | 3 => ("java/lang/Throwable", "detailMessage", "Ljava/lang/String;", false)
  | _ => ("java/lang/Throwable", "backtrace", "Ljava/lang/Object;", false)
def tyJ0 : Nat → FieldType := fun k => match k with
  | 0 => .object "java/lang/Throwable"
  | 1 => .array (.object "java/lang/StackTraceElement")
  | 2 => .object "java/util/List"
  | 3 => .object "java/lang/String"
  | _ => .object "java/lang/Object"
abbrev wsJ00 : List Cond := u_ws RJ0 TJ0 5
theorem nmJ0 : ∀ a, a < 5 → ∀ b, b < 5 → a ≠ b → (TJ0 a).2.1 ≠ (TJ0 b).2.1 := by decide +kernel
theorem tyJ0_ok : ∀ k, k < 5 → parseFieldDescriptor (TJ0 k).2.2.1 = some (tyJ0 k) := by decide +kernel
abbrev cJ0_init : ByteArray := prog_25_method_1_code
def yJ0_init : MethodName := ⟨RJ0, "<init>", "()V"⟩
def dkwJ0_init_1 : List UInt8 := [182, 0, 27, 87, 177]
abbrev dktJ0_init_1 : List UInt8 := dkwJ0_init_1 ++ []
def dkwJ0_init_0 : List UInt8 := [42, 183, 0, 1, 42, 42, 181, 0, 7, 42, 178, 0, 13, 181, 0, 17, 42, 178, 0, 20, 181, 0, 24, 42]
abbrev dktJ0_init_0 : List UInt8 := dkwJ0_init_0 ++ dktJ0_init_1
theorem dksJ0_init_0 : cJ0_init.data.toList.drop 0 = dktJ0_init_0 := by decide +kernel
theorem dksJ0_init_1 : cJ0_init.data.toList.drop 24 = dktJ0_init_1 := dk_seg dksJ0_init_0 24 rfl rfl
theorem dJ0_init_0 : decode cJ0_init 0 = .ok (.aload_n 0, 1) := dk_42 (dk_at dksJ0_init_0 0 rfl rfl)
theorem dJ0_init_1 : decode cJ0_init 1 = .ok (.invokespecial 1, 3) := dk_183 0 1 (dk_at dksJ0_init_0 1 rfl rfl)
theorem dJ0_init_4 : decode cJ0_init 4 = .ok (.aload_n 0, 1) := dk_42 (dk_at dksJ0_init_0 4 rfl rfl)
theorem dJ0_init_5 : decode cJ0_init 5 = .ok (.aload_n 0, 1) := dk_42 (dk_at dksJ0_init_0 5 rfl rfl)
theorem dJ0_init_6 : decode cJ0_init 6 = .ok (.putfield 7, 3) := dk_181 0 7 (dk_at dksJ0_init_0 6 rfl rfl)
theorem dJ0_init_9 : decode cJ0_init 9 = .ok (.aload_n 0, 1) := dk_42 (dk_at dksJ0_init_0 9 rfl rfl)
theorem dJ0_init_10 : decode cJ0_init 10 = .ok (.getstatic 13, 3) := dk_178 0 13 (dk_at dksJ0_init_0 10 rfl rfl)
theorem dJ0_init_13 : decode cJ0_init 13 = .ok (.putfield 17, 3) := dk_181 0 17 (dk_at dksJ0_init_0 13 rfl rfl)
theorem dJ0_init_16 : decode cJ0_init 16 = .ok (.aload_n 0, 1) := dk_42 (dk_at dksJ0_init_0 16 rfl rfl)
theorem dJ0_init_17 : decode cJ0_init 17 = .ok (.getstatic 20, 3) := dk_178 0 20 (dk_at dksJ0_init_0 17 rfl rfl)
theorem dJ0_init_20 : decode cJ0_init 20 = .ok (.putfield 24, 3) := dk_181 0 24 (dk_at dksJ0_init_0 20 rfl rfl)
theorem dJ0_init_23 : decode cJ0_init 23 = .ok (.aload_n 0, 1) := dk_42 (dk_at dksJ0_init_0 23 rfl rfl)
theorem dJ0_init_24 : decode cJ0_init 24 = .ok (.invokevirtual 27, 3) := dk_182 0 27 (dk_at dksJ0_init_1 0 rfl rfl)
theorem dJ0_init_27 : decode cJ0_init 27 = .ok (.pop, 1) := dk_87 (dk_at dksJ0_init_1 3 rfl rfl)
theorem dJ0_init_28 : decode cJ0_init 28 = .ok (.return_, 1) := dk_177 (dk_at dksJ0_init_1 4 rfl rfl)
abbrev cJ0_init_2 : ByteArray := prog_25_method_5_code
def yJ0_init_2 : MethodName := ⟨RJ0, "<init>", "(Ljava/lang/String;Ljava/lang/Throwable;ZZ)V"⟩
def dkwJ0_init_2_2 : List UInt8 := [44, 181, 0, 7, 29, 154, 0, 8, 42, 1, 181, 0, 24, 177]
abbrev dktJ0_init_2_2 : List UInt8 := dkwJ0_init_2_2 ++ []
def dkwJ0_init_2_1 : List UInt8 := [21, 4, 153, 0, 11, 42, 182, 0, 27, 87, 167, 0, 8, 42, 1, 181, 0, 17, 42, 43, 181, 0, 31, 42]
abbrev dktJ0_init_2_1 : List UInt8 := dkwJ0_init_2_1 ++ dktJ0_init_2_2
def dkwJ0_init_2_0 : List UInt8 := [42, 183, 0, 1, 42, 42, 181, 0, 7, 42, 178, 0, 13, 181, 0, 17, 42, 178, 0, 20, 181, 0, 24]
abbrev dktJ0_init_2_0 : List UInt8 := dkwJ0_init_2_0 ++ dktJ0_init_2_1
theorem dksJ0_init_2_0 : cJ0_init_2.data.toList.drop 0 = dktJ0_init_2_0 := by decide +kernel
theorem dksJ0_init_2_1 : cJ0_init_2.data.toList.drop 23 = dktJ0_init_2_1 := dk_seg dksJ0_init_2_0 23 rfl rfl
theorem dksJ0_init_2_2 : cJ0_init_2.data.toList.drop 47 = dktJ0_init_2_2 := dk_seg dksJ0_init_2_1 24 rfl rfl
theorem dJ0_init_2_0 : decode cJ0_init_2 0 = .ok (.aload_n 0, 1) := dk_42 (dk_at dksJ0_init_2_0 0 rfl rfl)
theorem dJ0_init_2_1 : decode cJ0_init_2 1 = .ok (.invokespecial 1, 3) := dk_183 0 1 (dk_at dksJ0_init_2_0 1 rfl rfl)
theorem dJ0_init_2_4 : decode cJ0_init_2 4 = .ok (.aload_n 0, 1) := dk_42 (dk_at dksJ0_init_2_0 4 rfl rfl)
theorem dJ0_init_2_5 : decode cJ0_init_2 5 = .ok (.aload_n 0, 1) := dk_42 (dk_at dksJ0_init_2_0 5 rfl rfl)
theorem dJ0_init_2_6 : decode cJ0_init_2 6 = .ok (.putfield 7, 3) := dk_181 0 7 (dk_at dksJ0_init_2_0 6 rfl rfl)
theorem dJ0_init_2_9 : decode cJ0_init_2 9 = .ok (.aload_n 0, 1) := dk_42 (dk_at dksJ0_init_2_0 9 rfl rfl)
theorem dJ0_init_2_10 : decode cJ0_init_2 10 = .ok (.getstatic 13, 3) := dk_178 0 13 (dk_at dksJ0_init_2_0 10 rfl rfl)
theorem dJ0_init_2_13 : decode cJ0_init_2 13 = .ok (.putfield 17, 3) := dk_181 0 17 (dk_at dksJ0_init_2_0 13 rfl rfl)
theorem dJ0_init_2_16 : decode cJ0_init_2 16 = .ok (.aload_n 0, 1) := dk_42 (dk_at dksJ0_init_2_0 16 rfl rfl)
theorem dJ0_init_2_17 : decode cJ0_init_2 17 = .ok (.getstatic 20, 3) := dk_178 0 20 (dk_at dksJ0_init_2_0 17 rfl rfl)
theorem dJ0_init_2_20 : decode cJ0_init_2 20 = .ok (.putfield 24, 3) := dk_181 0 24 (dk_at dksJ0_init_2_0 20 rfl rfl)
theorem dJ0_init_2_23 : decode cJ0_init_2 23 = .ok (.iload 4, 2) := dk_21 4 (dk_at dksJ0_init_2_1 0 rfl rfl)
theorem dJ0_init_2_25 : decode cJ0_init_2 25 = .ok (.ifCond .eq 11, 3) := dk_153 0 11 (dk_at dksJ0_init_2_1 2 rfl rfl)
theorem dJ0_init_2_28 : decode cJ0_init_2 28 = .ok (.aload_n 0, 1) := dk_42 (dk_at dksJ0_init_2_1 5 rfl rfl)
theorem dJ0_init_2_29 : decode cJ0_init_2 29 = .ok (.invokevirtual 27, 3) := dk_182 0 27 (dk_at dksJ0_init_2_1 6 rfl rfl)
theorem dJ0_init_2_32 : decode cJ0_init_2 32 = .ok (.pop, 1) := dk_87 (dk_at dksJ0_init_2_1 9 rfl rfl)
theorem dJ0_init_2_33 : decode cJ0_init_2 33 = .ok (.goto 8, 3) := dk_167 0 8 (dk_at dksJ0_init_2_1 10 rfl rfl)
theorem dJ0_init_2_36 : decode cJ0_init_2 36 = .ok (.aload_n 0, 1) := dk_42 (dk_at dksJ0_init_2_1 13 rfl rfl)
theorem dJ0_init_2_37 : decode cJ0_init_2 37 = .ok (.aconst_null, 1) := dk_1 (dk_at dksJ0_init_2_1 14 rfl rfl)
theorem dJ0_init_2_38 : decode cJ0_init_2 38 = .ok (.putfield 17, 3) := dk_181 0 17 (dk_at dksJ0_init_2_1 15 rfl rfl)
theorem dJ0_init_2_41 : decode cJ0_init_2 41 = .ok (.aload_n 0, 1) := dk_42 (dk_at dksJ0_init_2_1 18 rfl rfl)
theorem dJ0_init_2_42 : decode cJ0_init_2 42 = .ok (.aload_n 1, 1) := dk_43 (dk_at dksJ0_init_2_1 19 rfl rfl)
theorem dJ0_init_2_43 : decode cJ0_init_2 43 = .ok (.putfield 31, 3) := dk_181 0 31 (dk_at dksJ0_init_2_1 20 rfl rfl)
theorem dJ0_init_2_46 : decode cJ0_init_2 46 = .ok (.aload_n 0, 1) := dk_42 (dk_at dksJ0_init_2_1 23 rfl rfl)
theorem dJ0_init_2_47 : decode cJ0_init_2 47 = .ok (.aload_n 2, 1) := dk_44 (dk_at dksJ0_init_2_2 0 rfl rfl)
theorem dJ0_init_2_48 : decode cJ0_init_2 48 = .ok (.putfield 7, 3) := dk_181 0 7 (dk_at dksJ0_init_2_2 1 rfl rfl)
theorem dJ0_init_2_51 : decode cJ0_init_2 51 = .ok (.iload_n 3, 1) := dk_29 (dk_at dksJ0_init_2_2 4 rfl rfl)
theorem dJ0_init_2_52 : decode cJ0_init_2 52 = .ok (.ifCond .ne 8, 3) := dk_154 0 8 (dk_at dksJ0_init_2_2 5 rfl rfl)
theorem dJ0_init_2_55 : decode cJ0_init_2 55 = .ok (.aload_n 0, 1) := dk_42 (dk_at dksJ0_init_2_2 8 rfl rfl)
theorem dJ0_init_2_56 : decode cJ0_init_2 56 = .ok (.aconst_null, 1) := dk_1 (dk_at dksJ0_init_2_2 9 rfl rfl)
theorem dJ0_init_2_57 : decode cJ0_init_2 57 = .ok (.putfield 24, 3) := dk_181 0 24 (dk_at dksJ0_init_2_2 10 rfl rfl)
theorem dJ0_init_2_60 : decode cJ0_init_2 60 = .ok (.return_, 1) := dk_177 (dk_at dksJ0_init_2_2 13 rfl rfl)
abbrev cJ0_init_3 : ByteArray := prog_25_method_2_code
def yJ0_init_3 : MethodName := ⟨RJ0, "<init>", "(Ljava/lang/String;)V"⟩
def dkwJ0_init_3_1 : List UInt8 := [182, 0, 27, 87, 42, 43, 181, 0, 31, 177]
abbrev dktJ0_init_3_1 : List UInt8 := dkwJ0_init_3_1 ++ []
def dkwJ0_init_3_0 : List UInt8 := [42, 183, 0, 1, 42, 42, 181, 0, 7, 42, 178, 0, 13, 181, 0, 17, 42, 178, 0, 20, 181, 0, 24, 42]
abbrev dktJ0_init_3_0 : List UInt8 := dkwJ0_init_3_0 ++ dktJ0_init_3_1
theorem dksJ0_init_3_0 : cJ0_init_3.data.toList.drop 0 = dktJ0_init_3_0 := by decide +kernel
theorem dksJ0_init_3_1 : cJ0_init_3.data.toList.drop 24 = dktJ0_init_3_1 := dk_seg dksJ0_init_3_0 24 rfl rfl
theorem dJ0_init_3_0 : decode cJ0_init_3 0 = .ok (.aload_n 0, 1) := dk_42 (dk_at dksJ0_init_3_0 0 rfl rfl)
theorem dJ0_init_3_1 : decode cJ0_init_3 1 = .ok (.invokespecial 1, 3) := dk_183 0 1 (dk_at dksJ0_init_3_0 1 rfl rfl)
theorem dJ0_init_3_4 : decode cJ0_init_3 4 = .ok (.aload_n 0, 1) := dk_42 (dk_at dksJ0_init_3_0 4 rfl rfl)
theorem dJ0_init_3_5 : decode cJ0_init_3 5 = .ok (.aload_n 0, 1) := dk_42 (dk_at dksJ0_init_3_0 5 rfl rfl)
theorem dJ0_init_3_6 : decode cJ0_init_3 6 = .ok (.putfield 7, 3) := dk_181 0 7 (dk_at dksJ0_init_3_0 6 rfl rfl)
theorem dJ0_init_3_9 : decode cJ0_init_3 9 = .ok (.aload_n 0, 1) := dk_42 (dk_at dksJ0_init_3_0 9 rfl rfl)
theorem dJ0_init_3_10 : decode cJ0_init_3 10 = .ok (.getstatic 13, 3) := dk_178 0 13 (dk_at dksJ0_init_3_0 10 rfl rfl)
theorem dJ0_init_3_13 : decode cJ0_init_3 13 = .ok (.putfield 17, 3) := dk_181 0 17 (dk_at dksJ0_init_3_0 13 rfl rfl)
theorem dJ0_init_3_16 : decode cJ0_init_3 16 = .ok (.aload_n 0, 1) := dk_42 (dk_at dksJ0_init_3_0 16 rfl rfl)
theorem dJ0_init_3_17 : decode cJ0_init_3 17 = .ok (.getstatic 20, 3) := dk_178 0 20 (dk_at dksJ0_init_3_0 17 rfl rfl)
theorem dJ0_init_3_20 : decode cJ0_init_3 20 = .ok (.putfield 24, 3) := dk_181 0 24 (dk_at dksJ0_init_3_0 20 rfl rfl)
theorem dJ0_init_3_23 : decode cJ0_init_3 23 = .ok (.aload_n 0, 1) := dk_42 (dk_at dksJ0_init_3_0 23 rfl rfl)
theorem dJ0_init_3_24 : decode cJ0_init_3 24 = .ok (.invokevirtual 27, 3) := dk_182 0 27 (dk_at dksJ0_init_3_1 0 rfl rfl)
theorem dJ0_init_3_27 : decode cJ0_init_3 27 = .ok (.pop, 1) := dk_87 (dk_at dksJ0_init_3_1 3 rfl rfl)
theorem dJ0_init_3_28 : decode cJ0_init_3 28 = .ok (.aload_n 0, 1) := dk_42 (dk_at dksJ0_init_3_1 4 rfl rfl)
theorem dJ0_init_3_29 : decode cJ0_init_3 29 = .ok (.aload_n 1, 1) := dk_43 (dk_at dksJ0_init_3_1 5 rfl rfl)
theorem dJ0_init_3_30 : decode cJ0_init_3 30 = .ok (.putfield 31, 3) := dk_181 0 31 (dk_at dksJ0_init_3_1 6 rfl rfl)
theorem dJ0_init_3_33 : decode cJ0_init_3 33 = .ok (.return_, 1) := dk_177 (dk_at dksJ0_init_3_1 9 rfl rfl)
theorem q73 : (Jvm.Cond.initialized "java/lang/Throwable") ∈ lw_all := lw_g (lw_at lw_m1 10 rfl) rfl
theorem q298 : (Jvm.Cond.declares ({ cls := "java/lang/Throwable", name := "<init>", desc := "()V" } : Jvm.MethodName)) ∈ lw_tbl := lw_at lw_m1 235 rfl
theorem q299 : (Jvm.Cond.declares ({ cls := "java/lang/Throwable", name := "<init>", desc := "(Ljava/lang/String;)V" } : Jvm.MethodName)) ∈ lw_tbl := lw_at lw_m1 236 rfl
theorem q303 : (Jvm.Cond.lays "java/lang/Throwable" "java/lang/Throwable" "cause" "Ljava/lang/Throwable;") ∈ lw_all := lw_g (lw_at lw_m2 0 rfl) rfl
theorem q305 : (Jvm.Cond.lays "java/lang/Throwable" "java/lang/Throwable" "stackTrace" "[Ljava/lang/StackTraceElement;") ∈ lw_all := lw_g (lw_at lw_m2 2 rfl) rfl
theorem q307 : (Jvm.Cond.lays "java/lang/Throwable" "java/lang/Throwable" "suppressedExceptions" "Ljava/util/List;") ∈ lw_all := lw_g (lw_at lw_m2 4 rfl) rfl
theorem q309 : (Jvm.Cond.lays "java/lang/Throwable" "java/lang/Throwable" "detailMessage" "Ljava/lang/String;") ∈ lw_all := lw_g (lw_at lw_m2 6 rfl) rfl
theorem q311 : (Jvm.Cond.lays "java/lang/Throwable" "java/lang/Throwable" "backtrace" "Ljava/lang/Object;") ∈ lw_all := lw_g (lw_at lw_m2 8 rfl) rfl
theorem q312 : (Jvm.Cond.fieldLink "java/lang/Throwable" (198 : Nat) "java/lang/Throwable" "backtrace" "Ljava/lang/Object;") ∈ lw_all := lw_g (lw_at lw_m2 9 rfl) rfl
theorem q313 : (Jvm.Cond.superclass "java/lang/Throwable" "java/lang/Object") ∈ lw_all := lw_g (lw_at lw_m2 10 rfl) rfl
theorem q314 : (Jvm.Cond.instanceMethod ({ cls := "java/lang/Throwable", name := "<init>", desc := "()V" } : Jvm.MethodName)) ∈ lw_all := lw_g (lw_at lw_m2 11 rfl) rfl
theorem q315 : (Jvm.Cond.code ({ cls := "java/lang/Throwable", name := "<init>", desc := "()V" } : Jvm.MethodName) prog_25_method_1_code (1 : Nat) (Option.none : Option Jvm.ClassFile.FieldType)) ∈ lw_all := lw_g (lw_at lw_m2 12 rfl) rfl
theorem q316 : (Jvm.Cond.methodLink "java/lang/Throwable" (1 : Nat) ({ cls := "java/lang/Object", name := "<init>", desc := "()V" } : Jvm.MethodName)) ∈ lw_all := lw_g (lw_at lw_m2 13 rfl) rfl
theorem q317 : (Jvm.Cond.fieldLink "java/lang/Throwable" (13 : Nat) "java/lang/Throwable" "UNASSIGNED_STACK" "[Ljava/lang/StackTraceElement;") ∈ lw_all := lw_g (lw_at lw_m2 14 rfl) rfl
theorem q318 : (Jvm.Cond.laysStatic "java/lang/Throwable" "UNASSIGNED_STACK" "[Ljava/lang/StackTraceElement;") ∈ lw_tbl := lw_at lw_m2 15 rfl
theorem q319 : (Jvm.Cond.fieldLink "java/lang/Throwable" (20 : Nat) "java/lang/Throwable" "SUPPRESSED_SENTINEL" "Ljava/util/List;") ∈ lw_all := lw_g (lw_at lw_m2 16 rfl) rfl
theorem q320 : (Jvm.Cond.laysStatic "java/lang/Throwable" "SUPPRESSED_SENTINEL" "Ljava/util/List;") ∈ lw_tbl := lw_at lw_m2 17 rfl
theorem q321 : (Jvm.Cond.methodLink "java/lang/Throwable" (27 : Nat) ({ cls := "java/lang/Throwable", name := "fillInStackTrace", desc := "()Ljava/lang/Throwable;" } : Jvm.MethodName)) ∈ lw_all := lw_g (lw_at lw_m2 18 rfl) rfl
theorem q322 : (Jvm.Cond.instanceMethod ({ cls := "java/lang/Throwable", name := "fillInStackTrace", desc := "()Ljava/lang/Throwable;" } : Jvm.MethodName)) ∈ lw_all := lw_g (lw_at lw_m2 19 rfl) rfl
theorem q323 : (Jvm.Cond.sameMethod "java/lang/Throwable" "java/lang/Throwable" "fillInStackTrace" "()Ljava/lang/Throwable;") ∈ lw_all := lw_g (lw_at lw_m2 20 rfl) rfl
theorem q337 : (Jvm.Cond.declares ({ cls := "java/lang/Throwable", name := "fillInStackTrace", desc := "()Ljava/lang/Throwable;" } : Jvm.MethodName)) ∈ lw_tbl := lw_at lw_m2 34 rfl
theorem q341 : (Jvm.Cond.codeSync ({ cls := "java/lang/Throwable", name := "fillInStackTrace", desc := "()Ljava/lang/Throwable;" } : Jvm.MethodName) prog_25_method_18_code (1 : Nat) (Option.some (Jvm.ClassFile.FieldType.object "java/lang/Throwable"))) ∈ lw_all := lw_g (lw_at lw_m2 38 rfl) rfl
theorem q342 : (Jvm.Cond.methodLink "java/lang/Throwable" (202 : Nat) ({ cls := "java/lang/Throwable", name := "fillInStackTrace", desc := "(I)Ljava/lang/Throwable;" } : Jvm.MethodName)) ∈ lw_all := lw_g (lw_at lw_m2 39 rfl) rfl
theorem q343 : (Jvm.Cond.privateMethod ({ cls := "java/lang/Throwable", name := "fillInStackTrace", desc := "(I)Ljava/lang/Throwable;" } : Jvm.MethodName)) ∈ lw_tbl := lw_at lw_m2 40 rfl
theorem q344 : (Jvm.Cond.instanceMethod ({ cls := "java/lang/Throwable", name := "fillInStackTrace", desc := "(I)Ljava/lang/Throwable;" } : Jvm.MethodName)) ∈ lw_all := lw_g (lw_at lw_m2 41 rfl) rfl
theorem q345 : (Jvm.Cond.instantiable "java/lang/Throwable" (6 : Nat)) ∈ lw_all := lw_g (lw_at lw_m2 42 rfl) rfl
theorem q346 : (Jvm.Cond.native ({ cls := "java/lang/Throwable", name := "fillInStackTrace", desc := "(I)Ljava/lang/Throwable;" } : Jvm.MethodName)) ∈ lw_all := lw_g (lw_at lw_m2 43 rfl) rfl
theorem q354 : (Jvm.Cond.instanceMethod ({ cls := "java/lang/Throwable", name := "<init>", desc := "(Ljava/lang/String;Ljava/lang/Throwable;ZZ)V" } : Jvm.MethodName)) ∈ lw_all := lw_g (lw_at lw_m2 51 rfl) rfl
theorem q355 : (Jvm.Cond.code ({ cls := "java/lang/Throwable", name := "<init>", desc := "(Ljava/lang/String;Ljava/lang/Throwable;ZZ)V" } : Jvm.MethodName) prog_25_method_5_code (5 : Nat) (Option.none : Option Jvm.ClassFile.FieldType)) ∈ lw_all := lw_g (lw_at lw_m2 52 rfl) rfl
theorem q360 : (Jvm.Cond.fieldLink "java/lang/Throwable" (198 : Nat) "java/lang/Throwable" "backtrace" "Ljava/lang/Object;") ∈ lw_all := lw_g (lw_at lw_m2 57 rfl) rfl
theorem q361 : (Jvm.Cond.fieldLink "java/lang/Throwable" (31 : Nat) "java/lang/Throwable" "detailMessage" "Ljava/lang/String;") ∈ lw_all := lw_g (lw_at lw_m2 58 rfl) rfl
theorem q362 : (Jvm.Cond.fieldLink "java/lang/Throwable" (7 : Nat) "java/lang/Throwable" "cause" "Ljava/lang/Throwable;") ∈ lw_all := lw_g (lw_at lw_m2 59 rfl) rfl
theorem q363 : (Jvm.Cond.fieldLink "java/lang/Throwable" (17 : Nat) "java/lang/Throwable" "stackTrace" "[Ljava/lang/StackTraceElement;") ∈ lw_all := lw_g (lw_at lw_m2 60 rfl) rfl
theorem q364 : (Jvm.Cond.fieldLink "java/lang/Throwable" (24 : Nat) "java/lang/Throwable" "suppressedExceptions" "Ljava/util/List;") ∈ lw_all := lw_g (lw_at lw_m2 61 rfl) rfl
theorem q369 : (Jvm.Cond.soleField "java/lang/Throwable" "backtrace") ∈ lw_all := lw_g (lw_at lw_m2 66 rfl) rfl
theorem q370 : (Jvm.Cond.soleField "java/lang/Throwable" "detailMessage") ∈ lw_all := lw_g (lw_at lw_m2 67 rfl) rfl
theorem q371 : (Jvm.Cond.soleField "java/lang/Throwable" "cause") ∈ lw_all := lw_g (lw_at lw_m2 68 rfl) rfl
theorem q372 : (Jvm.Cond.soleField "java/lang/Throwable" "stackTrace") ∈ lw_all := lw_g (lw_at lw_m2 69 rfl) rfl
theorem q374 : (Jvm.Cond.soleField "java/lang/Throwable" "depth") ∈ lw_all := lw_g (lw_at lw_m2 71 rfl) rfl
theorem q375 : (Jvm.Cond.soleField "java/lang/Throwable" "suppressedExceptions") ∈ lw_all := lw_g (lw_at lw_m2 72 rfl) rfl
theorem q818 : (Jvm.Cond.instanceMethod ({ cls := "java/lang/Throwable", name := "<init>", desc := "(Ljava/lang/String;)V" } : Jvm.MethodName)) ∈ lw_all := lw_g (lw_at lw_m4 35 rfl) rfl
theorem q819 : (Jvm.Cond.code ({ cls := "java/lang/Throwable", name := "<init>", desc := "(Ljava/lang/String;)V" } : Jvm.MethodName) prog_25_method_2_code (2 : Nat) (Option.none : Option Jvm.ClassFile.FieldType)) ∈ lw_all := lw_g (lw_at lw_m4 36 rfl) rfl
theorem q1335 : (Jvm.Cond.sameMethod "java/lang/Throwable" "java/lang/Throwable" "fillInStackTrace" "(I)Ljava/lang/Throwable;") ∈ lw_all := lw_g (lw_at lw_m6 72 rfl) rfl
theorem in_J0 : ∀ w ∈ wsJ00, w ∈ lw_all := lw_in wsJ00 [303, 305, 307, 309, 311] (by decide +kernel) (by decide +kernel)

/-! java/lang/Exception -/
set_option maxRecDepth 100000
def RJ1 : String := "java/lang/Exception"
abbrev cJ1_init : ByteArray := prog_14_method_5_code
def yJ1_init : MethodName := ⟨RJ1, "<init>", "(Ljava/lang/String;Ljava/lang/Throwable;ZZ)V"⟩
def dkwJ1_init_0 : List UInt8 := [42, 43, 44, 29, 21, 4, 183, 0, 16, 177]
abbrev dktJ1_init_0 : List UInt8 := dkwJ1_init_0 ++ []
theorem dksJ1_init_0 : cJ1_init.data.toList.drop 0 = dktJ1_init_0 := by decide +kernel
theorem dJ1_init_0 : decode cJ1_init 0 = .ok (.aload_n 0, 1) := dk_42 (dk_at dksJ1_init_0 0 rfl rfl)
theorem dJ1_init_1 : decode cJ1_init 1 = .ok (.aload_n 1, 1) := dk_43 (dk_at dksJ1_init_0 1 rfl rfl)
theorem dJ1_init_2 : decode cJ1_init 2 = .ok (.aload_n 2, 1) := dk_44 (dk_at dksJ1_init_0 2 rfl rfl)
theorem dJ1_init_3 : decode cJ1_init 3 = .ok (.iload_n 3, 1) := dk_29 (dk_at dksJ1_init_0 3 rfl rfl)
theorem dJ1_init_4 : decode cJ1_init 4 = .ok (.iload 4, 2) := dk_21 4 (dk_at dksJ1_init_0 4 rfl rfl)
theorem dJ1_init_6 : decode cJ1_init 6 = .ok (.invokespecial 16, 3) := dk_183 0 16 (dk_at dksJ1_init_0 6 rfl rfl)
theorem dJ1_init_9 : decode cJ1_init 9 = .ok (.return_, 1) := dk_177 (dk_at dksJ1_init_0 9 rfl rfl)
abbrev cJ1_init_2 : ByteArray := prog_14_method_2_code
def yJ1_init_2 : MethodName := ⟨RJ1, "<init>", "(Ljava/lang/String;)V"⟩
def dkwJ1_init_2_0 : List UInt8 := [42, 43, 183, 0, 7, 177]
abbrev dktJ1_init_2_0 : List UInt8 := dkwJ1_init_2_0 ++ []
theorem dksJ1_init_2_0 : cJ1_init_2.data.toList.drop 0 = dktJ1_init_2_0 := by decide +kernel
theorem dJ1_init_2_0 : decode cJ1_init_2 0 = .ok (.aload_n 0, 1) := dk_42 (dk_at dksJ1_init_2_0 0 rfl rfl)
theorem dJ1_init_2_1 : decode cJ1_init_2 1 = .ok (.aload_n 1, 1) := dk_43 (dk_at dksJ1_init_2_0 1 rfl rfl)
theorem dJ1_init_2_2 : decode cJ1_init_2 2 = .ok (.invokespecial 7, 3) := dk_183 0 7 (dk_at dksJ1_init_2_0 2 rfl rfl)
theorem dJ1_init_2_5 : decode cJ1_init_2 5 = .ok (.return_, 1) := dk_177 (dk_at dksJ1_init_2_0 5 rfl rfl)
abbrev cJ1_init_3 : ByteArray := prog_14_method_1_code
def yJ1_init_3 : MethodName := ⟨RJ1, "<init>", "()V"⟩
theorem dJ1_init_3_0 : decode cJ1_init_3 0 = .ok (.aload_n 0, 1) := by decide +kernel
theorem dJ1_init_3_1 : decode cJ1_init_3 1 = .ok (.invokespecial 1, 3) := by decide +kernel
theorem dJ1_init_3_4 : decode cJ1_init_3 4 = .ok (.return_, 1) := by decide +kernel
theorem q74 : (Jvm.Cond.initialized "java/lang/Exception") ∈ lw_all := lw_g (lw_at lw_m1 11 rfl) rfl
theorem q296 : (Jvm.Cond.declares ({ cls := "java/lang/Exception", name := "<init>", desc := "()V" } : Jvm.MethodName)) ∈ lw_tbl := lw_at lw_m1 233 rfl
theorem q297 : (Jvm.Cond.declares ({ cls := "java/lang/Exception", name := "<init>", desc := "(Ljava/lang/String;)V" } : Jvm.MethodName)) ∈ lw_tbl := lw_at lw_m1 234 rfl
theorem q340 : (Jvm.Cond.superclass "java/lang/Exception" "java/lang/Throwable") ∈ lw_all := lw_g (lw_at lw_m2 37 rfl) rfl
theorem q351 : (Jvm.Cond.instanceMethod ({ cls := "java/lang/Exception", name := "<init>", desc := "(Ljava/lang/String;Ljava/lang/Throwable;ZZ)V" } : Jvm.MethodName)) ∈ lw_all := lw_g (lw_at lw_m2 48 rfl) rfl
theorem q352 : (Jvm.Cond.code ({ cls := "java/lang/Exception", name := "<init>", desc := "(Ljava/lang/String;Ljava/lang/Throwable;ZZ)V" } : Jvm.MethodName) prog_14_method_5_code (5 : Nat) (Option.none : Option Jvm.ClassFile.FieldType)) ∈ lw_all := lw_g (lw_at lw_m2 49 rfl) rfl
theorem q353 : (Jvm.Cond.methodLink "java/lang/Exception" (16 : Nat) ({ cls := "java/lang/Throwable", name := "<init>", desc := "(Ljava/lang/String;Ljava/lang/Throwable;ZZ)V" } : Jvm.MethodName)) ∈ lw_all := lw_g (lw_at lw_m2 50 rfl) rfl
theorem q815 : (Jvm.Cond.instanceMethod ({ cls := "java/lang/Exception", name := "<init>", desc := "(Ljava/lang/String;)V" } : Jvm.MethodName)) ∈ lw_all := lw_g (lw_at lw_m4 32 rfl) rfl
theorem q816 : (Jvm.Cond.code ({ cls := "java/lang/Exception", name := "<init>", desc := "(Ljava/lang/String;)V" } : Jvm.MethodName) prog_14_method_2_code (2 : Nat) (Option.none : Option Jvm.ClassFile.FieldType)) ∈ lw_all := lw_g (lw_at lw_m4 33 rfl) rfl
theorem q817 : (Jvm.Cond.methodLink "java/lang/Exception" (7 : Nat) ({ cls := "java/lang/Throwable", name := "<init>", desc := "(Ljava/lang/String;)V" } : Jvm.MethodName)) ∈ lw_all := lw_g (lw_at lw_m4 34 rfl) rfl
theorem q851 : (Jvm.Cond.instanceMethod ({ cls := "java/lang/Exception", name := "<init>", desc := "()V" } : Jvm.MethodName)) ∈ lw_all := lw_g (lw_at lw_m4 68 rfl) rfl
theorem q852 : (Jvm.Cond.code ({ cls := "java/lang/Exception", name := "<init>", desc := "()V" } : Jvm.MethodName) prog_14_method_1_code (1 : Nat) (Option.none : Option Jvm.ClassFile.FieldType)) ∈ lw_all := lw_g (lw_at lw_m4 69 rfl) rfl
theorem q853 : (Jvm.Cond.methodLink "java/lang/Exception" (1 : Nat) ({ cls := "java/lang/Throwable", name := "<init>", desc := "()V" } : Jvm.MethodName)) ∈ lw_all := lw_g (lw_at lw_m4 70 rfl) rfl

/-! java/lang/String -/
set_option maxRecDepth 100000
def RJ2 : String := "java/lang/String"
def TJ2 : u_T := fun k => match k with
  | 0 => ("java/lang/String", "value", "[B", true)
  | _ => ("java/lang/String", "coder", "B", true)
def tyJ2 : Nat → FieldType := fun k => match k with
  | 0 => .array .byte
  | _ => .byte
abbrev wsJ20 : List Cond := u_ws RJ2 TJ2 2
theorem nmJ2 : ∀ a, a < 2 → ∀ b, b < 2 → a ≠ b → (TJ2 a).2.1 ≠ (TJ2 b).2.1 := by decide +kernel
theorem tyJ2_ok : ∀ k, k < 2 → parseFieldDescriptor (TJ2 k).2.2.1 = some (tyJ2 k) := by decide +kernel
abbrev cJ2_length : ByteArray := prog_21_method_54_code
def yJ2_length : MethodName := ⟨RJ2, "length", "()I"⟩
def dkwJ2_length_0 : List UInt8 := [42, 180, 0, 9, 190, 42, 182, 1, 79, 122, 172]
abbrev dktJ2_length_0 : List UInt8 := dkwJ2_length_0 ++ []
theorem dksJ2_length_0 : cJ2_length.data.toList.drop 0 = dktJ2_length_0 := by decide +kernel
theorem dJ2_length_0 : decode cJ2_length 0 = .ok (.aload_n 0, 1) := dk_42 (dk_at dksJ2_length_0 0 rfl rfl)
theorem dJ2_length_1 : decode cJ2_length 1 = .ok (.getfield 9, 3) := dk_180 0 9 (dk_at dksJ2_length_0 1 rfl rfl)
theorem dJ2_length_4 : decode cJ2_length 4 = .ok (.arraylength, 1) := dk_190 (dk_at dksJ2_length_0 4 rfl rfl)
theorem dJ2_length_5 : decode cJ2_length 5 = .ok (.aload_n 0, 1) := dk_42 (dk_at dksJ2_length_0 5 rfl rfl)
theorem dJ2_length_6 : decode cJ2_length 6 = .ok (.invokevirtual 335, 3) := dk_182 1 79 (dk_at dksJ2_length_0 6 rfl rfl)
theorem dJ2_length_9 : decode cJ2_length 9 = .ok (.ishr, 1) := dk_122 (dk_at dksJ2_length_0 9 rfl rfl)
theorem dJ2_length_10 : decode cJ2_length 10 = .ok (.ireturn, 1) := dk_172 (dk_at dksJ2_length_0 10 rfl rfl)
abbrev cJ2_coder : ByteArray := prog_21_method_152_code
def yJ2_coder : MethodName := ⟨RJ2, "coder", "()B"⟩
def dkwJ2_coder_0 : List UInt8 := [178, 0, 38, 153, 0, 10, 42, 180, 0, 15, 167, 0, 4, 4, 172]
abbrev dktJ2_coder_0 : List UInt8 := dkwJ2_coder_0 ++ []
theorem dksJ2_coder_0 : cJ2_coder.data.toList.drop 0 = dktJ2_coder_0 := by decide +kernel
theorem dJ2_coder_0 : decode cJ2_coder 0 = .ok (.getstatic 38, 3) := dk_178 0 38 (dk_at dksJ2_coder_0 0 rfl rfl)
theorem dJ2_coder_3 : decode cJ2_coder 3 = .ok (.ifCond .eq 10, 3) := dk_153 0 10 (dk_at dksJ2_coder_0 3 rfl rfl)
theorem dJ2_coder_6 : decode cJ2_coder 6 = .ok (.aload_n 0, 1) := dk_42 (dk_at dksJ2_coder_0 6 rfl rfl)
theorem dJ2_coder_7 : decode cJ2_coder 7 = .ok (.getfield 15, 3) := dk_180 0 15 (dk_at dksJ2_coder_0 7 rfl rfl)
theorem dJ2_coder_10 : decode cJ2_coder 10 = .ok (.goto 4, 3) := dk_167 0 4 (dk_at dksJ2_coder_0 10 rfl rfl)
theorem dJ2_coder_13 : decode cJ2_coder 13 = .ok (.iconst 1, 1) := dk_4 (dk_at dksJ2_coder_0 13 rfl rfl)
theorem dJ2_coder_14 : decode cJ2_coder 14 = .ok (.ireturn, 1) := dk_172 (dk_at dksJ2_coder_0 14 rfl rfl)
abbrev cJ2_charAt : ByteArray := prog_21_method_56_code
def yJ2_charAt : MethodName := ⟨RJ2, "charAt", "(I)C"⟩
def dkwJ2_charAt_1 : List UInt8 := [172]
abbrev dktJ2_charAt_1 : List UInt8 := dkwJ2_charAt_1 ++ []
def dkwJ2_charAt_0 : List UInt8 := [42, 182, 1, 236, 153, 0, 12, 42, 180, 0, 9, 27, 184, 1, 239, 172, 42, 180, 0, 9, 27, 184, 1, 242]
abbrev dktJ2_charAt_0 : List UInt8 := dkwJ2_charAt_0 ++ dktJ2_charAt_1
theorem dksJ2_charAt_0 : cJ2_charAt.data.toList.drop 0 = dktJ2_charAt_0 := by decide +kernel
theorem dksJ2_charAt_1 : cJ2_charAt.data.toList.drop 24 = dktJ2_charAt_1 := dk_seg dksJ2_charAt_0 24 rfl rfl
theorem dJ2_charAt_0 : decode cJ2_charAt 0 = .ok (.aload_n 0, 1) := dk_42 (dk_at dksJ2_charAt_0 0 rfl rfl)
theorem dJ2_charAt_1 : decode cJ2_charAt 1 = .ok (.invokevirtual 492, 3) := dk_182 1 236 (dk_at dksJ2_charAt_0 1 rfl rfl)
theorem dJ2_charAt_4 : decode cJ2_charAt 4 = .ok (.ifCond .eq 12, 3) := dk_153 0 12 (dk_at dksJ2_charAt_0 4 rfl rfl)
theorem dJ2_charAt_7 : decode cJ2_charAt 7 = .ok (.aload_n 0, 1) := dk_42 (dk_at dksJ2_charAt_0 7 rfl rfl)
theorem dJ2_charAt_8 : decode cJ2_charAt 8 = .ok (.getfield 9, 3) := dk_180 0 9 (dk_at dksJ2_charAt_0 8 rfl rfl)
theorem dJ2_charAt_11 : decode cJ2_charAt 11 = .ok (.iload_n 1, 1) := dk_27 (dk_at dksJ2_charAt_0 11 rfl rfl)
theorem dJ2_charAt_12 : decode cJ2_charAt 12 = .ok (.invokestatic 495, 3) := dk_184 1 239 (dk_at dksJ2_charAt_0 12 rfl rfl)
theorem dJ2_charAt_15 : decode cJ2_charAt 15 = .ok (.ireturn, 1) := dk_172 (dk_at dksJ2_charAt_0 15 rfl rfl)
theorem dJ2_charAt_16 : decode cJ2_charAt 16 = .ok (.aload_n 0, 1) := dk_42 (dk_at dksJ2_charAt_0 16 rfl rfl)
theorem dJ2_charAt_17 : decode cJ2_charAt 17 = .ok (.getfield 9, 3) := dk_180 0 9 (dk_at dksJ2_charAt_0 17 rfl rfl)
theorem dJ2_charAt_20 : decode cJ2_charAt 20 = .ok (.iload_n 1, 1) := dk_27 (dk_at dksJ2_charAt_0 20 rfl rfl)
theorem dJ2_charAt_21 : decode cJ2_charAt 21 = .ok (.invokestatic 498, 3) := dk_184 1 242 (dk_at dksJ2_charAt_0 21 rfl rfl)
theorem dJ2_charAt_24 : decode cJ2_charAt 24 = .ok (.ireturn, 1) := dk_172 (dk_at dksJ2_charAt_1 0 rfl rfl)
abbrev cJ2_isLatin1 : ByteArray := prog_21_method_154_code
def yJ2_isLatin1 : MethodName := ⟨RJ2, "isLatin1", "()Z"⟩
def dkwJ2_isLatin1_0 : List UInt8 := [178, 0, 38, 153, 0, 14, 42, 180, 0, 15, 154, 0, 7, 4, 167, 0, 4, 3, 172]
abbrev dktJ2_isLatin1_0 : List UInt8 := dkwJ2_isLatin1_0 ++ []
theorem dksJ2_isLatin1_0 : cJ2_isLatin1.data.toList.drop 0 = dktJ2_isLatin1_0 := by decide +kernel
theorem dJ2_isLatin1_0 : decode cJ2_isLatin1 0 = .ok (.getstatic 38, 3) := dk_178 0 38 (dk_at dksJ2_isLatin1_0 0 rfl rfl)
theorem dJ2_isLatin1_3 : decode cJ2_isLatin1 3 = .ok (.ifCond .eq 14, 3) := dk_153 0 14 (dk_at dksJ2_isLatin1_0 3 rfl rfl)
theorem dJ2_isLatin1_6 : decode cJ2_isLatin1 6 = .ok (.aload_n 0, 1) := dk_42 (dk_at dksJ2_isLatin1_0 6 rfl rfl)
theorem dJ2_isLatin1_7 : decode cJ2_isLatin1 7 = .ok (.getfield 15, 3) := dk_180 0 15 (dk_at dksJ2_isLatin1_0 7 rfl rfl)
theorem dJ2_isLatin1_10 : decode cJ2_isLatin1 10 = .ok (.ifCond .ne 7, 3) := dk_154 0 7 (dk_at dksJ2_isLatin1_0 10 rfl rfl)
theorem dJ2_isLatin1_13 : decode cJ2_isLatin1 13 = .ok (.iconst 1, 1) := dk_4 (dk_at dksJ2_isLatin1_0 13 rfl rfl)
theorem dJ2_isLatin1_14 : decode cJ2_isLatin1 14 = .ok (.goto 4, 3) := dk_167 0 4 (dk_at dksJ2_isLatin1_0 14 rfl rfl)
theorem dJ2_isLatin1_17 : decode cJ2_isLatin1 17 = .ok (.iconst 0, 1) := dk_3 (dk_at dksJ2_isLatin1_0 17 rfl rfl)
theorem dJ2_isLatin1_18 : decode cJ2_isLatin1 18 = .ok (.ireturn, 1) := dk_172 (dk_at dksJ2_isLatin1_0 18 rfl rfl)
abbrev cJ2_checkIndex : ByteArray := prog_21_method_155_code
def yJ2_checkIndex : MethodName := ⟨RJ2, "checkIndex", "(II)V"⟩
def dkwJ2_checkIndex_0 : List UInt8 := [26, 27, 178, 4, 29, 184, 4, 35, 87, 177]
abbrev dktJ2_checkIndex_0 : List UInt8 := dkwJ2_checkIndex_0 ++ []
theorem dksJ2_checkIndex_0 : cJ2_checkIndex.data.toList.drop 0 = dktJ2_checkIndex_0 := by decide +kernel
theorem dJ2_checkIndex_0 : decode cJ2_checkIndex 0 = .ok (.iload_n 0, 1) := dk_26 (dk_at dksJ2_checkIndex_0 0 rfl rfl)
theorem dJ2_checkIndex_1 : decode cJ2_checkIndex 1 = .ok (.iload_n 1, 1) := dk_27 (dk_at dksJ2_checkIndex_0 1 rfl rfl)
theorem dJ2_checkIndex_2 : decode cJ2_checkIndex 2 = .ok (.getstatic 1053, 3) := dk_178 4 29 (dk_at dksJ2_checkIndex_0 2 rfl rfl)
theorem dJ2_checkIndex_5 : decode cJ2_checkIndex 5 = .ok (.invokestatic 1059, 3) := dk_184 4 35 (dk_at dksJ2_checkIndex_0 5 rfl rfl)
theorem dJ2_checkIndex_8 : decode cJ2_checkIndex 8 = .ok (.pop, 1) := dk_87 (dk_at dksJ2_checkIndex_0 8 rfl rfl)
theorem dJ2_checkIndex_9 : decode cJ2_checkIndex 9 = .ok (.return_, 1) := dk_177 (dk_at dksJ2_checkIndex_0 9 rfl rfl)
theorem q76 : (Jvm.Cond.initialized "java/lang/String") ∈ lw_all := lw_g (lw_at lw_m1 13 rfl) rfl
theorem q429 : (Jvm.Cond.instanceMethod ({ cls := "java/lang/String", name := "length", desc := "()I" } : Jvm.MethodName)) ∈ lw_all := lw_g (lw_at lw_m2 126 rfl) rfl
theorem q430 : (Jvm.Cond.selects "java/lang/String" ({ cls := "java/lang/String", name := "length", desc := "()I" } : Jvm.MethodName) ({ cls := "java/lang/String", name := "length", desc := "()I" } : Jvm.MethodName)) ∈ lw_all := lw_g (lw_at lw_m2 127 rfl) rfl
theorem q431 : (Jvm.Cond.code ({ cls := "java/lang/String", name := "length", desc := "()I" } : Jvm.MethodName) prog_21_method_54_code (1 : Nat) (Option.some Jvm.ClassFile.FieldType.int)) ∈ lw_all := lw_g (lw_at lw_m2 128 rfl) rfl
theorem q432 : (Jvm.Cond.methodLink "java/lang/String" (335 : Nat) ({ cls := "java/lang/String", name := "coder", desc := "()B" } : Jvm.MethodName)) ∈ lw_all := lw_g (lw_at lw_m2 129 rfl) rfl
theorem q433 : (Jvm.Cond.instanceMethod ({ cls := "java/lang/String", name := "coder", desc := "()B" } : Jvm.MethodName)) ∈ lw_all := lw_g (lw_at lw_m2 130 rfl) rfl
theorem q434 : (Jvm.Cond.selects "java/lang/String" ({ cls := "java/lang/String", name := "coder", desc := "()B" } : Jvm.MethodName) ({ cls := "java/lang/String", name := "coder", desc := "()B" } : Jvm.MethodName)) ∈ lw_all := lw_g (lw_at lw_m2 131 rfl) rfl
theorem q435 : (Jvm.Cond.code ({ cls := "java/lang/String", name := "coder", desc := "()B" } : Jvm.MethodName) prog_21_method_152_code (1 : Nat) (Option.some Jvm.ClassFile.FieldType.byte)) ∈ lw_all := lw_g (lw_at lw_m2 132 rfl) rfl
theorem q436 : (Jvm.Cond.fieldLink "java/lang/String" (38 : Nat) "java/lang/String" "COMPACT_STRINGS" "Z") ∈ lw_all := lw_g (lw_at lw_m2 133 rfl) rfl
theorem q437 : (Jvm.Cond.laysStatic "java/lang/String" "COMPACT_STRINGS" "Z") ∈ lw_tbl := lw_at lw_m2 134 rfl
theorem q439 : (Jvm.Cond.instanceMethod ({ cls := "java/lang/String", name := "charAt", desc := "(I)C" } : Jvm.MethodName)) ∈ lw_all := lw_g (lw_at lw_m2 136 rfl) rfl
theorem q440 : (Jvm.Cond.selects "java/lang/String" ({ cls := "java/lang/String", name := "charAt", desc := "(I)C" } : Jvm.MethodName) ({ cls := "java/lang/String", name := "charAt", desc := "(I)C" } : Jvm.MethodName)) ∈ lw_all := lw_g (lw_at lw_m2 137 rfl) rfl
theorem q441 : (Jvm.Cond.code ({ cls := "java/lang/String", name := "charAt", desc := "(I)C" } : Jvm.MethodName) prog_21_method_56_code (2 : Nat) (Option.some Jvm.ClassFile.FieldType.char)) ∈ lw_all := lw_g (lw_at lw_m2 138 rfl) rfl
theorem q442 : (Jvm.Cond.methodLink "java/lang/String" (492 : Nat) ({ cls := "java/lang/String", name := "isLatin1", desc := "()Z" } : Jvm.MethodName)) ∈ lw_all := lw_g (lw_at lw_m2 139 rfl) rfl
theorem q443 : (Jvm.Cond.instanceMethod ({ cls := "java/lang/String", name := "isLatin1", desc := "()Z" } : Jvm.MethodName)) ∈ lw_all := lw_g (lw_at lw_m2 140 rfl) rfl
theorem q444 : (Jvm.Cond.selects "java/lang/String" ({ cls := "java/lang/String", name := "isLatin1", desc := "()Z" } : Jvm.MethodName) ({ cls := "java/lang/String", name := "isLatin1", desc := "()Z" } : Jvm.MethodName)) ∈ lw_all := lw_g (lw_at lw_m2 141 rfl) rfl
theorem q445 : (Jvm.Cond.code ({ cls := "java/lang/String", name := "isLatin1", desc := "()Z" } : Jvm.MethodName) prog_21_method_154_code (1 : Nat) (Option.some Jvm.ClassFile.FieldType.boolean)) ∈ lw_all := lw_g (lw_at lw_m2 142 rfl) rfl
theorem q446 : (Jvm.Cond.methodLink "java/lang/String" (495 : Nat) ({ cls := "java/lang/StringLatin1", name := "charAt", desc := "([BI)C" } : Jvm.MethodName)) ∈ lw_all := lw_g (lw_at lw_m2 143 rfl) rfl
theorem q450 : (Jvm.Cond.static ({ cls := "java/lang/String", name := "checkIndex", desc := "(II)V" } : Jvm.MethodName)) ∈ lw_all := lw_g (lw_at lw_m2 147 rfl) rfl
theorem q451 : (Jvm.Cond.code ({ cls := "java/lang/String", name := "checkIndex", desc := "(II)V" } : Jvm.MethodName) prog_21_method_155_code (2 : Nat) (Option.none : Option Jvm.ClassFile.FieldType)) ∈ lw_all := lw_g (lw_at lw_m2 148 rfl) rfl
theorem q452 : (Jvm.Cond.fieldLink "java/lang/String" (1053 : Nat) "jdk/internal/util/Preconditions" "SIOOBE_FORMATTER" "Ljava/util/function/BiFunction;") ∈ lw_all := lw_g (lw_at lw_m2 149 rfl) rfl
theorem q454 : (Jvm.Cond.methodLink "java/lang/String" (1059 : Nat) ({ cls := "jdk/internal/util/Preconditions", name := "checkIndex", desc := "(IILjava/util/function/BiFunction;)I" } : Jvm.MethodName)) ∈ lw_all := lw_g (lw_at lw_m2 151 rfl) rfl
theorem q457 : (Jvm.Cond.methodLink "java/lang/String" (498 : Nat) ({ cls := "java/lang/StringUTF16", name := "charAt", desc := "([BI)C" } : Jvm.MethodName)) ∈ lw_all := lw_g (lw_at lw_m2 154 rfl) rfl
theorem q831 : (Jvm.Cond.instantiable "java/lang/String" (4 : Nat)) ∈ lw_all := lw_g (lw_at lw_m4 48 rfl) rfl
theorem q832 : (Jvm.Cond.laysFinal "java/lang/String" "java/lang/String" "value" "[B") ∈ lw_all := lw_g (lw_at lw_m4 49 rfl) rfl
theorem q833 : (Jvm.Cond.soleField "java/lang/String" "value") ∈ lw_all := lw_g (lw_at lw_m4 50 rfl) rfl
theorem q834 : (Jvm.Cond.laysFinal "java/lang/String" "java/lang/String" "coder" "B") ∈ lw_all := lw_g (lw_at lw_m4 51 rfl) rfl
theorem q835 : (Jvm.Cond.soleField "java/lang/String" "coder") ∈ lw_all := lw_g (lw_at lw_m4 52 rfl) rfl
theorem q1341 : (Jvm.Cond.fieldLink "java/lang/String" (9 : Nat) "java/lang/String" "value" "[B") ∈ lw_all := lw_g (lw_at lw_m6 78 rfl) rfl
theorem q1342 : (Jvm.Cond.fieldLink "java/lang/String" (15 : Nat) "java/lang/String" "coder" "B") ∈ lw_all := lw_g (lw_at lw_m6 79 rfl) rfl
theorem in_J2 : ∀ w ∈ wsJ20, w ∈ lw_all := lw_in wsJ20 [832, 834] (by decide +kernel) (by decide +kernel)

/-! java/lang/StringLatin1 -/
set_option maxRecDepth 100000
def RJ3 : String := "java/lang/StringLatin1"
abbrev cJ3_charAt : ByteArray := prog_22_method_2_code
def yJ3_charAt : MethodName := ⟨RJ3, "charAt", "([BI)C"⟩
def dkwJ3_charAt_0 : List UInt8 := [27, 42, 190, 184, 0, 9, 42, 27, 51, 17, 0, 255, 126, 146, 172]
abbrev dktJ3_charAt_0 : List UInt8 := dkwJ3_charAt_0 ++ []
theorem dksJ3_charAt_0 : cJ3_charAt.data.toList.drop 0 = dktJ3_charAt_0 := by decide +kernel
theorem dJ3_charAt_0 : decode cJ3_charAt 0 = .ok (.iload_n 1, 1) := dk_27 (dk_at dksJ3_charAt_0 0 rfl rfl)
theorem dJ3_charAt_1 : decode cJ3_charAt 1 = .ok (.aload_n 0, 1) := dk_42 (dk_at dksJ3_charAt_0 1 rfl rfl)
theorem dJ3_charAt_2 : decode cJ3_charAt 2 = .ok (.arraylength, 1) := dk_190 (dk_at dksJ3_charAt_0 2 rfl rfl)
theorem dJ3_charAt_3 : decode cJ3_charAt 3 = .ok (.invokestatic 9, 3) := dk_184 0 9 (dk_at dksJ3_charAt_0 3 rfl rfl)
theorem dJ3_charAt_6 : decode cJ3_charAt 6 = .ok (.aload_n 0, 1) := dk_42 (dk_at dksJ3_charAt_0 6 rfl rfl)
theorem dJ3_charAt_7 : decode cJ3_charAt 7 = .ok (.iload_n 1, 1) := dk_27 (dk_at dksJ3_charAt_0 7 rfl rfl)
theorem dJ3_charAt_8 : decode cJ3_charAt 8 = .ok (.baload, 1) := dk_51 (dk_at dksJ3_charAt_0 8 rfl rfl)
theorem dJ3_charAt_9 : decode cJ3_charAt 9 = .ok (.sipush 255, 3) := dk_17 0 255 (dk_at dksJ3_charAt_0 9 rfl rfl)
theorem dJ3_charAt_12 : decode cJ3_charAt 12 = .ok (.iand, 1) := dk_126 (dk_at dksJ3_charAt_0 12 rfl rfl)
theorem dJ3_charAt_13 : decode cJ3_charAt 13 = .ok (.i2c, 1) := dk_146 (dk_at dksJ3_charAt_0 13 rfl rfl)
theorem dJ3_charAt_14 : decode cJ3_charAt 14 = .ok (.ireturn, 1) := dk_172 (dk_at dksJ3_charAt_0 14 rfl rfl)
theorem q77 : (Jvm.Cond.initialized "java/lang/StringLatin1") ∈ lw_all := lw_g (lw_at lw_m1 14 rfl) rfl
theorem q447 : (Jvm.Cond.static ({ cls := "java/lang/StringLatin1", name := "charAt", desc := "([BI)C" } : Jvm.MethodName)) ∈ lw_all := lw_g (lw_at lw_m2 144 rfl) rfl
theorem q448 : (Jvm.Cond.code ({ cls := "java/lang/StringLatin1", name := "charAt", desc := "([BI)C" } : Jvm.MethodName) prog_22_method_2_code (2 : Nat) (Option.some Jvm.ClassFile.FieldType.char)) ∈ lw_all := lw_g (lw_at lw_m2 145 rfl) rfl
theorem q449 : (Jvm.Cond.methodLink "java/lang/StringLatin1" (9 : Nat) ({ cls := "java/lang/String", name := "checkIndex", desc := "(II)V" } : Jvm.MethodName)) ∈ lw_all := lw_g (lw_at lw_m2 146 rfl) rfl

/-! jdk/internal/util/Preconditions -/
set_option maxRecDepth 100000
def RJ4 : String := "jdk/internal/util/Preconditions"
abbrev cJ4_checkIndex : ByteArray := prog_26_method_11_code
def yJ4_checkIndex : MethodName := ⟨RJ4, "checkIndex", "(IILjava/util/function/BiFunction;)I"⟩
def dkwJ4_checkIndex_0 : List UInt8 := [26, 155, 0, 8, 26, 27, 161, 0, 10, 44, 26, 27, 184, 0, 95, 191, 26, 172]
abbrev dktJ4_checkIndex_0 : List UInt8 := dkwJ4_checkIndex_0 ++ []
theorem dksJ4_checkIndex_0 : cJ4_checkIndex.data.toList.drop 0 = dktJ4_checkIndex_0 := by decide +kernel
theorem dJ4_checkIndex_0 : decode cJ4_checkIndex 0 = .ok (.iload_n 0, 1) := dk_26 (dk_at dksJ4_checkIndex_0 0 rfl rfl)
theorem dJ4_checkIndex_1 : decode cJ4_checkIndex 1 = .ok (.ifCond .lt 8, 3) := dk_155 0 8 (dk_at dksJ4_checkIndex_0 1 rfl rfl)
theorem dJ4_checkIndex_4 : decode cJ4_checkIndex 4 = .ok (.iload_n 0, 1) := dk_26 (dk_at dksJ4_checkIndex_0 4 rfl rfl)
theorem dJ4_checkIndex_5 : decode cJ4_checkIndex 5 = .ok (.iload_n 1, 1) := dk_27 (dk_at dksJ4_checkIndex_0 5 rfl rfl)
theorem dJ4_checkIndex_6 : decode cJ4_checkIndex 6 = .ok (.if_icmp .lt 10, 3) := dk_161 0 10 (dk_at dksJ4_checkIndex_0 6 rfl rfl)
theorem dJ4_checkIndex_9 : decode cJ4_checkIndex 9 = .ok (.aload_n 2, 1) := dk_44 (dk_at dksJ4_checkIndex_0 9 rfl rfl)
theorem dJ4_checkIndex_10 : decode cJ4_checkIndex 10 = .ok (.iload_n 0, 1) := dk_26 (dk_at dksJ4_checkIndex_0 10 rfl rfl)
theorem dJ4_checkIndex_11 : decode cJ4_checkIndex 11 = .ok (.iload_n 1, 1) := dk_27 (dk_at dksJ4_checkIndex_0 11 rfl rfl)
theorem dJ4_checkIndex_12 : decode cJ4_checkIndex 12 = .ok (.invokestatic 95, 3) := dk_184 0 95 (dk_at dksJ4_checkIndex_0 12 rfl rfl)
theorem dJ4_checkIndex_15 : decode cJ4_checkIndex 15 = .ok (.athrow, 1) := dk_191 (dk_at dksJ4_checkIndex_0 15 rfl rfl)
theorem dJ4_checkIndex_16 : decode cJ4_checkIndex 16 = .ok (.iload_n 0, 1) := dk_26 (dk_at dksJ4_checkIndex_0 16 rfl rfl)
theorem dJ4_checkIndex_17 : decode cJ4_checkIndex 17 = .ok (.ireturn, 1) := dk_172 (dk_at dksJ4_checkIndex_0 17 rfl rfl)
theorem q78 : (Jvm.Cond.initialized "jdk/internal/util/Preconditions") ∈ lw_all := lw_g (lw_at lw_m1 15 rfl) rfl
theorem q453 : (Jvm.Cond.laysStatic "jdk/internal/util/Preconditions" "SIOOBE_FORMATTER" "Ljava/util/function/BiFunction;") ∈ lw_tbl := lw_at lw_m2 150 rfl
theorem q455 : (Jvm.Cond.static ({ cls := "jdk/internal/util/Preconditions", name := "checkIndex", desc := "(IILjava/util/function/BiFunction;)I" } : Jvm.MethodName)) ∈ lw_all := lw_g (lw_at lw_m2 152 rfl) rfl
theorem q456 : (Jvm.Cond.code ({ cls := "jdk/internal/util/Preconditions", name := "checkIndex", desc := "(IILjava/util/function/BiFunction;)I" } : Jvm.MethodName) prog_26_method_11_code (3 : Nat) (Option.some Jvm.ClassFile.FieldType.int)) ∈ lw_all := lw_g (lw_at lw_m2 153 rfl) rfl

/-! java/lang/StringUTF16 -/
set_option maxRecDepth 100000
def RJ5 : String := "java/lang/StringUTF16"
abbrev cJ5_charAt : ByteArray := prog_23_method_83_code
def yJ5_charAt : MethodName := ⟨RJ5, "charAt", "([BI)C"⟩
def dkwJ5_charAt_0 : List UInt8 := [27, 42, 184, 0, 67, 42, 27, 184, 0, 71, 172]
abbrev dktJ5_charAt_0 : List UInt8 := dkwJ5_charAt_0 ++ []
theorem dksJ5_charAt_0 : cJ5_charAt.data.toList.drop 0 = dktJ5_charAt_0 := by decide +kernel
theorem dJ5_charAt_0 : decode cJ5_charAt 0 = .ok (.iload_n 1, 1) := dk_27 (dk_at dksJ5_charAt_0 0 rfl rfl)
theorem dJ5_charAt_1 : decode cJ5_charAt 1 = .ok (.aload_n 0, 1) := dk_42 (dk_at dksJ5_charAt_0 1 rfl rfl)
theorem dJ5_charAt_2 : decode cJ5_charAt 2 = .ok (.invokestatic 67, 3) := dk_184 0 67 (dk_at dksJ5_charAt_0 2 rfl rfl)
theorem dJ5_charAt_5 : decode cJ5_charAt 5 = .ok (.aload_n 0, 1) := dk_42 (dk_at dksJ5_charAt_0 5 rfl rfl)
theorem dJ5_charAt_6 : decode cJ5_charAt 6 = .ok (.iload_n 1, 1) := dk_27 (dk_at dksJ5_charAt_0 6 rfl rfl)
theorem dJ5_charAt_7 : decode cJ5_charAt 7 = .ok (.invokestatic 71, 3) := dk_184 0 71 (dk_at dksJ5_charAt_0 7 rfl rfl)
theorem dJ5_charAt_10 : decode cJ5_charAt 10 = .ok (.ireturn, 1) := dk_172 (dk_at dksJ5_charAt_0 10 rfl rfl)
abbrev cJ5_checkIndex : ByteArray := prog_23_method_91_code
def yJ5_checkIndex : MethodName := ⟨RJ5, "checkIndex", "(I[B)V"⟩
def dkwJ5_checkIndex_0 : List UInt8 := [26, 43, 184, 0, 48, 184, 1, 158, 177]
abbrev dktJ5_checkIndex_0 : List UInt8 := dkwJ5_checkIndex_0 ++ []
theorem dksJ5_checkIndex_0 : cJ5_checkIndex.data.toList.drop 0 = dktJ5_checkIndex_0 := by decide +kernel
theorem dJ5_checkIndex_0 : decode cJ5_checkIndex 0 = .ok (.iload_n 0, 1) := dk_26 (dk_at dksJ5_checkIndex_0 0 rfl rfl)
theorem dJ5_checkIndex_1 : decode cJ5_checkIndex 1 = .ok (.aload_n 1, 1) := dk_43 (dk_at dksJ5_checkIndex_0 1 rfl rfl)
theorem dJ5_checkIndex_2 : decode cJ5_checkIndex 2 = .ok (.invokestatic 48, 3) := dk_184 0 48 (dk_at dksJ5_checkIndex_0 2 rfl rfl)
theorem dJ5_checkIndex_5 : decode cJ5_checkIndex 5 = .ok (.invokestatic 414, 3) := dk_184 1 158 (dk_at dksJ5_checkIndex_0 5 rfl rfl)
theorem dJ5_checkIndex_8 : decode cJ5_checkIndex 8 = .ok (.return_, 1) := dk_177 (dk_at dksJ5_checkIndex_0 8 rfl rfl)
abbrev cJ5_length : ByteArray := prog_23_method_6_code
def yJ5_length : MethodName := ⟨RJ5, "length", "([B)I"⟩
def dkwJ5_length_0 : List UInt8 := [42, 190, 4, 122, 172]
abbrev dktJ5_length_0 : List UInt8 := dkwJ5_length_0 ++ []
theorem dksJ5_length_0 : cJ5_length.data.toList.drop 0 = dktJ5_length_0 := by decide +kernel
theorem dJ5_length_0 : decode cJ5_length 0 = .ok (.aload_n 0, 1) := dk_42 (dk_at dksJ5_length_0 0 rfl rfl)
theorem dJ5_length_1 : decode cJ5_length 1 = .ok (.arraylength, 1) := dk_190 (dk_at dksJ5_length_0 1 rfl rfl)
theorem dJ5_length_2 : decode cJ5_length 2 = .ok (.iconst 1, 1) := dk_4 (dk_at dksJ5_length_0 2 rfl rfl)
theorem dJ5_length_3 : decode cJ5_length 3 = .ok (.ishr, 1) := dk_122 (dk_at dksJ5_length_0 3 rfl rfl)
theorem dJ5_length_4 : decode cJ5_length 4 = .ok (.ireturn, 1) := dk_172 (dk_at dksJ5_length_0 4 rfl rfl)
abbrev cJ5_getChar : ByteArray := prog_23_method_5_code
def yJ5_getChar : MethodName := ⟨RJ5, "getChar", "([BI)C"⟩
def dkwJ5_getChar_2 : List UInt8 := [51, 17, 0, 255, 126, 178, 0, 63, 120, 128, 146, 172]
abbrev dktJ5_getChar_2 : List UInt8 := dkwJ5_getChar_2 ++ []
def dkwJ5_getChar_1 : List UInt8 := [183, 0, 56, 191, 27, 4, 120, 60, 42, 27, 132, 1, 1, 51, 17, 0, 255, 126, 178, 0, 59, 120, 42, 27]
abbrev dktJ5_getChar_1 : List UInt8 := dkwJ5_getChar_1 ++ dktJ5_getChar_2
def dkwJ5_getChar_0 : List UInt8 := [178, 0, 44, 154, 0, 25, 27, 155, 0, 11, 27, 42, 184, 0, 48, 161, 0, 13, 187, 0, 52, 89, 18, 54]
abbrev dktJ5_getChar_0 : List UInt8 := dkwJ5_getChar_0 ++ dktJ5_getChar_1
theorem dksJ5_getChar_0 : cJ5_getChar.data.toList.drop 0 = dktJ5_getChar_0 := by decide +kernel
theorem dksJ5_getChar_1 : cJ5_getChar.data.toList.drop 24 = dktJ5_getChar_1 := dk_seg dksJ5_getChar_0 24 rfl rfl
theorem dksJ5_getChar_2 : cJ5_getChar.data.toList.drop 48 = dktJ5_getChar_2 := dk_seg dksJ5_getChar_1 24 rfl rfl
theorem dJ5_getChar_0 : decode cJ5_getChar 0 = .ok (.getstatic 44, 3) := dk_178 0 44 (dk_at dksJ5_getChar_0 0 rfl rfl)
theorem dJ5_getChar_3 : decode cJ5_getChar 3 = .ok (.ifCond .ne 25, 3) := dk_154 0 25 (dk_at dksJ5_getChar_0 3 rfl rfl)
theorem dJ5_getChar_6 : decode cJ5_getChar 6 = .ok (.iload_n 1, 1) := dk_27 (dk_at dksJ5_getChar_0 6 rfl rfl)
theorem dJ5_getChar_7 : decode cJ5_getChar 7 = .ok (.ifCond .lt 11, 3) := dk_155 0 11 (dk_at dksJ5_getChar_0 7 rfl rfl)
theorem dJ5_getChar_10 : decode cJ5_getChar 10 = .ok (.iload_n 1, 1) := dk_27 (dk_at dksJ5_getChar_0 10 rfl rfl)
theorem dJ5_getChar_11 : decode cJ5_getChar 11 = .ok (.aload_n 0, 1) := dk_42 (dk_at dksJ5_getChar_0 11 rfl rfl)
theorem dJ5_getChar_12 : decode cJ5_getChar 12 = .ok (.invokestatic 48, 3) := dk_184 0 48 (dk_at dksJ5_getChar_0 12 rfl rfl)
theorem dJ5_getChar_15 : decode cJ5_getChar 15 = .ok (.if_icmp .lt 13, 3) := dk_161 0 13 (dk_at dksJ5_getChar_0 15 rfl rfl)
theorem dJ5_getChar_18 : decode cJ5_getChar 18 = .ok (.new 52, 3) := dk_187 0 52 (dk_at dksJ5_getChar_0 18 rfl rfl)
theorem dJ5_getChar_21 : decode cJ5_getChar 21 = .ok (.dup, 1) := dk_89 (dk_at dksJ5_getChar_0 21 rfl rfl)
theorem dJ5_getChar_22 : decode cJ5_getChar 22 = .ok (.ldc 54, 2) := dk_18 54 (dk_at dksJ5_getChar_0 22 rfl rfl)
theorem dJ5_getChar_24 : decode cJ5_getChar 24 = .ok (.invokespecial 56, 3) := dk_183 0 56 (dk_at dksJ5_getChar_1 0 rfl rfl)
theorem dJ5_getChar_27 : decode cJ5_getChar 27 = .ok (.athrow, 1) := dk_191 (dk_at dksJ5_getChar_1 3 rfl rfl)
theorem dJ5_getChar_28 : decode cJ5_getChar 28 = .ok (.iload_n 1, 1) := dk_27 (dk_at dksJ5_getChar_1 4 rfl rfl)
theorem dJ5_getChar_29 : decode cJ5_getChar 29 = .ok (.iconst 1, 1) := dk_4 (dk_at dksJ5_getChar_1 5 rfl rfl)
theorem dJ5_getChar_30 : decode cJ5_getChar 30 = .ok (.ishl, 1) := dk_120 (dk_at dksJ5_getChar_1 6 rfl rfl)
theorem dJ5_getChar_31 : decode cJ5_getChar 31 = .ok (.istore_n 1, 1) := dk_60 (dk_at dksJ5_getChar_1 7 rfl rfl)
theorem dJ5_getChar_32 : decode cJ5_getChar 32 = .ok (.aload_n 0, 1) := dk_42 (dk_at dksJ5_getChar_1 8 rfl rfl)
theorem dJ5_getChar_33 : decode cJ5_getChar 33 = .ok (.iload_n 1, 1) := dk_27 (dk_at dksJ5_getChar_1 9 rfl rfl)
theorem dJ5_getChar_34 : decode cJ5_getChar 34 = .ok (.iinc 1 1, 3) := dk_132 1 1 (dk_at dksJ5_getChar_1 10 rfl rfl)
theorem dJ5_getChar_37 : decode cJ5_getChar 37 = .ok (.baload, 1) := dk_51 (dk_at dksJ5_getChar_1 13 rfl rfl)
theorem dJ5_getChar_38 : decode cJ5_getChar 38 = .ok (.sipush 255, 3) := dk_17 0 255 (dk_at dksJ5_getChar_1 14 rfl rfl)
theorem dJ5_getChar_41 : decode cJ5_getChar 41 = .ok (.iand, 1) := dk_126 (dk_at dksJ5_getChar_1 17 rfl rfl)
theorem dJ5_getChar_42 : decode cJ5_getChar 42 = .ok (.getstatic 59, 3) := dk_178 0 59 (dk_at dksJ5_getChar_1 18 rfl rfl)
theorem dJ5_getChar_45 : decode cJ5_getChar 45 = .ok (.ishl, 1) := dk_120 (dk_at dksJ5_getChar_1 21 rfl rfl)
theorem dJ5_getChar_46 : decode cJ5_getChar 46 = .ok (.aload_n 0, 1) := dk_42 (dk_at dksJ5_getChar_1 22 rfl rfl)
theorem dJ5_getChar_47 : decode cJ5_getChar 47 = .ok (.iload_n 1, 1) := dk_27 (dk_at dksJ5_getChar_1 23 rfl rfl)
theorem dJ5_getChar_48 : decode cJ5_getChar 48 = .ok (.baload, 1) := dk_51 (dk_at dksJ5_getChar_2 0 rfl rfl)
theorem dJ5_getChar_49 : decode cJ5_getChar 49 = .ok (.sipush 255, 3) := dk_17 0 255 (dk_at dksJ5_getChar_2 1 rfl rfl)
theorem dJ5_getChar_52 : decode cJ5_getChar 52 = .ok (.iand, 1) := dk_126 (dk_at dksJ5_getChar_2 4 rfl rfl)
theorem dJ5_getChar_53 : decode cJ5_getChar 53 = .ok (.getstatic 63, 3) := dk_178 0 63 (dk_at dksJ5_getChar_2 5 rfl rfl)
theorem dJ5_getChar_56 : decode cJ5_getChar 56 = .ok (.ishl, 1) := dk_120 (dk_at dksJ5_getChar_2 8 rfl rfl)
theorem dJ5_getChar_57 : decode cJ5_getChar 57 = .ok (.ior, 1) := dk_128 (dk_at dksJ5_getChar_2 9 rfl rfl)
theorem dJ5_getChar_58 : decode cJ5_getChar 58 = .ok (.i2c, 1) := dk_146 (dk_at dksJ5_getChar_2 10 rfl rfl)
theorem dJ5_getChar_59 : decode cJ5_getChar 59 = .ok (.ireturn, 1) := dk_172 (dk_at dksJ5_getChar_2 11 rfl rfl)
theorem q79 : (Jvm.Cond.initialized "java/lang/StringUTF16") ∈ lw_all := lw_g (lw_at lw_m1 16 rfl) rfl
theorem q458 : (Jvm.Cond.static ({ cls := "java/lang/StringUTF16", name := "charAt", desc := "([BI)C" } : Jvm.MethodName)) ∈ lw_all := lw_g (lw_at lw_m2 155 rfl) rfl
theorem q459 : (Jvm.Cond.code ({ cls := "java/lang/StringUTF16", name := "charAt", desc := "([BI)C" } : Jvm.MethodName) prog_23_method_83_code (2 : Nat) (Option.some Jvm.ClassFile.FieldType.char)) ∈ lw_all := lw_g (lw_at lw_m2 156 rfl) rfl
theorem q460 : (Jvm.Cond.methodLink "java/lang/StringUTF16" (67 : Nat) ({ cls := "java/lang/StringUTF16", name := "checkIndex", desc := "(I[B)V" } : Jvm.MethodName)) ∈ lw_all := lw_g (lw_at lw_m2 157 rfl) rfl
theorem q461 : (Jvm.Cond.static ({ cls := "java/lang/StringUTF16", name := "checkIndex", desc := "(I[B)V" } : Jvm.MethodName)) ∈ lw_all := lw_g (lw_at lw_m2 158 rfl) rfl
theorem q462 : (Jvm.Cond.code ({ cls := "java/lang/StringUTF16", name := "checkIndex", desc := "(I[B)V" } : Jvm.MethodName) prog_23_method_91_code (2 : Nat) (Option.none : Option Jvm.ClassFile.FieldType)) ∈ lw_all := lw_g (lw_at lw_m2 159 rfl) rfl
theorem q463 : (Jvm.Cond.methodLink "java/lang/StringUTF16" (48 : Nat) ({ cls := "java/lang/StringUTF16", name := "length", desc := "([B)I" } : Jvm.MethodName)) ∈ lw_all := lw_g (lw_at lw_m2 160 rfl) rfl
theorem q464 : (Jvm.Cond.static ({ cls := "java/lang/StringUTF16", name := "length", desc := "([B)I" } : Jvm.MethodName)) ∈ lw_all := lw_g (lw_at lw_m2 161 rfl) rfl
theorem q465 : (Jvm.Cond.code ({ cls := "java/lang/StringUTF16", name := "length", desc := "([B)I" } : Jvm.MethodName) prog_23_method_6_code (1 : Nat) (Option.some Jvm.ClassFile.FieldType.int)) ∈ lw_all := lw_g (lw_at lw_m2 162 rfl) rfl
theorem q466 : (Jvm.Cond.methodLink "java/lang/StringUTF16" (414 : Nat) ({ cls := "java/lang/String", name := "checkIndex", desc := "(II)V" } : Jvm.MethodName)) ∈ lw_all := lw_g (lw_at lw_m2 163 rfl) rfl
theorem q467 : (Jvm.Cond.methodLink "java/lang/StringUTF16" (71 : Nat) ({ cls := "java/lang/StringUTF16", name := "getChar", desc := "([BI)C" } : Jvm.MethodName)) ∈ lw_all := lw_g (lw_at lw_m2 164 rfl) rfl
theorem q468 : (Jvm.Cond.static ({ cls := "java/lang/StringUTF16", name := "getChar", desc := "([BI)C" } : Jvm.MethodName)) ∈ lw_all := lw_g (lw_at lw_m2 165 rfl) rfl
theorem q469 : (Jvm.Cond.code ({ cls := "java/lang/StringUTF16", name := "getChar", desc := "([BI)C" } : Jvm.MethodName) prog_23_method_5_code (2 : Nat) (Option.some Jvm.ClassFile.FieldType.char)) ∈ lw_all := lw_g (lw_at lw_m2 166 rfl) rfl
theorem q470 : (Jvm.Cond.fieldLink "java/lang/StringUTF16" (44 : Nat) "java/lang/StringUTF16" "$assertionsDisabled" "Z") ∈ lw_all := lw_g (lw_at lw_m2 167 rfl) rfl
theorem q471 : (Jvm.Cond.laysStatic "java/lang/StringUTF16" "$assertionsDisabled" "Z") ∈ lw_tbl := lw_at lw_m2 168 rfl
theorem q472 : (Jvm.Cond.fieldLink "java/lang/StringUTF16" (59 : Nat) "java/lang/StringUTF16" "HI_BYTE_SHIFT" "I") ∈ lw_all := lw_g (lw_at lw_m2 169 rfl) rfl
theorem q473 : (Jvm.Cond.laysStatic "java/lang/StringUTF16" "HI_BYTE_SHIFT" "I") ∈ lw_tbl := lw_at lw_m2 170 rfl
theorem q474 : (Jvm.Cond.fieldLink "java/lang/StringUTF16" (63 : Nat) "java/lang/StringUTF16" "LO_BYTE_SHIFT" "I") ∈ lw_all := lw_g (lw_at lw_m2 171 rfl) rfl
theorem q475 : (Jvm.Cond.laysStatic "java/lang/StringUTF16" "LO_BYTE_SHIFT" "I") ∈ lw_tbl := lw_at lw_m2 172 rfl

/-! java/lang/RuntimeException -/
set_option maxRecDepth 100000
def RJ8 : String := "java/lang/RuntimeException"
abbrev cJ8_init : ByteArray := prog_20_method_2_code
def yJ8_init : MethodName := ⟨RJ8, "<init>", "(Ljava/lang/String;)V"⟩
def dkwJ8_init_0 : List UInt8 := [42, 43, 183, 0, 7, 177]
abbrev dktJ8_init_0 : List UInt8 := dkwJ8_init_0 ++ []
theorem dksJ8_init_0 : cJ8_init.data.toList.drop 0 = dktJ8_init_0 := by decide +kernel
theorem dJ8_init_0 : decode cJ8_init 0 = .ok (.aload_n 0, 1) := dk_42 (dk_at dksJ8_init_0 0 rfl rfl)
theorem dJ8_init_1 : decode cJ8_init 1 = .ok (.aload_n 1, 1) := dk_43 (dk_at dksJ8_init_0 1 rfl rfl)
theorem dJ8_init_2 : decode cJ8_init 2 = .ok (.invokespecial 7, 3) := dk_183 0 7 (dk_at dksJ8_init_0 2 rfl rfl)
theorem dJ8_init_5 : decode cJ8_init 5 = .ok (.return_, 1) := dk_177 (dk_at dksJ8_init_0 5 rfl rfl)
abbrev cJ8_init_2 : ByteArray := prog_20_method_1_code
def yJ8_init_2 : MethodName := ⟨RJ8, "<init>", "()V"⟩
theorem dJ8_init_2_0 : decode cJ8_init_2 0 = .ok (.aload_n 0, 1) := by decide +kernel
theorem dJ8_init_2_1 : decode cJ8_init_2 1 = .ok (.invokespecial 1, 3) := by decide +kernel
theorem dJ8_init_2_4 : decode cJ8_init_2 4 = .ok (.return_, 1) := by decide +kernel
theorem q83 : (Jvm.Cond.initialized "java/lang/RuntimeException") ∈ lw_all := lw_g (lw_at lw_m1 20 rfl) rfl
theorem q336 : (Jvm.Cond.sameMethod "java/lang/RuntimeException" "java/lang/Throwable" "fillInStackTrace" "()Ljava/lang/Throwable;") ∈ lw_all := lw_g (lw_at lw_m2 33 rfl) rfl
theorem q339 : (Jvm.Cond.superclass "java/lang/RuntimeException" "java/lang/Exception") ∈ lw_all := lw_g (lw_at lw_m2 36 rfl) rfl
theorem q812 : (Jvm.Cond.instanceMethod ({ cls := "java/lang/RuntimeException", name := "<init>", desc := "(Ljava/lang/String;)V" } : Jvm.MethodName)) ∈ lw_all := lw_g (lw_at lw_m4 29 rfl) rfl
theorem q813 : (Jvm.Cond.code ({ cls := "java/lang/RuntimeException", name := "<init>", desc := "(Ljava/lang/String;)V" } : Jvm.MethodName) prog_20_method_2_code (2 : Nat) (Option.none : Option Jvm.ClassFile.FieldType)) ∈ lw_all := lw_g (lw_at lw_m4 30 rfl) rfl
theorem q814 : (Jvm.Cond.methodLink "java/lang/RuntimeException" (7 : Nat) ({ cls := "java/lang/Exception", name := "<init>", desc := "(Ljava/lang/String;)V" } : Jvm.MethodName)) ∈ lw_all := lw_g (lw_at lw_m4 31 rfl) rfl
theorem q828 : (Jvm.Cond.declares ({ cls := "java/lang/RuntimeException", name := "<init>", desc := "()V" } : Jvm.MethodName)) ∈ lw_tbl := lw_at lw_m4 45 rfl
theorem q829 : (Jvm.Cond.declares ({ cls := "java/lang/RuntimeException", name := "<init>", desc := "(Ljava/lang/String;)V" } : Jvm.MethodName)) ∈ lw_tbl := lw_at lw_m4 46 rfl
theorem q848 : (Jvm.Cond.instanceMethod ({ cls := "java/lang/RuntimeException", name := "<init>", desc := "()V" } : Jvm.MethodName)) ∈ lw_all := lw_g (lw_at lw_m4 65 rfl) rfl
theorem q849 : (Jvm.Cond.code ({ cls := "java/lang/RuntimeException", name := "<init>", desc := "()V" } : Jvm.MethodName) prog_20_method_1_code (1 : Nat) (Option.none : Option Jvm.ClassFile.FieldType)) ∈ lw_all := lw_g (lw_at lw_m4 66 rfl) rfl
theorem q850 : (Jvm.Cond.methodLink "java/lang/RuntimeException" (1 : Nat) ({ cls := "java/lang/Exception", name := "<init>", desc := "()V" } : Jvm.MethodName)) ∈ lw_all := lw_g (lw_at lw_m4 67 rfl) rfl
theorem q868 : (Jvm.Cond.castable "java/lang/RuntimeException" "java/lang/Throwable") ∈ lw_tbl := lw_at lw_m4 85 rfl

/-! java/lang/NegativeArraySizeException -/
set_option maxRecDepth 100000
def RJ9 : String := "java/lang/NegativeArraySizeException"
def TJ9 : u_T := fun k => match k with
  | 0 => ("java/lang/Throwable", "backtrace", "Ljava/lang/Object;", false)
  | 1 => ("java/lang/Throwable", "detailMessage", "Ljava/lang/String;", false)
  | 2 => ("java/lang/Throwable", "cause", "Ljava/lang/Throwable;", false)
  | 3 => ("java/lang/Throwable", "stackTrace", "[Ljava/lang/StackTraceElement;", false)
  | 4 => ("java/lang/Throwable", "depth", "I", false)
  | _ => ("java/lang/Throwable", "suppressedExceptions", "Ljava/util/List;", false)
def tyJ9 : Nat → FieldType := fun k => match k with
  | 0 => .object "java/lang/Object"
  | 1 => .object "java/lang/String"
  | 2 => .object "java/lang/Throwable"
  | 3 => .array (.object "java/lang/StackTraceElement")
  | 4 => .int
  | _ => .object "java/util/List"
abbrev wsJ90 : List Cond := u_ws RJ9 TJ9 6
theorem nmJ9 : ∀ a, a < 6 → ∀ b, b < 6 → a ≠ b → (TJ9 a).2.1 ≠ (TJ9 b).2.1 := by decide +kernel
theorem tyJ9_ok : ∀ k, k < 6 → parseFieldDescriptor (TJ9 k).2.2.1 = some (tyJ9 k) := by decide +kernel
abbrev cJ9_init : ByteArray := prog_18_method_2_code
def yJ9_init : MethodName := ⟨RJ9, "<init>", "(Ljava/lang/String;)V"⟩
def dkwJ9_init_0 : List UInt8 := [42, 43, 183, 0, 7, 177]
abbrev dktJ9_init_0 : List UInt8 := dkwJ9_init_0 ++ []
theorem dksJ9_init_0 : cJ9_init.data.toList.drop 0 = dktJ9_init_0 := by decide +kernel
theorem dJ9_init_0 : decode cJ9_init 0 = .ok (.aload_n 0, 1) := dk_42 (dk_at dksJ9_init_0 0 rfl rfl)
theorem dJ9_init_1 : decode cJ9_init 1 = .ok (.aload_n 1, 1) := dk_43 (dk_at dksJ9_init_0 1 rfl rfl)
theorem dJ9_init_2 : decode cJ9_init 2 = .ok (.invokespecial 7, 3) := dk_183 0 7 (dk_at dksJ9_init_0 2 rfl rfl)
theorem dJ9_init_5 : decode cJ9_init 5 = .ok (.return_, 1) := dk_177 (dk_at dksJ9_init_0 5 rfl rfl)
theorem q84 : (Jvm.Cond.initialized "java/lang/NegativeArraySizeException") ∈ lw_all := lw_g (lw_at lw_m1 21 rfl) rfl
theorem q326 : (Jvm.Cond.selects "java/lang/NegativeArraySizeException" ({ cls := "java/lang/Throwable", name := "fillInStackTrace", desc := "()Ljava/lang/Throwable;" } : Jvm.MethodName) ({ cls := "java/lang/Throwable", name := "fillInStackTrace", desc := "()Ljava/lang/Throwable;" } : Jvm.MethodName)) ∈ lw_all := lw_g (lw_at lw_m2 23 rfl) rfl
theorem q808 : (Jvm.Cond.instantiable "java/lang/NegativeArraySizeException" (6 : Nat)) ∈ lw_all := lw_g (lw_at lw_m4 25 rfl) rfl
theorem q809 : (Jvm.Cond.instanceMethod ({ cls := "java/lang/NegativeArraySizeException", name := "<init>", desc := "(Ljava/lang/String;)V" } : Jvm.MethodName)) ∈ lw_all := lw_g (lw_at lw_m4 26 rfl) rfl
theorem q810 : (Jvm.Cond.code ({ cls := "java/lang/NegativeArraySizeException", name := "<init>", desc := "(Ljava/lang/String;)V" } : Jvm.MethodName) prog_18_method_2_code (2 : Nat) (Option.none : Option Jvm.ClassFile.FieldType)) ∈ lw_all := lw_g (lw_at lw_m4 27 rfl) rfl
theorem q811 : (Jvm.Cond.methodLink "java/lang/NegativeArraySizeException" (7 : Nat) ({ cls := "java/lang/RuntimeException", name := "<init>", desc := "(Ljava/lang/String;)V" } : Jvm.MethodName)) ∈ lw_all := lw_g (lw_at lw_m4 28 rfl) rfl
theorem q820 : (Jvm.Cond.lays "java/lang/NegativeArraySizeException" "java/lang/Throwable" "backtrace" "Ljava/lang/Object;") ∈ lw_all := lw_g (lw_at lw_m4 37 rfl) rfl
theorem q821 : (Jvm.Cond.lays "java/lang/NegativeArraySizeException" "java/lang/Throwable" "detailMessage" "Ljava/lang/String;") ∈ lw_all := lw_g (lw_at lw_m4 38 rfl) rfl
theorem q822 : (Jvm.Cond.lays "java/lang/NegativeArraySizeException" "java/lang/Throwable" "cause" "Ljava/lang/Throwable;") ∈ lw_all := lw_g (lw_at lw_m4 39 rfl) rfl
theorem q823 : (Jvm.Cond.lays "java/lang/NegativeArraySizeException" "java/lang/Throwable" "stackTrace" "[Ljava/lang/StackTraceElement;") ∈ lw_all := lw_g (lw_at lw_m4 40 rfl) rfl
theorem q824 : (Jvm.Cond.lays "java/lang/NegativeArraySizeException" "java/lang/Throwable" "depth" "I") ∈ lw_all := lw_g (lw_at lw_m4 41 rfl) rfl
theorem q825 : (Jvm.Cond.lays "java/lang/NegativeArraySizeException" "java/lang/Throwable" "suppressedExceptions" "Ljava/util/List;") ∈ lw_all := lw_g (lw_at lw_m4 42 rfl) rfl
theorem q826 : (Jvm.Cond.superclass "java/lang/NegativeArraySizeException" "java/lang/RuntimeException") ∈ lw_all := lw_g (lw_at lw_m4 43 rfl) rfl
theorem q827 : (Jvm.Cond.castable "java/lang/NegativeArraySizeException" "java/lang/NegativeArraySizeException") ∈ lw_tbl := lw_at lw_m4 44 rfl
theorem q830 : (Jvm.Cond.selects "java/lang/NegativeArraySizeException" ({ cls := "java/lang/Throwable", name := "fillInStackTrace", desc := "(I)Ljava/lang/Throwable;" } : Jvm.MethodName) ({ cls := "java/lang/Throwable", name := "fillInStackTrace", desc := "(I)Ljava/lang/Throwable;" } : Jvm.MethodName)) ∈ lw_all := lw_g (lw_at lw_m4 47 rfl) rfl
theorem in_J9 : ∀ w ∈ wsJ90, w ∈ lw_all := lw_in wsJ90 [820, 821, 822, 823, 824, 825] (by decide +kernel) (by decide +kernel)

/-! java/lang/NullPointerException -/
set_option maxRecDepth 100000
def RJ10 : String := "java/lang/NullPointerException"
def TJ10 : u_T := fun k => match k with
  | 0 => ("java/lang/Throwable", "backtrace", "Ljava/lang/Object;", false)
  | 1 => ("java/lang/Throwable", "detailMessage", "Ljava/lang/String;", false)
  | 2 => ("java/lang/Throwable", "cause", "Ljava/lang/Throwable;", false)
  | 3 => ("java/lang/Throwable", "stackTrace", "[Ljava/lang/StackTraceElement;", false)
  | 4 => ("java/lang/Throwable", "depth", "I", false)
  | 5 => ("java/lang/Throwable", "suppressedExceptions", "Ljava/util/List;", false)
  | 6 => ("java/lang/NullPointerException", "extendedMessageState", "I", false)
  | _ => ("java/lang/NullPointerException", "extendedMessage", "Ljava/lang/String;", false)
def tyJ10 : Nat → FieldType := fun k => match k with
  | 0 => .object "java/lang/Object"
  | 1 => .object "java/lang/String"
  | 2 => .object "java/lang/Throwable"
  | 3 => .array (.object "java/lang/StackTraceElement")
  | 4 => .int
  | 5 => .object "java/util/List"
  | 6 => .int
  | _ => .object "java/lang/String"
abbrev wsJ100 : List Cond := u_ws RJ10 TJ10 8
theorem nmJ10 : ∀ a, a < 8 → ∀ b, b < 8 → a ≠ b → (TJ10 a).2.1 ≠ (TJ10 b).2.1 := by decide +kernel
theorem tyJ10_ok : ∀ k, k < 8 → parseFieldDescriptor (TJ10 k).2.2.1 = some (tyJ10 k) := by decide +kernel
abbrev cJ10_init : ByteArray := prog_19_method_1_code
def yJ10_init : MethodName := ⟨RJ10, "<init>", "()V"⟩
theorem dJ10_init_0 : decode cJ10_init 0 = .ok (.aload_n 0, 1) := by decide +kernel
theorem dJ10_init_1 : decode cJ10_init 1 = .ok (.invokespecial 1, 3) := by decide +kernel
theorem dJ10_init_4 : decode cJ10_init 4 = .ok (.return_, 1) := by decide +kernel
theorem q85 : (Jvm.Cond.initialized "java/lang/NullPointerException") ∈ lw_all := lw_g (lw_at lw_m1 22 rfl) rfl
theorem q327 : (Jvm.Cond.selects "java/lang/NullPointerException" ({ cls := "java/lang/Throwable", name := "fillInStackTrace", desc := "()Ljava/lang/Throwable;" } : Jvm.MethodName) ({ cls := "java/lang/NullPointerException", name := "fillInStackTrace", desc := "()Ljava/lang/Throwable;" } : Jvm.MethodName)) ∈ lw_all := lw_g (lw_at lw_m2 24 rfl) rfl
theorem q328 : (Jvm.Cond.instanceMethod ({ cls := "java/lang/NullPointerException", name := "fillInStackTrace", desc := "()Ljava/lang/Throwable;" } : Jvm.MethodName)) ∈ lw_all := lw_g (lw_at lw_m2 25 rfl) rfl
theorem q329 : (Jvm.Cond.codeSync ({ cls := "java/lang/NullPointerException", name := "fillInStackTrace", desc := "()Ljava/lang/Throwable;" } : Jvm.MethodName) prog_19_method_3_code (1 : Nat) (Option.some (Jvm.ClassFile.FieldType.object "java/lang/Throwable"))) ∈ lw_all := lw_g (lw_at lw_m2 26 rfl) rfl
theorem q330 : (Jvm.Cond.methodLink "java/lang/NullPointerException" (16 : Nat) ({ cls := "java/lang/NullPointerException", name := "getExtendedNPEMessage", desc := "()Ljava/lang/String;" } : Jvm.MethodName)) ∈ lw_all := lw_g (lw_at lw_m2 27 rfl) rfl
theorem q331 : (Jvm.Cond.privateMethod ({ cls := "java/lang/NullPointerException", name := "getExtendedNPEMessage", desc := "()Ljava/lang/String;" } : Jvm.MethodName)) ∈ lw_tbl := lw_at lw_m2 28 rfl
theorem q332 : (Jvm.Cond.instanceMethod ({ cls := "java/lang/NullPointerException", name := "getExtendedNPEMessage", desc := "()Ljava/lang/String;" } : Jvm.MethodName)) ∈ lw_all := lw_g (lw_at lw_m2 29 rfl) rfl
theorem q333 : (Jvm.Cond.instantiable "java/lang/NullPointerException" (8 : Nat)) ∈ lw_all := lw_g (lw_at lw_m2 30 rfl) rfl
theorem q334 : (Jvm.Cond.native ({ cls := "java/lang/NullPointerException", name := "getExtendedNPEMessage", desc := "()Ljava/lang/String;" } : Jvm.MethodName)) ∈ lw_all := lw_g (lw_at lw_m2 31 rfl) rfl
theorem q335 : (Jvm.Cond.methodLink "java/lang/NullPointerException" (24 : Nat) ({ cls := "java/lang/RuntimeException", name := "fillInStackTrace", desc := "()Ljava/lang/Throwable;" } : Jvm.MethodName)) ∈ lw_all := lw_g (lw_at lw_m2 32 rfl) rfl
theorem q338 : (Jvm.Cond.superclass "java/lang/NullPointerException" "java/lang/RuntimeException") ∈ lw_all := lw_g (lw_at lw_m2 35 rfl) rfl
theorem q845 : (Jvm.Cond.instanceMethod ({ cls := "java/lang/NullPointerException", name := "<init>", desc := "()V" } : Jvm.MethodName)) ∈ lw_all := lw_g (lw_at lw_m4 62 rfl) rfl
theorem q846 : (Jvm.Cond.code ({ cls := "java/lang/NullPointerException", name := "<init>", desc := "()V" } : Jvm.MethodName) prog_19_method_1_code (1 : Nat) (Option.none : Option Jvm.ClassFile.FieldType)) ∈ lw_all := lw_g (lw_at lw_m4 63 rfl) rfl
theorem q847 : (Jvm.Cond.methodLink "java/lang/NullPointerException" (1 : Nat) ({ cls := "java/lang/RuntimeException", name := "<init>", desc := "()V" } : Jvm.MethodName)) ∈ lw_all := lw_g (lw_at lw_m4 64 rfl) rfl
theorem q854 : (Jvm.Cond.fieldLink "java/lang/NullPointerException" (10 : Nat) "java/lang/NullPointerException" "extendedMessageState" "I") ∈ lw_all := lw_g (lw_at lw_m4 71 rfl) rfl
theorem q855 : (Jvm.Cond.fieldLink "java/lang/NullPointerException" (20 : Nat) "java/lang/NullPointerException" "extendedMessage" "Ljava/lang/String;") ∈ lw_all := lw_g (lw_at lw_m4 72 rfl) rfl
theorem q856 : (Jvm.Cond.lays "java/lang/NullPointerException" "java/lang/NullPointerException" "extendedMessageState" "I") ∈ lw_all := lw_g (lw_at lw_m4 73 rfl) rfl
theorem q857 : (Jvm.Cond.soleField "java/lang/NullPointerException" "extendedMessageState") ∈ lw_all := lw_g (lw_at lw_m4 74 rfl) rfl
theorem q858 : (Jvm.Cond.lays "java/lang/NullPointerException" "java/lang/NullPointerException" "extendedMessage" "Ljava/lang/String;") ∈ lw_all := lw_g (lw_at lw_m4 75 rfl) rfl
theorem q859 : (Jvm.Cond.soleField "java/lang/NullPointerException" "extendedMessage") ∈ lw_all := lw_g (lw_at lw_m4 76 rfl) rfl
theorem q860 : (Jvm.Cond.lays "java/lang/NullPointerException" "java/lang/Throwable" "backtrace" "Ljava/lang/Object;") ∈ lw_all := lw_g (lw_at lw_m4 77 rfl) rfl
theorem q861 : (Jvm.Cond.lays "java/lang/NullPointerException" "java/lang/Throwable" "detailMessage" "Ljava/lang/String;") ∈ lw_all := lw_g (lw_at lw_m4 78 rfl) rfl
theorem q862 : (Jvm.Cond.lays "java/lang/NullPointerException" "java/lang/Throwable" "cause" "Ljava/lang/Throwable;") ∈ lw_all := lw_g (lw_at lw_m4 79 rfl) rfl
theorem q863 : (Jvm.Cond.lays "java/lang/NullPointerException" "java/lang/Throwable" "stackTrace" "[Ljava/lang/StackTraceElement;") ∈ lw_all := lw_g (lw_at lw_m4 80 rfl) rfl
theorem q864 : (Jvm.Cond.lays "java/lang/NullPointerException" "java/lang/Throwable" "depth" "I") ∈ lw_all := lw_g (lw_at lw_m4 81 rfl) rfl
theorem q865 : (Jvm.Cond.lays "java/lang/NullPointerException" "java/lang/Throwable" "suppressedExceptions" "Ljava/util/List;") ∈ lw_all := lw_g (lw_at lw_m4 82 rfl) rfl
theorem q866 : (Jvm.Cond.castable "java/lang/NullPointerException" "java/lang/NullPointerException") ∈ lw_tbl := lw_at lw_m4 83 rfl
theorem q867 : (Jvm.Cond.selects "java/lang/NullPointerException" ({ cls := "java/lang/Throwable", name := "fillInStackTrace", desc := "(I)Ljava/lang/Throwable;" } : Jvm.MethodName) ({ cls := "java/lang/Throwable", name := "fillInStackTrace", desc := "(I)Ljava/lang/Throwable;" } : Jvm.MethodName)) ∈ lw_all := lw_g (lw_at lw_m4 84 rfl) rfl
theorem in_J10 : ∀ w ∈ wsJ100, w ∈ lw_all := lw_in wsJ100 [860, 861, 862, 863, 864, 865, 856, 858] (by decide +kernel) (by decide +kernel)

/-! java/lang/IndexOutOfBoundsException -/
set_option maxRecDepth 100000
def RJ11 : String := "java/lang/IndexOutOfBoundsException"
abbrev cJ11_init : ByteArray := prog_15_method_2_code
def yJ11_init : MethodName := ⟨RJ11, "<init>", "(Ljava/lang/String;)V"⟩
def dkwJ11_init_0 : List UInt8 := [42, 43, 183, 0, 7, 177]
abbrev dktJ11_init_0 : List UInt8 := dkwJ11_init_0 ++ []
theorem dksJ11_init_0 : cJ11_init.data.toList.drop 0 = dktJ11_init_0 := by decide +kernel
theorem dJ11_init_0 : decode cJ11_init 0 = .ok (.aload_n 0, 1) := dk_42 (dk_at dksJ11_init_0 0 rfl rfl)
theorem dJ11_init_1 : decode cJ11_init 1 = .ok (.aload_n 1, 1) := dk_43 (dk_at dksJ11_init_0 1 rfl rfl)
theorem dJ11_init_2 : decode cJ11_init 2 = .ok (.invokespecial 7, 3) := dk_183 0 7 (dk_at dksJ11_init_0 2 rfl rfl)
theorem dJ11_init_5 : decode cJ11_init 5 = .ok (.return_, 1) := dk_177 (dk_at dksJ11_init_0 5 rfl rfl)
theorem q86 : (Jvm.Cond.initialized "java/lang/IndexOutOfBoundsException") ∈ lw_all := lw_g (lw_at lw_m1 23 rfl) rfl
theorem q874 : (Jvm.Cond.instanceMethod ({ cls := "java/lang/IndexOutOfBoundsException", name := "<init>", desc := "(Ljava/lang/String;)V" } : Jvm.MethodName)) ∈ lw_all := lw_g (lw_at lw_m4 91 rfl) rfl
theorem q875 : (Jvm.Cond.code ({ cls := "java/lang/IndexOutOfBoundsException", name := "<init>", desc := "(Ljava/lang/String;)V" } : Jvm.MethodName) prog_15_method_2_code (2 : Nat) (Option.none : Option Jvm.ClassFile.FieldType)) ∈ lw_all := lw_g (lw_at lw_m4 92 rfl) rfl
theorem q876 : (Jvm.Cond.methodLink "java/lang/IndexOutOfBoundsException" (7 : Nat) ({ cls := "java/lang/RuntimeException", name := "<init>", desc := "(Ljava/lang/String;)V" } : Jvm.MethodName)) ∈ lw_all := lw_g (lw_at lw_m4 93 rfl) rfl
theorem q885 : (Jvm.Cond.declares ({ cls := "java/lang/IndexOutOfBoundsException", name := "<init>", desc := "()V" } : Jvm.MethodName)) ∈ lw_tbl := lw_at lw_m4 102 rfl
theorem q886 : (Jvm.Cond.declares ({ cls := "java/lang/IndexOutOfBoundsException", name := "<init>", desc := "(Ljava/lang/String;)V" } : Jvm.MethodName)) ∈ lw_tbl := lw_at lw_m4 103 rfl

/-! java/lang/ArrayIndexOutOfBoundsException -/
set_option maxRecDepth 100000
def RJ12 : String := "java/lang/ArrayIndexOutOfBoundsException"
def TJ12 : u_T := fun k => match k with
  | 0 => ("java/lang/Throwable", "backtrace", "Ljava/lang/Object;", false)
  | 1 => ("java/lang/Throwable", "detailMessage", "Ljava/lang/String;", false)
  | 2 => ("java/lang/Throwable", "cause", "Ljava/lang/Throwable;", false)
  | 3 => ("java/lang/Throwable", "stackTrace", "[Ljava/lang/StackTraceElement;", false)
  | 4 => ("java/lang/Throwable", "depth", "I", false)
  | _ => ("java/lang/Throwable", "suppressedExceptions", "Ljava/util/List;", false)
def tyJ12 : Nat → FieldType := fun k => match k with
  | 0 => .object "java/lang/Object"
  | 1 => .object "java/lang/String"
  | 2 => .object "java/lang/Throwable"
  | 3 => .array (.object "java/lang/StackTraceElement")
  | 4 => .int
  | _ => .object "java/util/List"
abbrev wsJ120 : List Cond := u_ws RJ12 TJ12 6
theorem nmJ12 : ∀ a, a < 6 → ∀ b, b < 6 → a ≠ b → (TJ12 a).2.1 ≠ (TJ12 b).2.1 := by decide +kernel
theorem tyJ12_ok : ∀ k, k < 6 → parseFieldDescriptor (TJ12 k).2.2.1 = some (tyJ12 k) := by decide +kernel
abbrev cJ12_init : ByteArray := prog_12_method_2_code
def yJ12_init : MethodName := ⟨RJ12, "<init>", "(Ljava/lang/String;)V"⟩
def dkwJ12_init_0 : List UInt8 := [42, 43, 183, 0, 7, 177]
abbrev dktJ12_init_0 : List UInt8 := dkwJ12_init_0 ++ []
theorem dksJ12_init_0 : cJ12_init.data.toList.drop 0 = dktJ12_init_0 := by decide +kernel
theorem dJ12_init_0 : decode cJ12_init 0 = .ok (.aload_n 0, 1) := dk_42 (dk_at dksJ12_init_0 0 rfl rfl)
theorem dJ12_init_1 : decode cJ12_init 1 = .ok (.aload_n 1, 1) := dk_43 (dk_at dksJ12_init_0 1 rfl rfl)
theorem dJ12_init_2 : decode cJ12_init 2 = .ok (.invokespecial 7, 3) := dk_183 0 7 (dk_at dksJ12_init_0 2 rfl rfl)
theorem dJ12_init_5 : decode cJ12_init 5 = .ok (.return_, 1) := dk_177 (dk_at dksJ12_init_0 5 rfl rfl)
theorem q87 : (Jvm.Cond.initialized "java/lang/ArrayIndexOutOfBoundsException") ∈ lw_all := lw_g (lw_at lw_m1 24 rfl) rfl
theorem q324 : (Jvm.Cond.selects "java/lang/ArrayIndexOutOfBoundsException" ({ cls := "java/lang/Throwable", name := "fillInStackTrace", desc := "()Ljava/lang/Throwable;" } : Jvm.MethodName) ({ cls := "java/lang/Throwable", name := "fillInStackTrace", desc := "()Ljava/lang/Throwable;" } : Jvm.MethodName)) ∈ lw_all := lw_g (lw_at lw_m2 21 rfl) rfl
theorem q870 : (Jvm.Cond.instantiable "java/lang/ArrayIndexOutOfBoundsException" (6 : Nat)) ∈ lw_all := lw_g (lw_at lw_m4 87 rfl) rfl
theorem q871 : (Jvm.Cond.instanceMethod ({ cls := "java/lang/ArrayIndexOutOfBoundsException", name := "<init>", desc := "(Ljava/lang/String;)V" } : Jvm.MethodName)) ∈ lw_all := lw_g (lw_at lw_m4 88 rfl) rfl
theorem q872 : (Jvm.Cond.code ({ cls := "java/lang/ArrayIndexOutOfBoundsException", name := "<init>", desc := "(Ljava/lang/String;)V" } : Jvm.MethodName) prog_12_method_2_code (2 : Nat) (Option.none : Option Jvm.ClassFile.FieldType)) ∈ lw_all := lw_g (lw_at lw_m4 89 rfl) rfl
theorem q873 : (Jvm.Cond.methodLink "java/lang/ArrayIndexOutOfBoundsException" (7 : Nat) ({ cls := "java/lang/IndexOutOfBoundsException", name := "<init>", desc := "(Ljava/lang/String;)V" } : Jvm.MethodName)) ∈ lw_all := lw_g (lw_at lw_m4 90 rfl) rfl
theorem q877 : (Jvm.Cond.lays "java/lang/ArrayIndexOutOfBoundsException" "java/lang/Throwable" "backtrace" "Ljava/lang/Object;") ∈ lw_all := lw_g (lw_at lw_m4 94 rfl) rfl
theorem q878 : (Jvm.Cond.lays "java/lang/ArrayIndexOutOfBoundsException" "java/lang/Throwable" "detailMessage" "Ljava/lang/String;") ∈ lw_all := lw_g (lw_at lw_m4 95 rfl) rfl
theorem q879 : (Jvm.Cond.lays "java/lang/ArrayIndexOutOfBoundsException" "java/lang/Throwable" "cause" "Ljava/lang/Throwable;") ∈ lw_all := lw_g (lw_at lw_m4 96 rfl) rfl
theorem q880 : (Jvm.Cond.lays "java/lang/ArrayIndexOutOfBoundsException" "java/lang/Throwable" "stackTrace" "[Ljava/lang/StackTraceElement;") ∈ lw_all := lw_g (lw_at lw_m4 97 rfl) rfl
theorem q881 : (Jvm.Cond.lays "java/lang/ArrayIndexOutOfBoundsException" "java/lang/Throwable" "depth" "I") ∈ lw_all := lw_g (lw_at lw_m4 98 rfl) rfl
theorem q882 : (Jvm.Cond.lays "java/lang/ArrayIndexOutOfBoundsException" "java/lang/Throwable" "suppressedExceptions" "Ljava/util/List;") ∈ lw_all := lw_g (lw_at lw_m4 99 rfl) rfl
theorem q883 : (Jvm.Cond.superclass "java/lang/ArrayIndexOutOfBoundsException" "java/lang/IndexOutOfBoundsException") ∈ lw_all := lw_g (lw_at lw_m4 100 rfl) rfl
theorem q884 : (Jvm.Cond.castable "java/lang/ArrayIndexOutOfBoundsException" "java/lang/ArrayIndexOutOfBoundsException") ∈ lw_tbl := lw_at lw_m4 101 rfl
theorem q887 : (Jvm.Cond.selects "java/lang/ArrayIndexOutOfBoundsException" ({ cls := "java/lang/Throwable", name := "fillInStackTrace", desc := "(I)Ljava/lang/Throwable;" } : Jvm.MethodName) ({ cls := "java/lang/Throwable", name := "fillInStackTrace", desc := "(I)Ljava/lang/Throwable;" } : Jvm.MethodName)) ∈ lw_all := lw_g (lw_at lw_m4 104 rfl) rfl
theorem q1337 : (Jvm.Cond.castable "java/lang/ArrayIndexOutOfBoundsException" "java/lang/IndexOutOfBoundsException") ∈ lw_tbl := lw_at lw_m6 74 rfl
theorem in_J12 : ∀ w ∈ wsJ120, w ∈ lw_all := lw_in wsJ120 [877, 878, 879, 880, 881, 882] (by decide +kernel) (by decide +kernel)

/-! java/lang/ClassCastException -/
set_option maxRecDepth 100000
def RJ13 : String := "java/lang/ClassCastException"
def TJ13 : u_T := fun k => match k with
  | 0 => ("java/lang/Throwable", "backtrace", "Ljava/lang/Object;", false)
  | 1 => ("java/lang/Throwable", "detailMessage", "Ljava/lang/String;", false)
  | 2 => ("java/lang/Throwable", "cause", "Ljava/lang/Throwable;", false)
  | 3 => ("java/lang/Throwable", "stackTrace", "[Ljava/lang/StackTraceElement;", false)
  | 4 => ("java/lang/Throwable", "depth", "I", false)
  | _ => ("java/lang/Throwable", "suppressedExceptions", "Ljava/util/List;", false)
def tyJ13 : Nat → FieldType := fun k => match k with
  | 0 => .object "java/lang/Object"
  | 1 => .object "java/lang/String"
  | 2 => .object "java/lang/Throwable"
  | 3 => .array (.object "java/lang/StackTraceElement")
  | 4 => .int
  | _ => .object "java/util/List"
abbrev wsJ130 : List Cond := u_ws RJ13 TJ13 6
theorem nmJ13 : ∀ a, a < 6 → ∀ b, b < 6 → a ≠ b → (TJ13 a).2.1 ≠ (TJ13 b).2.1 := by decide +kernel
theorem tyJ13_ok : ∀ k, k < 6 → parseFieldDescriptor (TJ13 k).2.2.1 = some (tyJ13 k) := by decide +kernel
abbrev cJ13_init : ByteArray := prog_13_method_2_code
def yJ13_init : MethodName := ⟨RJ13, "<init>", "(Ljava/lang/String;)V"⟩
def dkwJ13_init_0 : List UInt8 := [42, 43, 183, 0, 7, 177]
abbrev dktJ13_init_0 : List UInt8 := dkwJ13_init_0 ++ []
theorem dksJ13_init_0 : cJ13_init.data.toList.drop 0 = dktJ13_init_0 := by decide +kernel
theorem dJ13_init_0 : decode cJ13_init 0 = .ok (.aload_n 0, 1) := dk_42 (dk_at dksJ13_init_0 0 rfl rfl)
theorem dJ13_init_1 : decode cJ13_init 1 = .ok (.aload_n 1, 1) := dk_43 (dk_at dksJ13_init_0 1 rfl rfl)
theorem dJ13_init_2 : decode cJ13_init 2 = .ok (.invokespecial 7, 3) := dk_183 0 7 (dk_at dksJ13_init_0 2 rfl rfl)
theorem dJ13_init_5 : decode cJ13_init 5 = .ok (.return_, 1) := dk_177 (dk_at dksJ13_init_0 5 rfl rfl)
theorem q88 : (Jvm.Cond.initialized "java/lang/ClassCastException") ∈ lw_all := lw_g (lw_at lw_m1 25 rfl) rfl
theorem q325 : (Jvm.Cond.selects "java/lang/ClassCastException" ({ cls := "java/lang/Throwable", name := "fillInStackTrace", desc := "()Ljava/lang/Throwable;" } : Jvm.MethodName) ({ cls := "java/lang/Throwable", name := "fillInStackTrace", desc := "()Ljava/lang/Throwable;" } : Jvm.MethodName)) ∈ lw_all := lw_g (lw_at lw_m2 22 rfl) rfl
theorem q896 : (Jvm.Cond.instantiable "java/lang/ClassCastException" (6 : Nat)) ∈ lw_all := lw_g (lw_at lw_m4 113 rfl) rfl
theorem q897 : (Jvm.Cond.instanceMethod ({ cls := "java/lang/ClassCastException", name := "<init>", desc := "(Ljava/lang/String;)V" } : Jvm.MethodName)) ∈ lw_all := lw_g (lw_at lw_m4 114 rfl) rfl
theorem q898 : (Jvm.Cond.code ({ cls := "java/lang/ClassCastException", name := "<init>", desc := "(Ljava/lang/String;)V" } : Jvm.MethodName) prog_13_method_2_code (2 : Nat) (Option.none : Option Jvm.ClassFile.FieldType)) ∈ lw_all := lw_g (lw_at lw_m4 115 rfl) rfl
theorem q899 : (Jvm.Cond.methodLink "java/lang/ClassCastException" (7 : Nat) ({ cls := "java/lang/RuntimeException", name := "<init>", desc := "(Ljava/lang/String;)V" } : Jvm.MethodName)) ∈ lw_all := lw_g (lw_at lw_m4 116 rfl) rfl
theorem q900 : (Jvm.Cond.lays "java/lang/ClassCastException" "java/lang/Throwable" "backtrace" "Ljava/lang/Object;") ∈ lw_all := lw_g (lw_at lw_m4 117 rfl) rfl
theorem q901 : (Jvm.Cond.lays "java/lang/ClassCastException" "java/lang/Throwable" "detailMessage" "Ljava/lang/String;") ∈ lw_all := lw_g (lw_at lw_m4 118 rfl) rfl
theorem q902 : (Jvm.Cond.lays "java/lang/ClassCastException" "java/lang/Throwable" "cause" "Ljava/lang/Throwable;") ∈ lw_all := lw_g (lw_at lw_m4 119 rfl) rfl
theorem q903 : (Jvm.Cond.lays "java/lang/ClassCastException" "java/lang/Throwable" "stackTrace" "[Ljava/lang/StackTraceElement;") ∈ lw_all := lw_g (lw_at lw_m4 120 rfl) rfl
theorem q904 : (Jvm.Cond.lays "java/lang/ClassCastException" "java/lang/Throwable" "depth" "I") ∈ lw_all := lw_g (lw_at lw_m4 121 rfl) rfl
theorem q905 : (Jvm.Cond.lays "java/lang/ClassCastException" "java/lang/Throwable" "suppressedExceptions" "Ljava/util/List;") ∈ lw_all := lw_g (lw_at lw_m4 122 rfl) rfl
theorem q906 : (Jvm.Cond.superclass "java/lang/ClassCastException" "java/lang/RuntimeException") ∈ lw_all := lw_g (lw_at lw_m4 123 rfl) rfl
theorem q907 : (Jvm.Cond.castable "java/lang/ClassCastException" "java/lang/ClassCastException") ∈ lw_tbl := lw_at lw_m4 124 rfl
theorem q908 : (Jvm.Cond.selects "java/lang/ClassCastException" ({ cls := "java/lang/Throwable", name := "fillInStackTrace", desc := "(I)Ljava/lang/Throwable;" } : Jvm.MethodName) ({ cls := "java/lang/Throwable", name := "fillInStackTrace", desc := "(I)Ljava/lang/Throwable;" } : Jvm.MethodName)) ∈ lw_all := lw_g (lw_at lw_m4 125 rfl) rfl
theorem in_J13 : ∀ w ∈ wsJ130, w ∈ lw_all := lw_in wsJ130 [900, 901, 902, 903, 904, 905] (by decide +kernel) (by decide +kernel)

/-! ClockWard$Fault -/
set_option maxRecDepth 100000
def RX9 : String := "ClockWard$Fault"
def TX9 : u_T := fun k => match k with
  | 0 => ("java/lang/Throwable", "cause", "Ljava/lang/Throwable;", false)
  | 1 => ("java/lang/Throwable", "stackTrace", "[Ljava/lang/StackTraceElement;", false)
  | 2 => ("java/lang/Throwable", "suppressedExceptions", "Ljava/util/List;", false)
  | 3 => ("java/lang/Throwable", "detailMessage", "Ljava/lang/String;", false)
  | 4 => ("java/lang/Throwable", "backtrace", "Ljava/lang/Object;", false)
  | 5 => ("java/lang/Throwable", "depth", "I", false)
  | 6 => ("ClockWard$Fault", "code", "I", true)
  | _ => ("ClockWard$Fault", "place", "I", true)
def tyX9 : Nat → FieldType := fun k => match k with
  | 0 => .object "java/lang/Throwable"
  | 1 => .array (.object "java/lang/StackTraceElement")
  | 2 => .object "java/util/List"
  | 3 => .object "java/lang/String"
  | 4 => .object "java/lang/Object"
  | 5 => .int
  | 6 => .int
  | _ => .int
abbrev wsX90 : List Cond := u_ws RX9 TX9 8
theorem nmX9 : ∀ a, a < 8 → ∀ b, b < 8 → a ≠ b → (TX9 a).2.1 ≠ (TX9 b).2.1 := by decide +kernel
theorem tyX9_ok : ∀ k, k < 8 → parseFieldDescriptor (TX9 k).2.2.1 = some (tyX9 k) := by decide +kernel
abbrev cX9_init : ByteArray := prog_4_method_1_code
def yX9_init : MethodName := ⟨RX9, "<init>", "(II)V"⟩
def dkwX9_init_0 : List UInt8 := [42, 1, 1, 3, 3, 183, 0, 1, 42, 27, 181, 0, 7, 42, 28, 181, 0, 13, 177]
abbrev dktX9_init_0 : List UInt8 := dkwX9_init_0 ++ []
theorem dksX9_init_0 : cX9_init.data.toList.drop 0 = dktX9_init_0 := by decide +kernel
theorem dX9_init_0 : decode cX9_init 0 = .ok (.aload_n 0, 1) := dk_42 (dk_at dksX9_init_0 0 rfl rfl)
theorem dX9_init_1 : decode cX9_init 1 = .ok (.aconst_null, 1) := dk_1 (dk_at dksX9_init_0 1 rfl rfl)
theorem dX9_init_2 : decode cX9_init 2 = .ok (.aconst_null, 1) := dk_1 (dk_at dksX9_init_0 2 rfl rfl)
theorem dX9_init_3 : decode cX9_init 3 = .ok (.iconst 0, 1) := dk_3 (dk_at dksX9_init_0 3 rfl rfl)
theorem dX9_init_4 : decode cX9_init 4 = .ok (.iconst 0, 1) := dk_3 (dk_at dksX9_init_0 4 rfl rfl)
theorem dX9_init_5 : decode cX9_init 5 = .ok (.invokespecial 1, 3) := dk_183 0 1 (dk_at dksX9_init_0 5 rfl rfl)
theorem dX9_init_8 : decode cX9_init 8 = .ok (.aload_n 0, 1) := dk_42 (dk_at dksX9_init_0 8 rfl rfl)
theorem dX9_init_9 : decode cX9_init 9 = .ok (.iload_n 1, 1) := dk_27 (dk_at dksX9_init_0 9 rfl rfl)
theorem dX9_init_10 : decode cX9_init 10 = .ok (.putfield 7, 3) := dk_181 0 7 (dk_at dksX9_init_0 10 rfl rfl)
theorem dX9_init_13 : decode cX9_init 13 = .ok (.aload_n 0, 1) := dk_42 (dk_at dksX9_init_0 13 rfl rfl)
theorem dX9_init_14 : decode cX9_init 14 = .ok (.iload_n 2, 1) := dk_28 (dk_at dksX9_init_0 14 rfl rfl)
theorem dX9_init_15 : decode cX9_init 15 = .ok (.putfield 13, 3) := dk_181 0 13 (dk_at dksX9_init_0 15 rfl rfl)
theorem dX9_init_18 : decode cX9_init 18 = .ok (.return_, 1) := dk_177 (dk_at dksX9_init_0 18 rfl rfl)
theorem q75 : (Jvm.Cond.initialized "ClockWard$Fault") ∈ lw_all := lw_g (lw_at lw_m1 12 rfl) rfl
theorem q294 : (Jvm.Cond.instantiable "ClockWard$Fault" (8 : Nat)) ∈ lw_all := lw_g (lw_at lw_m1 231 rfl) rfl
theorem q295 : (Jvm.Cond.castable "ClockWard$Fault" "ClockWard$Fault") ∈ lw_tbl := lw_at lw_m1 232 rfl
theorem q300 : (Jvm.Cond.selects "ClockWard$Fault" ({ cls := "java/lang/Throwable", name := "fillInStackTrace", desc := "(I)Ljava/lang/Throwable;" } : Jvm.MethodName) ({ cls := "java/lang/Throwable", name := "fillInStackTrace", desc := "(I)Ljava/lang/Throwable;" } : Jvm.MethodName)) ∈ lw_all := lw_g (lw_at lw_m1 237 rfl) rfl
theorem q301 : (Jvm.Cond.selects "ClockWard$Fault" ({ cls := "java/lang/Throwable", name := "fillInStackTrace", desc := "()Ljava/lang/Throwable;" } : Jvm.MethodName) ({ cls := "java/lang/Throwable", name := "fillInStackTrace", desc := "()Ljava/lang/Throwable;" } : Jvm.MethodName)) ∈ lw_all := lw_g (lw_at lw_m1 238 rfl) rfl
theorem q302 : (Jvm.Cond.lays "ClockWard$Fault" "java/lang/Throwable" "cause" "Ljava/lang/Throwable;") ∈ lw_all := lw_g (lw_at lw_m1 239 rfl) rfl
theorem q304 : (Jvm.Cond.lays "ClockWard$Fault" "java/lang/Throwable" "stackTrace" "[Ljava/lang/StackTraceElement;") ∈ lw_all := lw_g (lw_at lw_m2 1 rfl) rfl
theorem q306 : (Jvm.Cond.lays "ClockWard$Fault" "java/lang/Throwable" "suppressedExceptions" "Ljava/util/List;") ∈ lw_all := lw_g (lw_at lw_m2 3 rfl) rfl
theorem q308 : (Jvm.Cond.lays "ClockWard$Fault" "java/lang/Throwable" "detailMessage" "Ljava/lang/String;") ∈ lw_all := lw_g (lw_at lw_m2 5 rfl) rfl
theorem q310 : (Jvm.Cond.lays "ClockWard$Fault" "java/lang/Throwable" "backtrace" "Ljava/lang/Object;") ∈ lw_all := lw_g (lw_at lw_m2 7 rfl) rfl
theorem q348 : (Jvm.Cond.instanceMethod ({ cls := "ClockWard$Fault", name := "<init>", desc := "(II)V" } : Jvm.MethodName)) ∈ lw_all := lw_g (lw_at lw_m2 45 rfl) rfl
theorem q349 : (Jvm.Cond.code ({ cls := "ClockWard$Fault", name := "<init>", desc := "(II)V" } : Jvm.MethodName) prog_4_method_1_code (3 : Nat) (Option.none : Option Jvm.ClassFile.FieldType)) ∈ lw_all := lw_g (lw_at lw_m2 46 rfl) rfl
theorem q350 : (Jvm.Cond.methodLink "ClockWard$Fault" (1 : Nat) ({ cls := "java/lang/Exception", name := "<init>", desc := "(Ljava/lang/String;Ljava/lang/Throwable;ZZ)V" } : Jvm.MethodName)) ∈ lw_all := lw_g (lw_at lw_m2 47 rfl) rfl
theorem q356 : (Jvm.Cond.fieldLink "ClockWard$Fault" (7 : Nat) "ClockWard$Fault" "code" "I") ∈ lw_all := lw_g (lw_at lw_m2 53 rfl) rfl
theorem q358 : (Jvm.Cond.fieldLink "ClockWard$Fault" (13 : Nat) "ClockWard$Fault" "place" "I") ∈ lw_all := lw_g (lw_at lw_m2 55 rfl) rfl
theorem q365 : (Jvm.Cond.laysFinal "ClockWard$Fault" "ClockWard$Fault" "code" "I") ∈ lw_all := lw_g (lw_at lw_m2 62 rfl) rfl
theorem q366 : (Jvm.Cond.soleField "ClockWard$Fault" "code") ∈ lw_all := lw_g (lw_at lw_m2 63 rfl) rfl
theorem q367 : (Jvm.Cond.laysFinal "ClockWard$Fault" "ClockWard$Fault" "place" "I") ∈ lw_all := lw_g (lw_at lw_m2 64 rfl) rfl
theorem q368 : (Jvm.Cond.soleField "ClockWard$Fault" "place") ∈ lw_all := lw_g (lw_at lw_m2 65 rfl) rfl
theorem q373 : (Jvm.Cond.lays "ClockWard$Fault" "java/lang/Throwable" "depth" "I") ∈ lw_all := lw_g (lw_at lw_m2 70 rfl) rfl
theorem q376 : (Jvm.Cond.superclass "ClockWard$Fault" "java/lang/Exception") ∈ lw_all := lw_g (lw_at lw_m2 73 rfl) rfl
theorem in_X9 : ∀ w ∈ wsX90, w ∈ lw_all := lw_in wsX90 [302, 304, 306, 308, 310, 373, 365, 367] (by decide +kernel) (by decide +kernel)

/-! ClockWard$Reader -/
set_option maxRecDepth 100000
def RX8 : String := "ClockWard$Reader"
def TX8 : u_T := fun k => match k with
  | 0 => ("ClockWard$Reader", "size", "I", true)
  | 1 => ("ClockWard$Reader", "made", "LClockWard$Ward;", true)
  | 2 => ("ClockWard$Reader", "hasFloor", "Z", false)
  | 3 => ("ClockWard$Reader", "highest", "I", false)
  | 4 => ("ClockWard$Reader", "at", "I", false)
  | 5 => ("ClockWard$Reader", "from", "I", false)
  | 6 => ("ClockWard$Reader", "sort", "I", false)
  | 7 => ("ClockWard$Reader", "value", "I", false)
  | _ => ("ClockWard$Reader", "this$0", "LClockWard;", true)
def tyX8 : Nat → FieldType := fun k => match k with
  | 0 => .int
  | 1 => .object "ClockWard$Ward"
  | 2 => .boolean
  | 3 => .int
  | 4 => .int
  | 5 => .int
  | 6 => .int
  | 7 => .int
  | _ => .object "ClockWard"
abbrev wsX80 : List Cond := u_ws RX8 TX8 9
theorem nmX8 : ∀ a, a < 9 → ∀ b, b < 9 → a ≠ b → (TX8 a).2.1 ≠ (TX8 b).2.1 := by decide +kernel
theorem tyX8_ok : ∀ k, k < 9 → parseFieldDescriptor (TX8 k).2.2.1 = some (tyX8 k) := by decide +kernel
abbrev cX8_init : ByteArray := prog_6_method_1_code
def yX8_init : MethodName := ⟨RX8, "<init>", "(LClockWard;I)V"⟩
def dkwX8_init_1 : List UInt8 := [181, 0, 22, 42, 28, 181, 0, 26, 42, 182, 0, 29, 177]
abbrev dktX8_init_1 : List UInt8 := dkwX8_init_1 ++ []
def dkwX8_init_0 : List UInt8 := [42, 43, 181, 0, 3, 42, 183, 0, 9, 42, 187, 0, 15, 89, 183, 0, 17, 181, 0, 18, 42, 16, 252]
abbrev dktX8_init_0 : List UInt8 := dkwX8_init_0 ++ dktX8_init_1
theorem dksX8_init_0 : cX8_init.data.toList.drop 0 = dktX8_init_0 := by decide +kernel
theorem dksX8_init_1 : cX8_init.data.toList.drop 23 = dktX8_init_1 := dk_seg dksX8_init_0 23 rfl rfl
theorem dX8_init_0 : decode cX8_init 0 = .ok (.aload_n 0, 1) := dk_42 (dk_at dksX8_init_0 0 rfl rfl)
theorem dX8_init_1 : decode cX8_init 1 = .ok (.aload_n 1, 1) := dk_43 (dk_at dksX8_init_0 1 rfl rfl)
theorem dX8_init_2 : decode cX8_init 2 = .ok (.putfield 3, 3) := dk_181 0 3 (dk_at dksX8_init_0 2 rfl rfl)
theorem dX8_init_5 : decode cX8_init 5 = .ok (.aload_n 0, 1) := dk_42 (dk_at dksX8_init_0 5 rfl rfl)
theorem dX8_init_6 : decode cX8_init 6 = .ok (.invokespecial 9, 3) := dk_183 0 9 (dk_at dksX8_init_0 6 rfl rfl)
theorem dX8_init_9 : decode cX8_init 9 = .ok (.aload_n 0, 1) := dk_42 (dk_at dksX8_init_0 9 rfl rfl)
theorem dX8_init_10 : decode cX8_init 10 = .ok (.new 15, 3) := dk_187 0 15 (dk_at dksX8_init_0 10 rfl rfl)
theorem dX8_init_13 : decode cX8_init 13 = .ok (.dup, 1) := dk_89 (dk_at dksX8_init_0 13 rfl rfl)
theorem dX8_init_14 : decode cX8_init 14 = .ok (.invokespecial 17, 3) := dk_183 0 17 (dk_at dksX8_init_0 14 rfl rfl)
theorem dX8_init_17 : decode cX8_init 17 = .ok (.putfield 18, 3) := dk_181 0 18 (dk_at dksX8_init_0 17 rfl rfl)
theorem dX8_init_20 : decode cX8_init 20 = .ok (.aload_n 0, 1) := dk_42 (dk_at dksX8_init_0 20 rfl rfl)
theorem dX8_init_21 : decode cX8_init 21 = .ok (.bipush (-4), 2) := dk_16 252 (dk_at dksX8_init_0 21 rfl rfl)
theorem dX8_init_23 : decode cX8_init 23 = .ok (.putfield 22, 3) := dk_181 0 22 (dk_at dksX8_init_1 0 rfl rfl)
theorem dX8_init_26 : decode cX8_init 26 = .ok (.aload_n 0, 1) := dk_42 (dk_at dksX8_init_1 3 rfl rfl)
theorem dX8_init_27 : decode cX8_init 27 = .ok (.iload_n 2, 1) := dk_28 (dk_at dksX8_init_1 4 rfl rfl)
theorem dX8_init_28 : decode cX8_init 28 = .ok (.putfield 26, 3) := dk_181 0 26 (dk_at dksX8_init_1 5 rfl rfl)
theorem dX8_init_31 : decode cX8_init 31 = .ok (.aload_n 0, 1) := dk_42 (dk_at dksX8_init_1 8 rfl rfl)
theorem dX8_init_32 : decode cX8_init 32 = .ok (.invokevirtual 29, 3) := dk_182 0 29 (dk_at dksX8_init_1 9 rfl rfl)
theorem dX8_init_35 : decode cX8_init 35 = .ok (.return_, 1) := dk_177 (dk_at dksX8_init_1 12 rfl rfl)
abbrev cX8_next : ByteArray := prog_6_method_6_code
def yX8_next : MethodName := ⟨RX8, "next", "()V"⟩
def dkwX8_next_10 : List UInt8 := [181, 0, 32, 177]
abbrev dktX8_next_10 : List UInt8 := dkwX8_next_10 ++ []
def dkwX8_next_9 : List UInt8 := [181, 0, 63, 42, 42, 16, 59, 16, 59, 182, 0, 76, 4, 182, 0, 83, 42, 89, 180, 0, 32, 4, 96]
abbrev dktX8_next_9 : List UInt8 := dkwX8_next_9 ++ dktX8_next_10
def dkwX8_next_8 : List UInt8 := [180, 0, 41, 100, 6, 162, 0, 7, 4, 167, 0, 4, 3, 4, 182, 0, 83, 167, 0, 31, 42, 6]
abbrev dktX8_next_8 : List UInt8 := dkwX8_next_8 ++ dktX8_next_9
def dkwX8_next_7 : List UInt8 := [181, 0, 80, 42, 89, 180, 0, 32, 4, 96, 181, 0, 32, 167, 255, 188, 42, 42, 180, 0, 32, 42]
abbrev dktX8_next_7 : List UInt8 := dkwX8_next_7 ++ dktX8_next_8
def dkwX8_next_6 : List UInt8 := [42, 180, 0, 3, 180, 0, 35, 42, 180, 0, 32, 51, 96, 16, 48, 100, 167, 0, 7, 42, 180, 0, 80]
abbrev dktX8_next_6 : List UInt8 := dkwX8_next_6 ++ dktX8_next_7
def dkwX8_next_5 : List UInt8 := [153, 0, 63, 42, 42, 180, 0, 32, 42, 180, 0, 41, 100, 5, 162, 0, 29, 16, 10, 42, 180, 0, 80, 104]
abbrev dktX8_next_5 : List UInt8 := dkwX8_next_5 ++ dktX8_next_6
def dkwX8_next_4 : List UInt8 := [182, 0, 76, 153, 0, 110, 42, 5, 181, 0, 63, 42, 3, 181, 0, 80, 42, 16, 48, 16, 57, 182, 0, 76]
abbrev dktX8_next_4 : List UInt8 := dkwX8_next_4 ++ dktX8_next_5
def dkwX8_next_3 : List UInt8 := [182, 0, 76, 153, 0, 162, 42, 89, 180, 0, 32, 4, 96, 181, 0, 32, 167, 255, 235, 42, 16, 48, 16, 57]
abbrev dktX8_next_3 : List UInt8 := dkwX8_next_3 ++ dktX8_next_4
def dkwX8_next_2 : List UInt8 := [167, 0, 189, 42, 16, 97, 16, 122, 182, 0, 76, 153, 0, 32, 42, 4, 181, 0, 63, 42, 16, 97, 16, 122]
abbrev dktX8_next_2 : List UInt8 := dkwX8_next_2 ++ dktX8_next_3
def dkwX8_next_1 : List UInt8 := [42, 42, 180, 0, 32, 181, 0, 41, 42, 180, 0, 32, 42, 180, 0, 26, 160, 0, 11, 42, 3, 181, 0, 63]
abbrev dktX8_next_1 : List UInt8 := dkwX8_next_1 ++ dktX8_next_2
def dkwX8_next_0 : List UInt8 := [42, 16, 32, 16, 32, 182, 0, 76, 153, 0, 16, 42, 89, 180, 0, 32, 4, 96, 181, 0, 32, 167, 255, 235]
abbrev dktX8_next_0 : List UInt8 := dkwX8_next_0 ++ dktX8_next_1
theorem dksX8_next_0 : cX8_next.data.toList.drop 0 = dktX8_next_0 := by decide +kernel
theorem dksX8_next_1 : cX8_next.data.toList.drop 24 = dktX8_next_1 := dk_seg dksX8_next_0 24 rfl rfl
theorem dksX8_next_2 : cX8_next.data.toList.drop 48 = dktX8_next_2 := dk_seg dksX8_next_1 24 rfl rfl
theorem dksX8_next_3 : cX8_next.data.toList.drop 72 = dktX8_next_3 := dk_seg dksX8_next_2 24 rfl rfl
theorem dksX8_next_4 : cX8_next.data.toList.drop 96 = dktX8_next_4 := dk_seg dksX8_next_3 24 rfl rfl
theorem dksX8_next_5 : cX8_next.data.toList.drop 120 = dktX8_next_5 := dk_seg dksX8_next_4 24 rfl rfl
theorem dksX8_next_6 : cX8_next.data.toList.drop 144 = dktX8_next_6 := dk_seg dksX8_next_5 24 rfl rfl
theorem dksX8_next_7 : cX8_next.data.toList.drop 167 = dktX8_next_7 := dk_seg dksX8_next_6 23 rfl rfl
theorem dksX8_next_8 : cX8_next.data.toList.drop 189 = dktX8_next_8 := dk_seg dksX8_next_7 22 rfl rfl
theorem dksX8_next_9 : cX8_next.data.toList.drop 211 = dktX8_next_9 := dk_seg dksX8_next_8 22 rfl rfl
theorem dksX8_next_10 : cX8_next.data.toList.drop 234 = dktX8_next_10 := dk_seg dksX8_next_9 23 rfl rfl
theorem dX8_next_0 : decode cX8_next 0 = .ok (.aload_n 0, 1) := dk_42 (dk_at dksX8_next_0 0 rfl rfl)
theorem dX8_next_1 : decode cX8_next 1 = .ok (.bipush 32, 2) := dk_16 32 (dk_at dksX8_next_0 1 rfl rfl)
theorem dX8_next_3 : decode cX8_next 3 = .ok (.bipush 32, 2) := dk_16 32 (dk_at dksX8_next_0 3 rfl rfl)
theorem dX8_next_5 : decode cX8_next 5 = .ok (.invokevirtual 76, 3) := dk_182 0 76 (dk_at dksX8_next_0 5 rfl rfl)
theorem dX8_next_8 : decode cX8_next 8 = .ok (.ifCond .eq 16, 3) := dk_153 0 16 (dk_at dksX8_next_0 8 rfl rfl)
theorem dX8_next_11 : decode cX8_next 11 = .ok (.aload_n 0, 1) := dk_42 (dk_at dksX8_next_0 11 rfl rfl)
theorem dX8_next_12 : decode cX8_next 12 = .ok (.dup, 1) := dk_89 (dk_at dksX8_next_0 12 rfl rfl)
theorem dX8_next_13 : decode cX8_next 13 = .ok (.getfield 32, 3) := dk_180 0 32 (dk_at dksX8_next_0 13 rfl rfl)
theorem dX8_next_16 : decode cX8_next 16 = .ok (.iconst 1, 1) := dk_4 (dk_at dksX8_next_0 16 rfl rfl)
theorem dX8_next_17 : decode cX8_next 17 = .ok (.iadd, 1) := dk_96 (dk_at dksX8_next_0 17 rfl rfl)
theorem dX8_next_18 : decode cX8_next 18 = .ok (.putfield 32, 3) := dk_181 0 32 (dk_at dksX8_next_0 18 rfl rfl)
theorem dX8_next_21 : decode cX8_next 21 = .ok (.goto (-21), 3) := dk_167 255 235 (dk_at dksX8_next_0 21 rfl rfl)
theorem dX8_next_24 : decode cX8_next 24 = .ok (.aload_n 0, 1) := dk_42 (dk_at dksX8_next_1 0 rfl rfl)
theorem dX8_next_25 : decode cX8_next 25 = .ok (.aload_n 0, 1) := dk_42 (dk_at dksX8_next_1 1 rfl rfl)
theorem dX8_next_26 : decode cX8_next 26 = .ok (.getfield 32, 3) := dk_180 0 32 (dk_at dksX8_next_1 2 rfl rfl)
theorem dX8_next_29 : decode cX8_next 29 = .ok (.putfield 41, 3) := dk_181 0 41 (dk_at dksX8_next_1 5 rfl rfl)
theorem dX8_next_32 : decode cX8_next 32 = .ok (.aload_n 0, 1) := dk_42 (dk_at dksX8_next_1 8 rfl rfl)
theorem dX8_next_33 : decode cX8_next 33 = .ok (.getfield 32, 3) := dk_180 0 32 (dk_at dksX8_next_1 9 rfl rfl)
theorem dX8_next_36 : decode cX8_next 36 = .ok (.aload_n 0, 1) := dk_42 (dk_at dksX8_next_1 12 rfl rfl)
theorem dX8_next_37 : decode cX8_next 37 = .ok (.getfield 26, 3) := dk_180 0 26 (dk_at dksX8_next_1 13 rfl rfl)
theorem dX8_next_40 : decode cX8_next 40 = .ok (.if_icmp .ne 11, 3) := dk_160 0 11 (dk_at dksX8_next_1 16 rfl rfl)
theorem dX8_next_43 : decode cX8_next 43 = .ok (.aload_n 0, 1) := dk_42 (dk_at dksX8_next_1 19 rfl rfl)
theorem dX8_next_44 : decode cX8_next 44 = .ok (.iconst 0, 1) := dk_3 (dk_at dksX8_next_1 20 rfl rfl)
theorem dX8_next_45 : decode cX8_next 45 = .ok (.putfield 63, 3) := dk_181 0 63 (dk_at dksX8_next_1 21 rfl rfl)
theorem dX8_next_48 : decode cX8_next 48 = .ok (.goto 189, 3) := dk_167 0 189 (dk_at dksX8_next_2 0 rfl rfl)
theorem dX8_next_51 : decode cX8_next 51 = .ok (.aload_n 0, 1) := dk_42 (dk_at dksX8_next_2 3 rfl rfl)
theorem dX8_next_52 : decode cX8_next 52 = .ok (.bipush 97, 2) := dk_16 97 (dk_at dksX8_next_2 4 rfl rfl)
theorem dX8_next_54 : decode cX8_next 54 = .ok (.bipush 122, 2) := dk_16 122 (dk_at dksX8_next_2 6 rfl rfl)
theorem dX8_next_56 : decode cX8_next 56 = .ok (.invokevirtual 76, 3) := dk_182 0 76 (dk_at dksX8_next_2 8 rfl rfl)
theorem dX8_next_59 : decode cX8_next 59 = .ok (.ifCond .eq 32, 3) := dk_153 0 32 (dk_at dksX8_next_2 11 rfl rfl)
theorem dX8_next_62 : decode cX8_next 62 = .ok (.aload_n 0, 1) := dk_42 (dk_at dksX8_next_2 14 rfl rfl)
theorem dX8_next_63 : decode cX8_next 63 = .ok (.iconst 1, 1) := dk_4 (dk_at dksX8_next_2 15 rfl rfl)
theorem dX8_next_64 : decode cX8_next 64 = .ok (.putfield 63, 3) := dk_181 0 63 (dk_at dksX8_next_2 16 rfl rfl)
theorem dX8_next_67 : decode cX8_next 67 = .ok (.aload_n 0, 1) := dk_42 (dk_at dksX8_next_2 19 rfl rfl)
theorem dX8_next_68 : decode cX8_next 68 = .ok (.bipush 97, 2) := dk_16 97 (dk_at dksX8_next_2 20 rfl rfl)
theorem dX8_next_70 : decode cX8_next 70 = .ok (.bipush 122, 2) := dk_16 122 (dk_at dksX8_next_2 22 rfl rfl)
theorem dX8_next_72 : decode cX8_next 72 = .ok (.invokevirtual 76, 3) := dk_182 0 76 (dk_at dksX8_next_3 0 rfl rfl)
theorem dX8_next_75 : decode cX8_next 75 = .ok (.ifCond .eq 162, 3) := dk_153 0 162 (dk_at dksX8_next_3 3 rfl rfl)
theorem dX8_next_78 : decode cX8_next 78 = .ok (.aload_n 0, 1) := dk_42 (dk_at dksX8_next_3 6 rfl rfl)
theorem dX8_next_79 : decode cX8_next 79 = .ok (.dup, 1) := dk_89 (dk_at dksX8_next_3 7 rfl rfl)
theorem dX8_next_80 : decode cX8_next 80 = .ok (.getfield 32, 3) := dk_180 0 32 (dk_at dksX8_next_3 8 rfl rfl)
theorem dX8_next_83 : decode cX8_next 83 = .ok (.iconst 1, 1) := dk_4 (dk_at dksX8_next_3 11 rfl rfl)
theorem dX8_next_84 : decode cX8_next 84 = .ok (.iadd, 1) := dk_96 (dk_at dksX8_next_3 12 rfl rfl)
theorem dX8_next_85 : decode cX8_next 85 = .ok (.putfield 32, 3) := dk_181 0 32 (dk_at dksX8_next_3 13 rfl rfl)
theorem dX8_next_88 : decode cX8_next 88 = .ok (.goto (-21), 3) := dk_167 255 235 (dk_at dksX8_next_3 16 rfl rfl)
theorem dX8_next_91 : decode cX8_next 91 = .ok (.aload_n 0, 1) := dk_42 (dk_at dksX8_next_3 19 rfl rfl)
theorem dX8_next_92 : decode cX8_next 92 = .ok (.bipush 48, 2) := dk_16 48 (dk_at dksX8_next_3 20 rfl rfl)
theorem dX8_next_94 : decode cX8_next 94 = .ok (.bipush 57, 2) := dk_16 57 (dk_at dksX8_next_3 22 rfl rfl)
theorem dX8_next_96 : decode cX8_next 96 = .ok (.invokevirtual 76, 3) := dk_182 0 76 (dk_at dksX8_next_4 0 rfl rfl)
theorem dX8_next_99 : decode cX8_next 99 = .ok (.ifCond .eq 110, 3) := dk_153 0 110 (dk_at dksX8_next_4 3 rfl rfl)
theorem dX8_next_102 : decode cX8_next 102 = .ok (.aload_n 0, 1) := dk_42 (dk_at dksX8_next_4 6 rfl rfl)
theorem dX8_next_103 : decode cX8_next 103 = .ok (.iconst 2, 1) := dk_5 (dk_at dksX8_next_4 7 rfl rfl)
theorem dX8_next_104 : decode cX8_next 104 = .ok (.putfield 63, 3) := dk_181 0 63 (dk_at dksX8_next_4 8 rfl rfl)
theorem dX8_next_107 : decode cX8_next 107 = .ok (.aload_n 0, 1) := dk_42 (dk_at dksX8_next_4 11 rfl rfl)
theorem dX8_next_108 : decode cX8_next 108 = .ok (.iconst 0, 1) := dk_3 (dk_at dksX8_next_4 12 rfl rfl)
theorem dX8_next_109 : decode cX8_next 109 = .ok (.putfield 80, 3) := dk_181 0 80 (dk_at dksX8_next_4 13 rfl rfl)
theorem dX8_next_112 : decode cX8_next 112 = .ok (.aload_n 0, 1) := dk_42 (dk_at dksX8_next_4 16 rfl rfl)
theorem dX8_next_113 : decode cX8_next 113 = .ok (.bipush 48, 2) := dk_16 48 (dk_at dksX8_next_4 17 rfl rfl)
theorem dX8_next_115 : decode cX8_next 115 = .ok (.bipush 57, 2) := dk_16 57 (dk_at dksX8_next_4 19 rfl rfl)
theorem dX8_next_117 : decode cX8_next 117 = .ok (.invokevirtual 76, 3) := dk_182 0 76 (dk_at dksX8_next_4 21 rfl rfl)
theorem dX8_next_120 : decode cX8_next 120 = .ok (.ifCond .eq 63, 3) := dk_153 0 63 (dk_at dksX8_next_5 0 rfl rfl)
theorem dX8_next_123 : decode cX8_next 123 = .ok (.aload_n 0, 1) := dk_42 (dk_at dksX8_next_5 3 rfl rfl)
theorem dX8_next_124 : decode cX8_next 124 = .ok (.aload_n 0, 1) := dk_42 (dk_at dksX8_next_5 4 rfl rfl)
theorem dX8_next_125 : decode cX8_next 125 = .ok (.getfield 32, 3) := dk_180 0 32 (dk_at dksX8_next_5 5 rfl rfl)
theorem dX8_next_128 : decode cX8_next 128 = .ok (.aload_n 0, 1) := dk_42 (dk_at dksX8_next_5 8 rfl rfl)
theorem dX8_next_129 : decode cX8_next 129 = .ok (.getfield 41, 3) := dk_180 0 41 (dk_at dksX8_next_5 9 rfl rfl)
theorem dX8_next_132 : decode cX8_next 132 = .ok (.isub, 1) := dk_100 (dk_at dksX8_next_5 12 rfl rfl)
theorem dX8_next_133 : decode cX8_next 133 = .ok (.iconst 2, 1) := dk_5 (dk_at dksX8_next_5 13 rfl rfl)
theorem dX8_next_134 : decode cX8_next 134 = .ok (.if_icmp .ge 29, 3) := dk_162 0 29 (dk_at dksX8_next_5 14 rfl rfl)
theorem dX8_next_137 : decode cX8_next 137 = .ok (.bipush 10, 2) := dk_16 10 (dk_at dksX8_next_5 17 rfl rfl)
theorem dX8_next_139 : decode cX8_next 139 = .ok (.aload_n 0, 1) := dk_42 (dk_at dksX8_next_5 19 rfl rfl)
theorem dX8_next_140 : decode cX8_next 140 = .ok (.getfield 80, 3) := dk_180 0 80 (dk_at dksX8_next_5 20 rfl rfl)
theorem dX8_next_143 : decode cX8_next 143 = .ok (.imul, 1) := dk_104 (dk_at dksX8_next_5 23 rfl rfl)
theorem dX8_next_144 : decode cX8_next 144 = .ok (.aload_n 0, 1) := dk_42 (dk_at dksX8_next_6 0 rfl rfl)
theorem dX8_next_145 : decode cX8_next 145 = .ok (.getfield 3, 3) := dk_180 0 3 (dk_at dksX8_next_6 1 rfl rfl)
theorem dX8_next_148 : decode cX8_next 148 = .ok (.getfield 35, 3) := dk_180 0 35 (dk_at dksX8_next_6 4 rfl rfl)
theorem dX8_next_151 : decode cX8_next 151 = .ok (.aload_n 0, 1) := dk_42 (dk_at dksX8_next_6 7 rfl rfl)
theorem dX8_next_152 : decode cX8_next 152 = .ok (.getfield 32, 3) := dk_180 0 32 (dk_at dksX8_next_6 8 rfl rfl)
theorem dX8_next_155 : decode cX8_next 155 = .ok (.baload, 1) := dk_51 (dk_at dksX8_next_6 11 rfl rfl)
theorem dX8_next_156 : decode cX8_next 156 = .ok (.iadd, 1) := dk_96 (dk_at dksX8_next_6 12 rfl rfl)
theorem dX8_next_157 : decode cX8_next 157 = .ok (.bipush 48, 2) := dk_16 48 (dk_at dksX8_next_6 13 rfl rfl)
theorem dX8_next_159 : decode cX8_next 159 = .ok (.isub, 1) := dk_100 (dk_at dksX8_next_6 15 rfl rfl)
theorem dX8_next_160 : decode cX8_next 160 = .ok (.goto 7, 3) := dk_167 0 7 (dk_at dksX8_next_6 16 rfl rfl)
theorem dX8_next_163 : decode cX8_next 163 = .ok (.aload_n 0, 1) := dk_42 (dk_at dksX8_next_6 19 rfl rfl)
theorem dX8_next_164 : decode cX8_next 164 = .ok (.getfield 80, 3) := dk_180 0 80 (dk_at dksX8_next_6 20 rfl rfl)
theorem dX8_next_167 : decode cX8_next 167 = .ok (.putfield 80, 3) := dk_181 0 80 (dk_at dksX8_next_7 0 rfl rfl)
theorem dX8_next_170 : decode cX8_next 170 = .ok (.aload_n 0, 1) := dk_42 (dk_at dksX8_next_7 3 rfl rfl)
theorem dX8_next_171 : decode cX8_next 171 = .ok (.dup, 1) := dk_89 (dk_at dksX8_next_7 4 rfl rfl)
theorem dX8_next_172 : decode cX8_next 172 = .ok (.getfield 32, 3) := dk_180 0 32 (dk_at dksX8_next_7 5 rfl rfl)
theorem dX8_next_175 : decode cX8_next 175 = .ok (.iconst 1, 1) := dk_4 (dk_at dksX8_next_7 8 rfl rfl)
theorem dX8_next_176 : decode cX8_next 176 = .ok (.iadd, 1) := dk_96 (dk_at dksX8_next_7 9 rfl rfl)
theorem dX8_next_177 : decode cX8_next 177 = .ok (.putfield 32, 3) := dk_181 0 32 (dk_at dksX8_next_7 10 rfl rfl)
theorem dX8_next_180 : decode cX8_next 180 = .ok (.goto (-68), 3) := dk_167 255 188 (dk_at dksX8_next_7 13 rfl rfl)
theorem dX8_next_183 : decode cX8_next 183 = .ok (.aload_n 0, 1) := dk_42 (dk_at dksX8_next_7 16 rfl rfl)
theorem dX8_next_184 : decode cX8_next 184 = .ok (.aload_n 0, 1) := dk_42 (dk_at dksX8_next_7 17 rfl rfl)
theorem dX8_next_185 : decode cX8_next 185 = .ok (.getfield 32, 3) := dk_180 0 32 (dk_at dksX8_next_7 18 rfl rfl)
theorem dX8_next_188 : decode cX8_next 188 = .ok (.aload_n 0, 1) := dk_42 (dk_at dksX8_next_7 21 rfl rfl)
theorem dX8_next_189 : decode cX8_next 189 = .ok (.getfield 41, 3) := dk_180 0 41 (dk_at dksX8_next_8 0 rfl rfl)
theorem dX8_next_192 : decode cX8_next 192 = .ok (.isub, 1) := dk_100 (dk_at dksX8_next_8 3 rfl rfl)
theorem dX8_next_193 : decode cX8_next 193 = .ok (.iconst 3, 1) := dk_6 (dk_at dksX8_next_8 4 rfl rfl)
theorem dX8_next_194 : decode cX8_next 194 = .ok (.if_icmp .ge 7, 3) := dk_162 0 7 (dk_at dksX8_next_8 5 rfl rfl)
theorem dX8_next_197 : decode cX8_next 197 = .ok (.iconst 1, 1) := dk_4 (dk_at dksX8_next_8 8 rfl rfl)
theorem dX8_next_198 : decode cX8_next 198 = .ok (.goto 4, 3) := dk_167 0 4 (dk_at dksX8_next_8 9 rfl rfl)
theorem dX8_next_201 : decode cX8_next 201 = .ok (.iconst 0, 1) := dk_3 (dk_at dksX8_next_8 12 rfl rfl)
theorem dX8_next_202 : decode cX8_next 202 = .ok (.iconst 1, 1) := dk_4 (dk_at dksX8_next_8 13 rfl rfl)
theorem dX8_next_203 : decode cX8_next 203 = .ok (.invokevirtual 83, 3) := dk_182 0 83 (dk_at dksX8_next_8 14 rfl rfl)
theorem dX8_next_206 : decode cX8_next 206 = .ok (.goto 31, 3) := dk_167 0 31 (dk_at dksX8_next_8 17 rfl rfl)
theorem dX8_next_209 : decode cX8_next 209 = .ok (.aload_n 0, 1) := dk_42 (dk_at dksX8_next_8 20 rfl rfl)
theorem dX8_next_210 : decode cX8_next 210 = .ok (.iconst 3, 1) := dk_6 (dk_at dksX8_next_8 21 rfl rfl)
theorem dX8_next_211 : decode cX8_next 211 = .ok (.putfield 63, 3) := dk_181 0 63 (dk_at dksX8_next_9 0 rfl rfl)
theorem dX8_next_214 : decode cX8_next 214 = .ok (.aload_n 0, 1) := dk_42 (dk_at dksX8_next_9 3 rfl rfl)
theorem dX8_next_215 : decode cX8_next 215 = .ok (.aload_n 0, 1) := dk_42 (dk_at dksX8_next_9 4 rfl rfl)
theorem dX8_next_216 : decode cX8_next 216 = .ok (.bipush 59, 2) := dk_16 59 (dk_at dksX8_next_9 5 rfl rfl)
theorem dX8_next_218 : decode cX8_next 218 = .ok (.bipush 59, 2) := dk_16 59 (dk_at dksX8_next_9 7 rfl rfl)
theorem dX8_next_220 : decode cX8_next 220 = .ok (.invokevirtual 76, 3) := dk_182 0 76 (dk_at dksX8_next_9 9 rfl rfl)
theorem dX8_next_223 : decode cX8_next 223 = .ok (.iconst 1, 1) := dk_4 (dk_at dksX8_next_9 12 rfl rfl)
theorem dX8_next_224 : decode cX8_next 224 = .ok (.invokevirtual 83, 3) := dk_182 0 83 (dk_at dksX8_next_9 13 rfl rfl)
theorem dX8_next_227 : decode cX8_next 227 = .ok (.aload_n 0, 1) := dk_42 (dk_at dksX8_next_9 16 rfl rfl)
theorem dX8_next_228 : decode cX8_next 228 = .ok (.dup, 1) := dk_89 (dk_at dksX8_next_9 17 rfl rfl)
theorem dX8_next_229 : decode cX8_next 229 = .ok (.getfield 32, 3) := dk_180 0 32 (dk_at dksX8_next_9 18 rfl rfl)
theorem dX8_next_232 : decode cX8_next 232 = .ok (.iconst 1, 1) := dk_4 (dk_at dksX8_next_9 21 rfl rfl)
theorem dX8_next_233 : decode cX8_next 233 = .ok (.iadd, 1) := dk_96 (dk_at dksX8_next_9 22 rfl rfl)
theorem dX8_next_234 : decode cX8_next 234 = .ok (.putfield 32, 3) := dk_181 0 32 (dk_at dksX8_next_10 0 rfl rfl)
theorem dX8_next_237 : decode cX8_next 237 = .ok (.return_, 1) := dk_177 (dk_at dksX8_next_10 3 rfl rfl)
abbrev cX8_isIn : ByteArray := prog_6_method_2_code
def yX8_isIn : MethodName := ⟨RX8, "isIn", "(CC)Z"⟩
def dkwX8_isIn_2 : List UInt8 := [172]
abbrev dktX8_isIn_2 : List UInt8 := dkwX8_isIn_2 ++ []
def dkwX8_isIn_1 : List UInt8 := [161, 0, 23, 42, 180, 0, 3, 180, 0, 35, 42, 180, 0, 32, 51, 28, 163, 0, 7, 4, 167, 0, 4, 3]
abbrev dktX8_isIn_1 : List UInt8 := dkwX8_isIn_1 ++ dktX8_isIn_2
def dkwX8_isIn_0 : List UInt8 := [42, 180, 0, 32, 42, 180, 0, 26, 162, 0, 39, 42, 180, 0, 3, 180, 0, 35, 42, 180, 0, 32, 51, 27]
abbrev dktX8_isIn_0 : List UInt8 := dkwX8_isIn_0 ++ dktX8_isIn_1
theorem dksX8_isIn_0 : cX8_isIn.data.toList.drop 0 = dktX8_isIn_0 := by decide +kernel
theorem dksX8_isIn_1 : cX8_isIn.data.toList.drop 24 = dktX8_isIn_1 := dk_seg dksX8_isIn_0 24 rfl rfl
theorem dksX8_isIn_2 : cX8_isIn.data.toList.drop 48 = dktX8_isIn_2 := dk_seg dksX8_isIn_1 24 rfl rfl
theorem dX8_isIn_0 : decode cX8_isIn 0 = .ok (.aload_n 0, 1) := dk_42 (dk_at dksX8_isIn_0 0 rfl rfl)
theorem dX8_isIn_1 : decode cX8_isIn 1 = .ok (.getfield 32, 3) := dk_180 0 32 (dk_at dksX8_isIn_0 1 rfl rfl)
theorem dX8_isIn_4 : decode cX8_isIn 4 = .ok (.aload_n 0, 1) := dk_42 (dk_at dksX8_isIn_0 4 rfl rfl)
theorem dX8_isIn_5 : decode cX8_isIn 5 = .ok (.getfield 26, 3) := dk_180 0 26 (dk_at dksX8_isIn_0 5 rfl rfl)
theorem dX8_isIn_8 : decode cX8_isIn 8 = .ok (.if_icmp .ge 39, 3) := dk_162 0 39 (dk_at dksX8_isIn_0 8 rfl rfl)
theorem dX8_isIn_11 : decode cX8_isIn 11 = .ok (.aload_n 0, 1) := dk_42 (dk_at dksX8_isIn_0 11 rfl rfl)
theorem dX8_isIn_12 : decode cX8_isIn 12 = .ok (.getfield 3, 3) := dk_180 0 3 (dk_at dksX8_isIn_0 12 rfl rfl)
theorem dX8_isIn_15 : decode cX8_isIn 15 = .ok (.getfield 35, 3) := dk_180 0 35 (dk_at dksX8_isIn_0 15 rfl rfl)
theorem dX8_isIn_18 : decode cX8_isIn 18 = .ok (.aload_n 0, 1) := dk_42 (dk_at dksX8_isIn_0 18 rfl rfl)
theorem dX8_isIn_19 : decode cX8_isIn 19 = .ok (.getfield 32, 3) := dk_180 0 32 (dk_at dksX8_isIn_0 19 rfl rfl)
theorem dX8_isIn_22 : decode cX8_isIn 22 = .ok (.baload, 1) := dk_51 (dk_at dksX8_isIn_0 22 rfl rfl)
theorem dX8_isIn_23 : decode cX8_isIn 23 = .ok (.iload_n 1, 1) := dk_27 (dk_at dksX8_isIn_0 23 rfl rfl)
theorem dX8_isIn_24 : decode cX8_isIn 24 = .ok (.if_icmp .lt 23, 3) := dk_161 0 23 (dk_at dksX8_isIn_1 0 rfl rfl)
theorem dX8_isIn_27 : decode cX8_isIn 27 = .ok (.aload_n 0, 1) := dk_42 (dk_at dksX8_isIn_1 3 rfl rfl)
theorem dX8_isIn_28 : decode cX8_isIn 28 = .ok (.getfield 3, 3) := dk_180 0 3 (dk_at dksX8_isIn_1 4 rfl rfl)
theorem dX8_isIn_31 : decode cX8_isIn 31 = .ok (.getfield 35, 3) := dk_180 0 35 (dk_at dksX8_isIn_1 7 rfl rfl)
theorem dX8_isIn_34 : decode cX8_isIn 34 = .ok (.aload_n 0, 1) := dk_42 (dk_at dksX8_isIn_1 10 rfl rfl)
theorem dX8_isIn_35 : decode cX8_isIn 35 = .ok (.getfield 32, 3) := dk_180 0 32 (dk_at dksX8_isIn_1 11 rfl rfl)
theorem dX8_isIn_38 : decode cX8_isIn 38 = .ok (.baload, 1) := dk_51 (dk_at dksX8_isIn_1 14 rfl rfl)
theorem dX8_isIn_39 : decode cX8_isIn 39 = .ok (.iload_n 2, 1) := dk_28 (dk_at dksX8_isIn_1 15 rfl rfl)
theorem dX8_isIn_40 : decode cX8_isIn 40 = .ok (.if_icmp .gt 7, 3) := dk_163 0 7 (dk_at dksX8_isIn_1 16 rfl rfl)
theorem dX8_isIn_43 : decode cX8_isIn 43 = .ok (.iconst 1, 1) := dk_4 (dk_at dksX8_isIn_1 19 rfl rfl)
theorem dX8_isIn_44 : decode cX8_isIn 44 = .ok (.goto 4, 3) := dk_167 0 4 (dk_at dksX8_isIn_1 20 rfl rfl)
theorem dX8_isIn_47 : decode cX8_isIn 47 = .ok (.iconst 0, 1) := dk_3 (dk_at dksX8_isIn_1 23 rfl rfl)
theorem dX8_isIn_48 : decode cX8_isIn 48 = .ok (.ireturn, 1) := dk_172 (dk_at dksX8_isIn_2 0 rfl rfl)
abbrev cX8_need : ByteArray := prog_6_method_3_code
def yX8_need : MethodName := ⟨RX8, "need", "(ZI)V"⟩
def dkwX8_need_0 : List UInt8 := [27, 154, 0, 16, 187, 0, 39, 89, 28, 42, 180, 0, 41, 183, 0, 44, 191, 177]
abbrev dktX8_need_0 : List UInt8 := dkwX8_need_0 ++ []
theorem dksX8_need_0 : cX8_need.data.toList.drop 0 = dktX8_need_0 := by decide +kernel
theorem dX8_need_0 : decode cX8_need 0 = .ok (.iload_n 1, 1) := dk_27 (dk_at dksX8_need_0 0 rfl rfl)
theorem dX8_need_1 : decode cX8_need 1 = .ok (.ifCond .ne 16, 3) := dk_154 0 16 (dk_at dksX8_need_0 1 rfl rfl)
theorem dX8_need_4 : decode cX8_need 4 = .ok (.new 39, 3) := dk_187 0 39 (dk_at dksX8_need_0 4 rfl rfl)
theorem dX8_need_7 : decode cX8_need 7 = .ok (.dup, 1) := dk_89 (dk_at dksX8_need_0 7 rfl rfl)
theorem dX8_need_8 : decode cX8_need 8 = .ok (.iload_n 2, 1) := dk_28 (dk_at dksX8_need_0 8 rfl rfl)
theorem dX8_need_9 : decode cX8_need 9 = .ok (.aload_n 0, 1) := dk_42 (dk_at dksX8_need_0 9 rfl rfl)
theorem dX8_need_10 : decode cX8_need 10 = .ok (.getfield 41, 3) := dk_180 0 41 (dk_at dksX8_need_0 10 rfl rfl)
theorem dX8_need_13 : decode cX8_need 13 = .ok (.invokespecial 44, 3) := dk_183 0 44 (dk_at dksX8_need_0 13 rfl rfl)
theorem dX8_need_16 : decode cX8_need 16 = .ok (.athrow, 1) := dk_191 (dk_at dksX8_need_0 16 rfl rfl)
theorem dX8_need_17 : decode cX8_need 17 = .ok (.return_, 1) := dk_177 (dk_at dksX8_need_0 17 rfl rfl)
abbrev cX8_lines : ByteArray := prog_6_method_13_code
def yX8_lines : MethodName := ⟨RX8, "lines", "()I"⟩
def dkwX8_lines_1 : List UInt8 := [42, 180, 0, 18, 180, 0, 95, 162, 0, 7, 4, 167, 0, 4, 3, 16, 6, 182, 0, 83, 27, 172]
abbrev dktX8_lines_1 : List UInt8 := dkwX8_lines_1 ++ []
def dkwX8_lines_0 : List UInt8 := [3, 60, 42, 180, 0, 63, 153, 0, 13, 42, 182, 0, 135, 132, 1, 1, 167, 255, 242, 42, 42, 180, 0, 22]
abbrev dktX8_lines_0 : List UInt8 := dkwX8_lines_0 ++ dktX8_lines_1
theorem dksX8_lines_0 : cX8_lines.data.toList.drop 0 = dktX8_lines_0 := by decide +kernel
theorem dksX8_lines_1 : cX8_lines.data.toList.drop 24 = dktX8_lines_1 := dk_seg dksX8_lines_0 24 rfl rfl
theorem dX8_lines_0 : decode cX8_lines 0 = .ok (.iconst 0, 1) := dk_3 (dk_at dksX8_lines_0 0 rfl rfl)
theorem dX8_lines_1 : decode cX8_lines 1 = .ok (.istore_n 1, 1) := dk_60 (dk_at dksX8_lines_0 1 rfl rfl)
theorem dX8_lines_2 : decode cX8_lines 2 = .ok (.aload_n 0, 1) := dk_42 (dk_at dksX8_lines_0 2 rfl rfl)
theorem dX8_lines_3 : decode cX8_lines 3 = .ok (.getfield 63, 3) := dk_180 0 63 (dk_at dksX8_lines_0 3 rfl rfl)
theorem dX8_lines_6 : decode cX8_lines 6 = .ok (.ifCond .eq 13, 3) := dk_153 0 13 (dk_at dksX8_lines_0 6 rfl rfl)
theorem dX8_lines_9 : decode cX8_lines 9 = .ok (.aload_n 0, 1) := dk_42 (dk_at dksX8_lines_0 9 rfl rfl)
theorem dX8_lines_10 : decode cX8_lines 10 = .ok (.invokevirtual 135, 3) := dk_182 0 135 (dk_at dksX8_lines_0 10 rfl rfl)
theorem dX8_lines_13 : decode cX8_lines 13 = .ok (.iinc 1 1, 3) := dk_132 1 1 (dk_at dksX8_lines_0 13 rfl rfl)
theorem dX8_lines_16 : decode cX8_lines 16 = .ok (.goto (-14), 3) := dk_167 255 242 (dk_at dksX8_lines_0 16 rfl rfl)
theorem dX8_lines_19 : decode cX8_lines 19 = .ok (.aload_n 0, 1) := dk_42 (dk_at dksX8_lines_0 19 rfl rfl)
theorem dX8_lines_20 : decode cX8_lines 20 = .ok (.aload_n 0, 1) := dk_42 (dk_at dksX8_lines_0 20 rfl rfl)
theorem dX8_lines_21 : decode cX8_lines 21 = .ok (.getfield 22, 3) := dk_180 0 22 (dk_at dksX8_lines_0 21 rfl rfl)
theorem dX8_lines_24 : decode cX8_lines 24 = .ok (.aload_n 0, 1) := dk_42 (dk_at dksX8_lines_1 0 rfl rfl)
theorem dX8_lines_25 : decode cX8_lines 25 = .ok (.getfield 18, 3) := dk_180 0 18 (dk_at dksX8_lines_1 1 rfl rfl)
theorem dX8_lines_28 : decode cX8_lines 28 = .ok (.getfield 95, 3) := dk_180 0 95 (dk_at dksX8_lines_1 4 rfl rfl)
theorem dX8_lines_31 : decode cX8_lines 31 = .ok (.if_icmp .ge 7, 3) := dk_162 0 7 (dk_at dksX8_lines_1 7 rfl rfl)
theorem dX8_lines_34 : decode cX8_lines 34 = .ok (.iconst 1, 1) := dk_4 (dk_at dksX8_lines_1 10 rfl rfl)
theorem dX8_lines_35 : decode cX8_lines 35 = .ok (.goto 4, 3) := dk_167 0 4 (dk_at dksX8_lines_1 11 rfl rfl)
theorem dX8_lines_38 : decode cX8_lines 38 = .ok (.iconst 0, 1) := dk_3 (dk_at dksX8_lines_1 14 rfl rfl)
theorem dX8_lines_39 : decode cX8_lines 39 = .ok (.bipush 6, 2) := dk_16 6 (dk_at dksX8_lines_1 15 rfl rfl)
theorem dX8_lines_41 : decode cX8_lines 41 = .ok (.invokevirtual 83, 3) := dk_182 0 83 (dk_at dksX8_lines_1 17 rfl rfl)
theorem dX8_lines_44 : decode cX8_lines 44 = .ok (.iload_n 1, 1) := dk_27 (dk_at dksX8_lines_1 20 rfl rfl)
theorem dX8_lines_45 : decode cX8_lines 45 = .ok (.ireturn, 1) := dk_172 (dk_at dksX8_lines_1 21 rfl rfl)
abbrev cX8_line : ByteArray := prog_6_method_12_code
def yX8_line : MethodName := ⟨RX8, "line", "()V"⟩
def dkwX8_line_6 : List UInt8 := [160, 0, 7, 4, 167, 0, 4, 3, 5, 182, 0, 83, 42, 182, 0, 29, 177]
abbrev dktX8_line_6 : List UInt8 := dkwX8_line_6 ++ []
def dkwX8_line_5 : List UInt8 := [167, 0, 4, 3, 128, 181, 0, 128, 42, 182, 0, 29, 42, 27, 182, 0, 132, 42, 42, 180, 0, 63, 6]
abbrev dktX8_line_5 : List UInt8 := dkwX8_line_5 ++ dktX8_line_6
def dkwX8_line_4 : List UInt8 := [154, 0, 7, 4, 167, 0, 4, 3, 7, 182, 0, 83, 42, 89, 180, 0, 128, 27, 8, 160, 0, 7, 4]
abbrev dktX8_line_4 : List UInt8 := dkwX8_line_4 ++ dktX8_line_5
def dkwX8_line_3 : List UInt8 := [162, 0, 7, 4, 167, 0, 4, 3, 8, 182, 0, 83, 42, 27, 8, 160, 0, 10, 42, 180, 0, 128]
abbrev dktX8_line_3 : List UInt8 := dkwX8_line_3 ++ dktX8_line_4
def dkwX8_line_2 : List UInt8 := [180, 0, 18, 180, 0, 105, 16, 6, 162, 0, 21, 167, 0, 14, 42, 180, 0, 18, 180, 0, 95, 8]
abbrev dktX8_line_2 : List UInt8 := dkwX8_line_2 ++ dktX8_line_3
def dkwX8_line_1 : List UInt8 := [163, 0, 7, 4, 167, 0, 4, 3, 5, 182, 0, 83, 42, 27, 8, 159, 0, 34, 27, 7, 160, 0, 18, 42]
abbrev dktX8_line_1 : List UInt8 := dkwX8_line_1 ++ dktX8_line_2
def dkwX8_line_0 : List UInt8 := [3, 60, 27, 8, 163, 0, 17, 42, 27, 182, 0, 124, 154, 0, 9, 132, 1, 1, 167, 255, 240, 42, 27, 8]
abbrev dktX8_line_0 : List UInt8 := dkwX8_line_0 ++ dktX8_line_1
theorem dksX8_line_0 : cX8_line.data.toList.drop 0 = dktX8_line_0 := by decide +kernel
theorem dksX8_line_1 : cX8_line.data.toList.drop 24 = dktX8_line_1 := dk_seg dksX8_line_0 24 rfl rfl
theorem dksX8_line_2 : cX8_line.data.toList.drop 48 = dktX8_line_2 := dk_seg dksX8_line_1 24 rfl rfl
theorem dksX8_line_3 : cX8_line.data.toList.drop 70 = dktX8_line_3 := dk_seg dksX8_line_2 22 rfl rfl
theorem dksX8_line_4 : cX8_line.data.toList.drop 92 = dktX8_line_4 := dk_seg dksX8_line_3 22 rfl rfl
theorem dksX8_line_5 : cX8_line.data.toList.drop 115 = dktX8_line_5 := dk_seg dksX8_line_4 23 rfl rfl
theorem dksX8_line_6 : cX8_line.data.toList.drop 138 = dktX8_line_6 := dk_seg dksX8_line_5 23 rfl rfl
theorem dX8_line_0 : decode cX8_line 0 = .ok (.iconst 0, 1) := dk_3 (dk_at dksX8_line_0 0 rfl rfl)
theorem dX8_line_1 : decode cX8_line 1 = .ok (.istore_n 1, 1) := dk_60 (dk_at dksX8_line_0 1 rfl rfl)
theorem dX8_line_2 : decode cX8_line 2 = .ok (.iload_n 1, 1) := dk_27 (dk_at dksX8_line_0 2 rfl rfl)
theorem dX8_line_3 : decode cX8_line 3 = .ok (.iconst 5, 1) := dk_8 (dk_at dksX8_line_0 3 rfl rfl)
theorem dX8_line_4 : decode cX8_line 4 = .ok (.if_icmp .gt 17, 3) := dk_163 0 17 (dk_at dksX8_line_0 4 rfl rfl)
theorem dX8_line_7 : decode cX8_line 7 = .ok (.aload_n 0, 1) := dk_42 (dk_at dksX8_line_0 7 rfl rfl)
theorem dX8_line_8 : decode cX8_line 8 = .ok (.iload_n 1, 1) := dk_27 (dk_at dksX8_line_0 8 rfl rfl)
theorem dX8_line_9 : decode cX8_line 9 = .ok (.invokevirtual 124, 3) := dk_182 0 124 (dk_at dksX8_line_0 9 rfl rfl)
theorem dX8_line_12 : decode cX8_line 12 = .ok (.ifCond .ne 9, 3) := dk_154 0 9 (dk_at dksX8_line_0 12 rfl rfl)
theorem dX8_line_15 : decode cX8_line 15 = .ok (.iinc 1 1, 3) := dk_132 1 1 (dk_at dksX8_line_0 15 rfl rfl)
theorem dX8_line_18 : decode cX8_line 18 = .ok (.goto (-16), 3) := dk_167 255 240 (dk_at dksX8_line_0 18 rfl rfl)
theorem dX8_line_21 : decode cX8_line 21 = .ok (.aload_n 0, 1) := dk_42 (dk_at dksX8_line_0 21 rfl rfl)
theorem dX8_line_22 : decode cX8_line 22 = .ok (.iload_n 1, 1) := dk_27 (dk_at dksX8_line_0 22 rfl rfl)
theorem dX8_line_23 : decode cX8_line 23 = .ok (.iconst 5, 1) := dk_8 (dk_at dksX8_line_0 23 rfl rfl)
theorem dX8_line_24 : decode cX8_line 24 = .ok (.if_icmp .gt 7, 3) := dk_163 0 7 (dk_at dksX8_line_1 0 rfl rfl)
theorem dX8_line_27 : decode cX8_line 27 = .ok (.iconst 1, 1) := dk_4 (dk_at dksX8_line_1 3 rfl rfl)
theorem dX8_line_28 : decode cX8_line 28 = .ok (.goto 4, 3) := dk_167 0 4 (dk_at dksX8_line_1 4 rfl rfl)
theorem dX8_line_31 : decode cX8_line 31 = .ok (.iconst 0, 1) := dk_3 (dk_at dksX8_line_1 7 rfl rfl)
theorem dX8_line_32 : decode cX8_line 32 = .ok (.iconst 2, 1) := dk_5 (dk_at dksX8_line_1 8 rfl rfl)
theorem dX8_line_33 : decode cX8_line 33 = .ok (.invokevirtual 83, 3) := dk_182 0 83 (dk_at dksX8_line_1 9 rfl rfl)
theorem dX8_line_36 : decode cX8_line 36 = .ok (.aload_n 0, 1) := dk_42 (dk_at dksX8_line_1 12 rfl rfl)
theorem dX8_line_37 : decode cX8_line 37 = .ok (.iload_n 1, 1) := dk_27 (dk_at dksX8_line_1 13 rfl rfl)
theorem dX8_line_38 : decode cX8_line 38 = .ok (.iconst 5, 1) := dk_8 (dk_at dksX8_line_1 14 rfl rfl)
theorem dX8_line_39 : decode cX8_line 39 = .ok (.if_icmp .eq 34, 3) := dk_159 0 34 (dk_at dksX8_line_1 15 rfl rfl)
theorem dX8_line_42 : decode cX8_line 42 = .ok (.iload_n 1, 1) := dk_27 (dk_at dksX8_line_1 18 rfl rfl)
theorem dX8_line_43 : decode cX8_line 43 = .ok (.iconst 4, 1) := dk_7 (dk_at dksX8_line_1 19 rfl rfl)
theorem dX8_line_44 : decode cX8_line 44 = .ok (.if_icmp .ne 18, 3) := dk_160 0 18 (dk_at dksX8_line_1 20 rfl rfl)
theorem dX8_line_47 : decode cX8_line 47 = .ok (.aload_n 0, 1) := dk_42 (dk_at dksX8_line_1 23 rfl rfl)
theorem dX8_line_48 : decode cX8_line 48 = .ok (.getfield 18, 3) := dk_180 0 18 (dk_at dksX8_line_2 0 rfl rfl)
theorem dX8_line_51 : decode cX8_line 51 = .ok (.getfield 105, 3) := dk_180 0 105 (dk_at dksX8_line_2 3 rfl rfl)
theorem dX8_line_54 : decode cX8_line 54 = .ok (.bipush 6, 2) := dk_16 6 (dk_at dksX8_line_2 6 rfl rfl)
theorem dX8_line_56 : decode cX8_line 56 = .ok (.if_icmp .ge 21, 3) := dk_162 0 21 (dk_at dksX8_line_2 8 rfl rfl)
theorem dX8_line_59 : decode cX8_line 59 = .ok (.goto 14, 3) := dk_167 0 14 (dk_at dksX8_line_2 11 rfl rfl)
theorem dX8_line_62 : decode cX8_line 62 = .ok (.aload_n 0, 1) := dk_42 (dk_at dksX8_line_2 14 rfl rfl)
theorem dX8_line_63 : decode cX8_line 63 = .ok (.getfield 18, 3) := dk_180 0 18 (dk_at dksX8_line_2 15 rfl rfl)
theorem dX8_line_66 : decode cX8_line 66 = .ok (.getfield 95, 3) := dk_180 0 95 (dk_at dksX8_line_2 18 rfl rfl)
theorem dX8_line_69 : decode cX8_line 69 = .ok (.iconst 5, 1) := dk_8 (dk_at dksX8_line_2 21 rfl rfl)
theorem dX8_line_70 : decode cX8_line 70 = .ok (.if_icmp .ge 7, 3) := dk_162 0 7 (dk_at dksX8_line_3 0 rfl rfl)
theorem dX8_line_73 : decode cX8_line 73 = .ok (.iconst 1, 1) := dk_4 (dk_at dksX8_line_3 3 rfl rfl)
theorem dX8_line_74 : decode cX8_line 74 = .ok (.goto 4, 3) := dk_167 0 4 (dk_at dksX8_line_3 4 rfl rfl)
theorem dX8_line_77 : decode cX8_line 77 = .ok (.iconst 0, 1) := dk_3 (dk_at dksX8_line_3 7 rfl rfl)
theorem dX8_line_78 : decode cX8_line 78 = .ok (.iconst 5, 1) := dk_8 (dk_at dksX8_line_3 8 rfl rfl)
theorem dX8_line_79 : decode cX8_line 79 = .ok (.invokevirtual 83, 3) := dk_182 0 83 (dk_at dksX8_line_3 9 rfl rfl)
theorem dX8_line_82 : decode cX8_line 82 = .ok (.aload_n 0, 1) := dk_42 (dk_at dksX8_line_3 12 rfl rfl)
theorem dX8_line_83 : decode cX8_line 83 = .ok (.iload_n 1, 1) := dk_27 (dk_at dksX8_line_3 13 rfl rfl)
theorem dX8_line_84 : decode cX8_line 84 = .ok (.iconst 5, 1) := dk_8 (dk_at dksX8_line_3 14 rfl rfl)
theorem dX8_line_85 : decode cX8_line 85 = .ok (.if_icmp .ne 10, 3) := dk_160 0 10 (dk_at dksX8_line_3 15 rfl rfl)
theorem dX8_line_88 : decode cX8_line 88 = .ok (.aload_n 0, 1) := dk_42 (dk_at dksX8_line_3 18 rfl rfl)
theorem dX8_line_89 : decode cX8_line 89 = .ok (.getfield 128, 3) := dk_180 0 128 (dk_at dksX8_line_3 19 rfl rfl)
theorem dX8_line_92 : decode cX8_line 92 = .ok (.ifCond .ne 7, 3) := dk_154 0 7 (dk_at dksX8_line_4 0 rfl rfl)
theorem dX8_line_95 : decode cX8_line 95 = .ok (.iconst 1, 1) := dk_4 (dk_at dksX8_line_4 3 rfl rfl)
theorem dX8_line_96 : decode cX8_line 96 = .ok (.goto 4, 3) := dk_167 0 4 (dk_at dksX8_line_4 4 rfl rfl)
theorem dX8_line_99 : decode cX8_line 99 = .ok (.iconst 0, 1) := dk_3 (dk_at dksX8_line_4 7 rfl rfl)
theorem dX8_line_100 : decode cX8_line 100 = .ok (.iconst 4, 1) := dk_7 (dk_at dksX8_line_4 8 rfl rfl)
theorem dX8_line_101 : decode cX8_line 101 = .ok (.invokevirtual 83, 3) := dk_182 0 83 (dk_at dksX8_line_4 9 rfl rfl)
theorem dX8_line_104 : decode cX8_line 104 = .ok (.aload_n 0, 1) := dk_42 (dk_at dksX8_line_4 12 rfl rfl)
theorem dX8_line_105 : decode cX8_line 105 = .ok (.dup, 1) := dk_89 (dk_at dksX8_line_4 13 rfl rfl)
theorem dX8_line_106 : decode cX8_line 106 = .ok (.getfield 128, 3) := dk_180 0 128 (dk_at dksX8_line_4 14 rfl rfl)
theorem dX8_line_109 : decode cX8_line 109 = .ok (.iload_n 1, 1) := dk_27 (dk_at dksX8_line_4 17 rfl rfl)
theorem dX8_line_110 : decode cX8_line 110 = .ok (.iconst 5, 1) := dk_8 (dk_at dksX8_line_4 18 rfl rfl)
theorem dX8_line_111 : decode cX8_line 111 = .ok (.if_icmp .ne 7, 3) := dk_160 0 7 (dk_at dksX8_line_4 19 rfl rfl)
theorem dX8_line_114 : decode cX8_line 114 = .ok (.iconst 1, 1) := dk_4 (dk_at dksX8_line_4 22 rfl rfl)
theorem dX8_line_115 : decode cX8_line 115 = .ok (.goto 4, 3) := dk_167 0 4 (dk_at dksX8_line_5 0 rfl rfl)
theorem dX8_line_118 : decode cX8_line 118 = .ok (.iconst 0, 1) := dk_3 (dk_at dksX8_line_5 3 rfl rfl)
theorem dX8_line_119 : decode cX8_line 119 = .ok (.ior, 1) := dk_128 (dk_at dksX8_line_5 4 rfl rfl)
theorem dX8_line_120 : decode cX8_line 120 = .ok (.putfield 128, 3) := dk_181 0 128 (dk_at dksX8_line_5 5 rfl rfl)
theorem dX8_line_123 : decode cX8_line 123 = .ok (.aload_n 0, 1) := dk_42 (dk_at dksX8_line_5 8 rfl rfl)
theorem dX8_line_124 : decode cX8_line 124 = .ok (.invokevirtual 29, 3) := dk_182 0 29 (dk_at dksX8_line_5 9 rfl rfl)
theorem dX8_line_127 : decode cX8_line 127 = .ok (.aload_n 0, 1) := dk_42 (dk_at dksX8_line_5 12 rfl rfl)
theorem dX8_line_128 : decode cX8_line 128 = .ok (.iload_n 1, 1) := dk_27 (dk_at dksX8_line_5 13 rfl rfl)
theorem dX8_line_129 : decode cX8_line 129 = .ok (.invokevirtual 132, 3) := dk_182 0 132 (dk_at dksX8_line_5 14 rfl rfl)
theorem dX8_line_132 : decode cX8_line 132 = .ok (.aload_n 0, 1) := dk_42 (dk_at dksX8_line_5 17 rfl rfl)
theorem dX8_line_133 : decode cX8_line 133 = .ok (.aload_n 0, 1) := dk_42 (dk_at dksX8_line_5 18 rfl rfl)
theorem dX8_line_134 : decode cX8_line 134 = .ok (.getfield 63, 3) := dk_180 0 63 (dk_at dksX8_line_5 19 rfl rfl)
theorem dX8_line_137 : decode cX8_line 137 = .ok (.iconst 3, 1) := dk_6 (dk_at dksX8_line_5 22 rfl rfl)
theorem dX8_line_138 : decode cX8_line 138 = .ok (.if_icmp .ne 7, 3) := dk_160 0 7 (dk_at dksX8_line_6 0 rfl rfl)
theorem dX8_line_141 : decode cX8_line 141 = .ok (.iconst 1, 1) := dk_4 (dk_at dksX8_line_6 3 rfl rfl)
theorem dX8_line_142 : decode cX8_line 142 = .ok (.goto 4, 3) := dk_167 0 4 (dk_at dksX8_line_6 4 rfl rfl)
theorem dX8_line_145 : decode cX8_line 145 = .ok (.iconst 0, 1) := dk_3 (dk_at dksX8_line_6 7 rfl rfl)
theorem dX8_line_146 : decode cX8_line 146 = .ok (.iconst 2, 1) := dk_5 (dk_at dksX8_line_6 8 rfl rfl)
theorem dX8_line_147 : decode cX8_line 147 = .ok (.invokevirtual 83, 3) := dk_182 0 83 (dk_at dksX8_line_6 9 rfl rfl)
theorem dX8_line_150 : decode cX8_line 150 = .ok (.aload_n 0, 1) := dk_42 (dk_at dksX8_line_6 12 rfl rfl)
theorem dX8_line_151 : decode cX8_line 151 = .ok (.invokevirtual 29, 3) := dk_182 0 29 (dk_at dksX8_line_6 13 rfl rfl)
theorem dX8_line_154 : decode cX8_line 154 = .ok (.return_, 1) := dk_177 (dk_at dksX8_line_6 16 rfl rfl)
abbrev cX8_is : ByteArray := prog_6_method_5_code
def yX8_is : MethodName := ⟨RX8, "is", "(I)Z"⟩
def dkwX8_is_3 : List UInt8 := [182, 0, 72, 160, 0, 7, 4, 167, 0, 4, 3, 62, 132, 4, 1, 167, 255, 210, 29, 172]
abbrev dktX8_is_3 : List UInt8 := dkwX8_is_3 ++ []
def dkwX8_is_2 : List UInt8 := [182, 0, 66, 162, 0, 39, 42, 180, 0, 3, 180, 0, 35, 42, 180, 0, 41, 21, 4, 96, 51, 44, 21, 4]
abbrev dktX8_is_2 : List UInt8 := dkwX8_is_2 ++ dktX8_is_3
def dkwX8_is_1 : List UInt8 := [182, 0, 66, 160, 0, 7, 4, 167, 0, 4, 3, 62, 3, 54, 4, 29, 153, 0, 48, 21, 4, 44]
abbrev dktX8_is_1 : List UInt8 := dkwX8_is_1 ++ dktX8_is_2
def dkwX8_is_0 : List UInt8 := [42, 27, 182, 0, 59, 77, 42, 180, 0, 63, 4, 160, 0, 23, 42, 180, 0, 32, 42, 180, 0, 41, 100, 44]
abbrev dktX8_is_0 : List UInt8 := dkwX8_is_0 ++ dktX8_is_1
theorem dksX8_is_0 : cX8_is.data.toList.drop 0 = dktX8_is_0 := by decide +kernel
theorem dksX8_is_1 : cX8_is.data.toList.drop 24 = dktX8_is_1 := dk_seg dksX8_is_0 24 rfl rfl
theorem dksX8_is_2 : cX8_is.data.toList.drop 46 = dktX8_is_2 := dk_seg dksX8_is_1 22 rfl rfl
theorem dksX8_is_3 : cX8_is.data.toList.drop 70 = dktX8_is_3 := dk_seg dksX8_is_2 24 rfl rfl
theorem dX8_is_0 : decode cX8_is 0 = .ok (.aload_n 0, 1) := dk_42 (dk_at dksX8_is_0 0 rfl rfl)
theorem dX8_is_1 : decode cX8_is 1 = .ok (.iload_n 1, 1) := dk_27 (dk_at dksX8_is_0 1 rfl rfl)
theorem dX8_is_2 : decode cX8_is 2 = .ok (.invokevirtual 59, 3) := dk_182 0 59 (dk_at dksX8_is_0 2 rfl rfl)
theorem dX8_is_5 : decode cX8_is 5 = .ok (.astore_n 2, 1) := dk_77 (dk_at dksX8_is_0 5 rfl rfl)
theorem dX8_is_6 : decode cX8_is 6 = .ok (.aload_n 0, 1) := dk_42 (dk_at dksX8_is_0 6 rfl rfl)
theorem dX8_is_7 : decode cX8_is 7 = .ok (.getfield 63, 3) := dk_180 0 63 (dk_at dksX8_is_0 7 rfl rfl)
theorem dX8_is_10 : decode cX8_is 10 = .ok (.iconst 1, 1) := dk_4 (dk_at dksX8_is_0 10 rfl rfl)
theorem dX8_is_11 : decode cX8_is 11 = .ok (.if_icmp .ne 23, 3) := dk_160 0 23 (dk_at dksX8_is_0 11 rfl rfl)
theorem dX8_is_14 : decode cX8_is 14 = .ok (.aload_n 0, 1) := dk_42 (dk_at dksX8_is_0 14 rfl rfl)
theorem dX8_is_15 : decode cX8_is 15 = .ok (.getfield 32, 3) := dk_180 0 32 (dk_at dksX8_is_0 15 rfl rfl)
theorem dX8_is_18 : decode cX8_is 18 = .ok (.aload_n 0, 1) := dk_42 (dk_at dksX8_is_0 18 rfl rfl)
theorem dX8_is_19 : decode cX8_is 19 = .ok (.getfield 41, 3) := dk_180 0 41 (dk_at dksX8_is_0 19 rfl rfl)
theorem dX8_is_22 : decode cX8_is 22 = .ok (.isub, 1) := dk_100 (dk_at dksX8_is_0 22 rfl rfl)
theorem dX8_is_23 : decode cX8_is 23 = .ok (.aload_n 2, 1) := dk_44 (dk_at dksX8_is_0 23 rfl rfl)
theorem dX8_is_24 : decode cX8_is 24 = .ok (.invokevirtual 66, 3) := dk_182 0 66 (dk_at dksX8_is_1 0 rfl rfl)
theorem dX8_is_27 : decode cX8_is 27 = .ok (.if_icmp .ne 7, 3) := dk_160 0 7 (dk_at dksX8_is_1 3 rfl rfl)
theorem dX8_is_30 : decode cX8_is 30 = .ok (.iconst 1, 1) := dk_4 (dk_at dksX8_is_1 6 rfl rfl)
theorem dX8_is_31 : decode cX8_is 31 = .ok (.goto 4, 3) := dk_167 0 4 (dk_at dksX8_is_1 7 rfl rfl)
theorem dX8_is_34 : decode cX8_is 34 = .ok (.iconst 0, 1) := dk_3 (dk_at dksX8_is_1 10 rfl rfl)
theorem dX8_is_35 : decode cX8_is 35 = .ok (.istore_n 3, 1) := dk_62 (dk_at dksX8_is_1 11 rfl rfl)
theorem dX8_is_36 : decode cX8_is 36 = .ok (.iconst 0, 1) := dk_3 (dk_at dksX8_is_1 12 rfl rfl)
theorem dX8_is_37 : decode cX8_is 37 = .ok (.istore 4, 2) := dk_54 4 (dk_at dksX8_is_1 13 rfl rfl)
theorem dX8_is_39 : decode cX8_is 39 = .ok (.iload_n 3, 1) := dk_29 (dk_at dksX8_is_1 15 rfl rfl)
theorem dX8_is_40 : decode cX8_is 40 = .ok (.ifCond .eq 48, 3) := dk_153 0 48 (dk_at dksX8_is_1 16 rfl rfl)
theorem dX8_is_43 : decode cX8_is 43 = .ok (.iload 4, 2) := dk_21 4 (dk_at dksX8_is_1 19 rfl rfl)
theorem dX8_is_45 : decode cX8_is 45 = .ok (.aload_n 2, 1) := dk_44 (dk_at dksX8_is_1 21 rfl rfl)
theorem dX8_is_46 : decode cX8_is 46 = .ok (.invokevirtual 66, 3) := dk_182 0 66 (dk_at dksX8_is_2 0 rfl rfl)
theorem dX8_is_49 : decode cX8_is 49 = .ok (.if_icmp .ge 39, 3) := dk_162 0 39 (dk_at dksX8_is_2 3 rfl rfl)
theorem dX8_is_52 : decode cX8_is 52 = .ok (.aload_n 0, 1) := dk_42 (dk_at dksX8_is_2 6 rfl rfl)
theorem dX8_is_53 : decode cX8_is 53 = .ok (.getfield 3, 3) := dk_180 0 3 (dk_at dksX8_is_2 7 rfl rfl)
theorem dX8_is_56 : decode cX8_is 56 = .ok (.getfield 35, 3) := dk_180 0 35 (dk_at dksX8_is_2 10 rfl rfl)
theorem dX8_is_59 : decode cX8_is 59 = .ok (.aload_n 0, 1) := dk_42 (dk_at dksX8_is_2 13 rfl rfl)
theorem dX8_is_60 : decode cX8_is 60 = .ok (.getfield 41, 3) := dk_180 0 41 (dk_at dksX8_is_2 14 rfl rfl)
theorem dX8_is_63 : decode cX8_is 63 = .ok (.iload 4, 2) := dk_21 4 (dk_at dksX8_is_2 17 rfl rfl)
theorem dX8_is_65 : decode cX8_is 65 = .ok (.iadd, 1) := dk_96 (dk_at dksX8_is_2 19 rfl rfl)
theorem dX8_is_66 : decode cX8_is 66 = .ok (.baload, 1) := dk_51 (dk_at dksX8_is_2 20 rfl rfl)
theorem dX8_is_67 : decode cX8_is 67 = .ok (.aload_n 2, 1) := dk_44 (dk_at dksX8_is_2 21 rfl rfl)
theorem dX8_is_68 : decode cX8_is 68 = .ok (.iload 4, 2) := dk_21 4 (dk_at dksX8_is_2 22 rfl rfl)
theorem dX8_is_70 : decode cX8_is 70 = .ok (.invokevirtual 72, 3) := dk_182 0 72 (dk_at dksX8_is_3 0 rfl rfl)
theorem dX8_is_73 : decode cX8_is 73 = .ok (.if_icmp .ne 7, 3) := dk_160 0 7 (dk_at dksX8_is_3 3 rfl rfl)
theorem dX8_is_76 : decode cX8_is 76 = .ok (.iconst 1, 1) := dk_4 (dk_at dksX8_is_3 6 rfl rfl)
theorem dX8_is_77 : decode cX8_is 77 = .ok (.goto 4, 3) := dk_167 0 4 (dk_at dksX8_is_3 7 rfl rfl)
theorem dX8_is_80 : decode cX8_is 80 = .ok (.iconst 0, 1) := dk_3 (dk_at dksX8_is_3 10 rfl rfl)
theorem dX8_is_81 : decode cX8_is 81 = .ok (.istore_n 3, 1) := dk_62 (dk_at dksX8_is_3 11 rfl rfl)
theorem dX8_is_82 : decode cX8_is 82 = .ok (.iinc 4 1, 3) := dk_132 4 1 (dk_at dksX8_is_3 12 rfl rfl)
theorem dX8_is_85 : decode cX8_is 85 = .ok (.goto (-46), 3) := dk_167 255 210 (dk_at dksX8_is_3 15 rfl rfl)
theorem dX8_is_88 : decode cX8_is 88 = .ok (.iload_n 3, 1) := dk_29 (dk_at dksX8_is_3 18 rfl rfl)
theorem dX8_is_89 : decode cX8_is 89 = .ok (.ireturn, 1) := dk_172 (dk_at dksX8_is_3 19 rfl rfl)
abbrev cX8_name : ByteArray := prog_6_method_4_code
def yX8_name : MethodName := ⟨RX8, "name", "(I)Ljava/lang/String;"⟩
def dkwX8_name_2 : List UInt8 := [18, 47, 176, 18, 49, 176, 18, 51, 176, 18, 53, 176, 18, 55, 176, 18, 57, 176]
abbrev dktX8_name_2 : List UInt8 := dkwX8_name_2 ++ []
def dkwX8_name_1 : List UInt8 := [170, 0, 0, 0, 0, 0, 50, 0, 0, 0, 0, 0, 0, 0, 4, 0, 0, 0, 35, 0, 0, 0, 38, 0, 0, 0, 41, 0, 0, 0, 44, 0, 0, 0, 47]
abbrev dktX8_name_1 : List UInt8 := dkwX8_name_1 ++ dktX8_name_2
def dkwX8_name_0 : List UInt8 := [27]
abbrev dktX8_name_0 : List UInt8 := dkwX8_name_0 ++ dktX8_name_1
theorem dksX8_name_0 : cX8_name.data.toList.drop 0 = dktX8_name_0 := by decide +kernel
theorem dksX8_name_1 : cX8_name.data.toList.drop 1 = dktX8_name_1 := dk_seg dksX8_name_0 1 rfl rfl
theorem dksX8_name_2 : cX8_name.data.toList.drop 36 = dktX8_name_2 := dk_seg dksX8_name_1 35 rfl rfl
theorem dX8_name_0 : decode cX8_name 0 = .ok (.iload_n 1, 1) := dk_27 (dk_at dksX8_name_0 0 rfl rfl)
theorem dX8_name_1 : decode cX8_name 1 = .ok (.tableswitch 50 0 4 #[35, 38, 41, 44, 47], 35) := by decide +kernel
theorem dX8_name_36 : decode cX8_name 36 = .ok (.ldc 47, 2) := dk_18 47 (dk_at dksX8_name_2 0 rfl rfl)
theorem dX8_name_38 : decode cX8_name 38 = .ok (.areturn, 1) := dk_176 (dk_at dksX8_name_2 2 rfl rfl)
theorem dX8_name_39 : decode cX8_name 39 = .ok (.ldc 49, 2) := dk_18 49 (dk_at dksX8_name_2 3 rfl rfl)
theorem dX8_name_41 : decode cX8_name 41 = .ok (.areturn, 1) := dk_176 (dk_at dksX8_name_2 5 rfl rfl)
theorem dX8_name_42 : decode cX8_name 42 = .ok (.ldc 51, 2) := dk_18 51 (dk_at dksX8_name_2 6 rfl rfl)
theorem dX8_name_44 : decode cX8_name 44 = .ok (.areturn, 1) := dk_176 (dk_at dksX8_name_2 8 rfl rfl)
theorem dX8_name_45 : decode cX8_name 45 = .ok (.ldc 53, 2) := dk_18 53 (dk_at dksX8_name_2 9 rfl rfl)
theorem dX8_name_47 : decode cX8_name 47 = .ok (.areturn, 1) := dk_176 (dk_at dksX8_name_2 11 rfl rfl)
theorem dX8_name_48 : decode cX8_name 48 = .ok (.ldc 55, 2) := dk_18 55 (dk_at dksX8_name_2 12 rfl rfl)
theorem dX8_name_50 : decode cX8_name 50 = .ok (.areturn, 1) := dk_176 (dk_at dksX8_name_2 14 rfl rfl)
theorem dX8_name_51 : decode cX8_name 51 = .ok (.ldc 57, 2) := dk_18 57 (dk_at dksX8_name_2 15 rfl rfl)
theorem dX8_name_53 : decode cX8_name 53 = .ok (.areturn, 1) := dk_176 (dk_at dksX8_name_2 17 rfl rfl)
abbrev cX8_told : ByteArray := prog_6_method_11_code
def yX8_told : MethodName := ⟨RX8, "told", "(I)V"⟩
def dkwX8_told_3 : List UInt8 := [42, 27, 182, 0, 120, 177]
abbrev dktX8_told_3 : List UInt8 := dkwX8_told_3 ++ []
def dkwX8_told_2 : List UInt8 := [42, 182, 0, 116, 167, 0, 25, 42, 180, 0, 18, 42, 3, 16, 50, 182, 0, 102, 181, 0, 118, 167, 0, 8]
abbrev dktX8_told_2 : List UInt8 := dkwX8_told_2 ++ dktX8_told_3
def dkwX8_told_1 : List UInt8 := [171, 0, 0, 0, 0, 0, 51, 0, 0, 0, 2, 0, 0, 0, 4, 0, 0, 0, 27, 0, 0, 0, 5, 0, 0, 0, 34]
abbrev dktX8_told_1 : List UInt8 := dkwX8_told_1 ++ dktX8_told_2
def dkwX8_told_0 : List UInt8 := [27]
abbrev dktX8_told_0 : List UInt8 := dkwX8_told_0 ++ dktX8_told_1
theorem dksX8_told_0 : cX8_told.data.toList.drop 0 = dktX8_told_0 := by decide +kernel
theorem dksX8_told_1 : cX8_told.data.toList.drop 1 = dktX8_told_1 := dk_seg dksX8_told_0 1 rfl rfl
theorem dksX8_told_2 : cX8_told.data.toList.drop 28 = dktX8_told_2 := dk_seg dksX8_told_1 27 rfl rfl
theorem dksX8_told_3 : cX8_told.data.toList.drop 52 = dktX8_told_3 := dk_seg dksX8_told_2 24 rfl rfl
theorem dX8_told_0 : decode cX8_told 0 = .ok (.iload_n 1, 1) := dk_27 (dk_at dksX8_told_0 0 rfl rfl)
theorem dX8_told_1 : decode cX8_told 1 = .ok (.lookupswitch 51 #[(4, 27), (5, 34)], 27) := by decide +kernel
theorem dX8_told_28 : decode cX8_told 28 = .ok (.aload_n 0, 1) := dk_42 (dk_at dksX8_told_2 0 rfl rfl)
theorem dX8_told_29 : decode cX8_told 29 = .ok (.invokevirtual 116, 3) := dk_182 0 116 (dk_at dksX8_told_2 1 rfl rfl)
theorem dX8_told_32 : decode cX8_told 32 = .ok (.goto 25, 3) := dk_167 0 25 (dk_at dksX8_told_2 4 rfl rfl)
theorem dX8_told_35 : decode cX8_told 35 = .ok (.aload_n 0, 1) := dk_42 (dk_at dksX8_told_2 7 rfl rfl)
theorem dX8_told_36 : decode cX8_told 36 = .ok (.getfield 18, 3) := dk_180 0 18 (dk_at dksX8_told_2 8 rfl rfl)
theorem dX8_told_39 : decode cX8_told 39 = .ok (.aload_n 0, 1) := dk_42 (dk_at dksX8_told_2 11 rfl rfl)
theorem dX8_told_40 : decode cX8_told 40 = .ok (.iconst 0, 1) := dk_3 (dk_at dksX8_told_2 12 rfl rfl)
theorem dX8_told_41 : decode cX8_told 41 = .ok (.bipush 50, 2) := dk_16 50 (dk_at dksX8_told_2 13 rfl rfl)
theorem dX8_told_43 : decode cX8_told 43 = .ok (.invokevirtual 102, 3) := dk_182 0 102 (dk_at dksX8_told_2 15 rfl rfl)
theorem dX8_told_46 : decode cX8_told 46 = .ok (.putfield 118, 3) := dk_181 0 118 (dk_at dksX8_told_2 18 rfl rfl)
theorem dX8_told_49 : decode cX8_told 49 = .ok (.goto 8, 3) := dk_167 0 8 (dk_at dksX8_told_2 21 rfl rfl)
theorem dX8_told_52 : decode cX8_told 52 = .ok (.aload_n 0, 1) := dk_42 (dk_at dksX8_told_3 0 rfl rfl)
theorem dX8_told_53 : decode cX8_told 53 = .ok (.iload_n 1, 1) := dk_27 (dk_at dksX8_told_3 1 rfl rfl)
theorem dX8_told_54 : decode cX8_told 54 = .ok (.invokevirtual 120, 3) := dk_182 0 120 (dk_at dksX8_told_3 2 rfl rfl)
theorem dX8_told_57 : decode cX8_told 57 = .ok (.return_, 1) := dk_177 (dk_at dksX8_told_3 5 rfl rfl)
abbrev cX8_gift : ByteArray := prog_6_method_10_code
def yX8_gift : MethodName := ⟨RX8, "gift", "()V"⟩
def dkwX8_gift_4 : List UInt8 := [184, 0, 111, 184, 0, 111, 181, 0, 22, 42, 180, 0, 18, 89, 180, 0, 105, 4, 96, 181, 0, 105, 177]
abbrev dktX8_gift_4 : List UInt8 := dkwX8_gift_4 ++ []
def dkwX8_gift_3 : List UInt8 := [180, 0, 108, 27, 5, 96, 42, 4, 16, 9, 182, 0, 102, 145, 84, 42, 42, 180, 0, 22, 28, 29]
abbrev dktX8_gift_3 : List UInt8 := dkwX8_gift_3 ++ dktX8_gift_4
def dkwX8_gift_2 : List UInt8 := [180, 0, 108, 27, 28, 145, 84, 42, 180, 0, 18, 180, 0, 108, 27, 4, 96, 29, 145, 84, 42, 180, 0, 18]
abbrev dktX8_gift_2 : List UInt8 := dkwX8_gift_2 ++ dktX8_gift_3
def dkwX8_gift_1 : List UInt8 := [42, 28, 29, 159, 0, 7, 4, 167, 0, 4, 3, 6, 182, 0, 83, 42, 182, 0, 29, 42, 180, 0, 18]
abbrev dktX8_gift_1 : List UInt8 := dkwX8_gift_1 ++ dktX8_gift_2
def dkwX8_gift_0 : List UInt8 := [6, 42, 180, 0, 18, 180, 0, 105, 104, 60, 42, 3, 7, 182, 0, 102, 61, 42, 3, 7, 182, 0, 91, 62]
abbrev dktX8_gift_0 : List UInt8 := dkwX8_gift_0 ++ dktX8_gift_1
theorem dksX8_gift_0 : cX8_gift.data.toList.drop 0 = dktX8_gift_0 := by decide +kernel
theorem dksX8_gift_1 : cX8_gift.data.toList.drop 24 = dktX8_gift_1 := dk_seg dksX8_gift_0 24 rfl rfl
theorem dksX8_gift_2 : cX8_gift.data.toList.drop 47 = dktX8_gift_2 := dk_seg dksX8_gift_1 23 rfl rfl
theorem dksX8_gift_3 : cX8_gift.data.toList.drop 71 = dktX8_gift_3 := dk_seg dksX8_gift_2 24 rfl rfl
theorem dksX8_gift_4 : cX8_gift.data.toList.drop 93 = dktX8_gift_4 := dk_seg dksX8_gift_3 22 rfl rfl
theorem dX8_gift_0 : decode cX8_gift 0 = .ok (.iconst 3, 1) := dk_6 (dk_at dksX8_gift_0 0 rfl rfl)
theorem dX8_gift_1 : decode cX8_gift 1 = .ok (.aload_n 0, 1) := dk_42 (dk_at dksX8_gift_0 1 rfl rfl)
theorem dX8_gift_2 : decode cX8_gift 2 = .ok (.getfield 18, 3) := dk_180 0 18 (dk_at dksX8_gift_0 2 rfl rfl)
theorem dX8_gift_5 : decode cX8_gift 5 = .ok (.getfield 105, 3) := dk_180 0 105 (dk_at dksX8_gift_0 5 rfl rfl)
theorem dX8_gift_8 : decode cX8_gift 8 = .ok (.imul, 1) := dk_104 (dk_at dksX8_gift_0 8 rfl rfl)
theorem dX8_gift_9 : decode cX8_gift 9 = .ok (.istore_n 1, 1) := dk_60 (dk_at dksX8_gift_0 9 rfl rfl)
theorem dX8_gift_10 : decode cX8_gift 10 = .ok (.aload_n 0, 1) := dk_42 (dk_at dksX8_gift_0 10 rfl rfl)
theorem dX8_gift_11 : decode cX8_gift 11 = .ok (.iconst 0, 1) := dk_3 (dk_at dksX8_gift_0 11 rfl rfl)
theorem dX8_gift_12 : decode cX8_gift 12 = .ok (.iconst 4, 1) := dk_7 (dk_at dksX8_gift_0 12 rfl rfl)
theorem dX8_gift_13 : decode cX8_gift 13 = .ok (.invokevirtual 102, 3) := dk_182 0 102 (dk_at dksX8_gift_0 13 rfl rfl)
theorem dX8_gift_16 : decode cX8_gift 16 = .ok (.istore_n 2, 1) := dk_61 (dk_at dksX8_gift_0 16 rfl rfl)
theorem dX8_gift_17 : decode cX8_gift 17 = .ok (.aload_n 0, 1) := dk_42 (dk_at dksX8_gift_0 17 rfl rfl)
theorem dX8_gift_18 : decode cX8_gift 18 = .ok (.iconst 0, 1) := dk_3 (dk_at dksX8_gift_0 18 rfl rfl)
theorem dX8_gift_19 : decode cX8_gift 19 = .ok (.iconst 4, 1) := dk_7 (dk_at dksX8_gift_0 19 rfl rfl)
theorem dX8_gift_20 : decode cX8_gift 20 = .ok (.invokevirtual 91, 3) := dk_182 0 91 (dk_at dksX8_gift_0 20 rfl rfl)
theorem dX8_gift_23 : decode cX8_gift 23 = .ok (.istore_n 3, 1) := dk_62 (dk_at dksX8_gift_0 23 rfl rfl)
theorem dX8_gift_24 : decode cX8_gift 24 = .ok (.aload_n 0, 1) := dk_42 (dk_at dksX8_gift_1 0 rfl rfl)
theorem dX8_gift_25 : decode cX8_gift 25 = .ok (.iload_n 2, 1) := dk_28 (dk_at dksX8_gift_1 1 rfl rfl)
theorem dX8_gift_26 : decode cX8_gift 26 = .ok (.iload_n 3, 1) := dk_29 (dk_at dksX8_gift_1 2 rfl rfl)
theorem dX8_gift_27 : decode cX8_gift 27 = .ok (.if_icmp .eq 7, 3) := dk_159 0 7 (dk_at dksX8_gift_1 3 rfl rfl)
theorem dX8_gift_30 : decode cX8_gift 30 = .ok (.iconst 1, 1) := dk_4 (dk_at dksX8_gift_1 6 rfl rfl)
theorem dX8_gift_31 : decode cX8_gift 31 = .ok (.goto 4, 3) := dk_167 0 4 (dk_at dksX8_gift_1 7 rfl rfl)
theorem dX8_gift_34 : decode cX8_gift 34 = .ok (.iconst 0, 1) := dk_3 (dk_at dksX8_gift_1 10 rfl rfl)
theorem dX8_gift_35 : decode cX8_gift 35 = .ok (.iconst 3, 1) := dk_6 (dk_at dksX8_gift_1 11 rfl rfl)
theorem dX8_gift_36 : decode cX8_gift 36 = .ok (.invokevirtual 83, 3) := dk_182 0 83 (dk_at dksX8_gift_1 12 rfl rfl)
theorem dX8_gift_39 : decode cX8_gift 39 = .ok (.aload_n 0, 1) := dk_42 (dk_at dksX8_gift_1 15 rfl rfl)
theorem dX8_gift_40 : decode cX8_gift 40 = .ok (.invokevirtual 29, 3) := dk_182 0 29 (dk_at dksX8_gift_1 16 rfl rfl)
theorem dX8_gift_43 : decode cX8_gift 43 = .ok (.aload_n 0, 1) := dk_42 (dk_at dksX8_gift_1 19 rfl rfl)
theorem dX8_gift_44 : decode cX8_gift 44 = .ok (.getfield 18, 3) := dk_180 0 18 (dk_at dksX8_gift_1 20 rfl rfl)
theorem dX8_gift_47 : decode cX8_gift 47 = .ok (.getfield 108, 3) := dk_180 0 108 (dk_at dksX8_gift_2 0 rfl rfl)
theorem dX8_gift_50 : decode cX8_gift 50 = .ok (.iload_n 1, 1) := dk_27 (dk_at dksX8_gift_2 3 rfl rfl)
theorem dX8_gift_51 : decode cX8_gift 51 = .ok (.iload_n 2, 1) := dk_28 (dk_at dksX8_gift_2 4 rfl rfl)
theorem dX8_gift_52 : decode cX8_gift 52 = .ok (.i2b, 1) := dk_145 (dk_at dksX8_gift_2 5 rfl rfl)
theorem dX8_gift_53 : decode cX8_gift 53 = .ok (.bastore, 1) := dk_84 (dk_at dksX8_gift_2 6 rfl rfl)
theorem dX8_gift_54 : decode cX8_gift 54 = .ok (.aload_n 0, 1) := dk_42 (dk_at dksX8_gift_2 7 rfl rfl)
theorem dX8_gift_55 : decode cX8_gift 55 = .ok (.getfield 18, 3) := dk_180 0 18 (dk_at dksX8_gift_2 8 rfl rfl)
theorem dX8_gift_58 : decode cX8_gift 58 = .ok (.getfield 108, 3) := dk_180 0 108 (dk_at dksX8_gift_2 11 rfl rfl)
theorem dX8_gift_61 : decode cX8_gift 61 = .ok (.iload_n 1, 1) := dk_27 (dk_at dksX8_gift_2 14 rfl rfl)
theorem dX8_gift_62 : decode cX8_gift 62 = .ok (.iconst 1, 1) := dk_4 (dk_at dksX8_gift_2 15 rfl rfl)
theorem dX8_gift_63 : decode cX8_gift 63 = .ok (.iadd, 1) := dk_96 (dk_at dksX8_gift_2 16 rfl rfl)
theorem dX8_gift_64 : decode cX8_gift 64 = .ok (.iload_n 3, 1) := dk_29 (dk_at dksX8_gift_2 17 rfl rfl)
theorem dX8_gift_65 : decode cX8_gift 65 = .ok (.i2b, 1) := dk_145 (dk_at dksX8_gift_2 18 rfl rfl)
theorem dX8_gift_66 : decode cX8_gift 66 = .ok (.bastore, 1) := dk_84 (dk_at dksX8_gift_2 19 rfl rfl)
theorem dX8_gift_67 : decode cX8_gift 67 = .ok (.aload_n 0, 1) := dk_42 (dk_at dksX8_gift_2 20 rfl rfl)
theorem dX8_gift_68 : decode cX8_gift 68 = .ok (.getfield 18, 3) := dk_180 0 18 (dk_at dksX8_gift_2 21 rfl rfl)
theorem dX8_gift_71 : decode cX8_gift 71 = .ok (.getfield 108, 3) := dk_180 0 108 (dk_at dksX8_gift_3 0 rfl rfl)
theorem dX8_gift_74 : decode cX8_gift 74 = .ok (.iload_n 1, 1) := dk_27 (dk_at dksX8_gift_3 3 rfl rfl)
theorem dX8_gift_75 : decode cX8_gift 75 = .ok (.iconst 2, 1) := dk_5 (dk_at dksX8_gift_3 4 rfl rfl)
theorem dX8_gift_76 : decode cX8_gift 76 = .ok (.iadd, 1) := dk_96 (dk_at dksX8_gift_3 5 rfl rfl)
theorem dX8_gift_77 : decode cX8_gift 77 = .ok (.aload_n 0, 1) := dk_42 (dk_at dksX8_gift_3 6 rfl rfl)
theorem dX8_gift_78 : decode cX8_gift 78 = .ok (.iconst 1, 1) := dk_4 (dk_at dksX8_gift_3 7 rfl rfl)
theorem dX8_gift_79 : decode cX8_gift 79 = .ok (.bipush 9, 2) := dk_16 9 (dk_at dksX8_gift_3 8 rfl rfl)
theorem dX8_gift_81 : decode cX8_gift 81 = .ok (.invokevirtual 102, 3) := dk_182 0 102 (dk_at dksX8_gift_3 10 rfl rfl)
theorem dX8_gift_84 : decode cX8_gift 84 = .ok (.i2b, 1) := dk_145 (dk_at dksX8_gift_3 13 rfl rfl)
theorem dX8_gift_85 : decode cX8_gift 85 = .ok (.bastore, 1) := dk_84 (dk_at dksX8_gift_3 14 rfl rfl)
theorem dX8_gift_86 : decode cX8_gift 86 = .ok (.aload_n 0, 1) := dk_42 (dk_at dksX8_gift_3 15 rfl rfl)
theorem dX8_gift_87 : decode cX8_gift 87 = .ok (.aload_n 0, 1) := dk_42 (dk_at dksX8_gift_3 16 rfl rfl)
theorem dX8_gift_88 : decode cX8_gift 88 = .ok (.getfield 22, 3) := dk_180 0 22 (dk_at dksX8_gift_3 17 rfl rfl)
theorem dX8_gift_91 : decode cX8_gift 91 = .ok (.iload_n 2, 1) := dk_28 (dk_at dksX8_gift_3 20 rfl rfl)
theorem dX8_gift_92 : decode cX8_gift 92 = .ok (.iload_n 3, 1) := dk_29 (dk_at dksX8_gift_3 21 rfl rfl)
theorem dX8_gift_93 : decode cX8_gift 93 = .ok (.invokestatic 111, 3) := dk_184 0 111 (dk_at dksX8_gift_4 0 rfl rfl)
theorem dX8_gift_96 : decode cX8_gift 96 = .ok (.invokestatic 111, 3) := dk_184 0 111 (dk_at dksX8_gift_4 3 rfl rfl)
theorem dX8_gift_99 : decode cX8_gift 99 = .ok (.putfield 22, 3) := dk_181 0 22 (dk_at dksX8_gift_4 6 rfl rfl)
theorem dX8_gift_102 : decode cX8_gift 102 = .ok (.aload_n 0, 1) := dk_42 (dk_at dksX8_gift_4 9 rfl rfl)
theorem dX8_gift_103 : decode cX8_gift 103 = .ok (.getfield 18, 3) := dk_180 0 18 (dk_at dksX8_gift_4 10 rfl rfl)
theorem dX8_gift_106 : decode cX8_gift 106 = .ok (.dup, 1) := dk_89 (dk_at dksX8_gift_4 13 rfl rfl)
theorem dX8_gift_107 : decode cX8_gift 107 = .ok (.getfield 105, 3) := dk_180 0 105 (dk_at dksX8_gift_4 14 rfl rfl)
theorem dX8_gift_110 : decode cX8_gift 110 = .ok (.iconst 1, 1) := dk_4 (dk_at dksX8_gift_4 17 rfl rfl)
theorem dX8_gift_111 : decode cX8_gift 111 = .ok (.iadd, 1) := dk_96 (dk_at dksX8_gift_4 18 rfl rfl)
theorem dX8_gift_112 : decode cX8_gift 112 = .ok (.putfield 105, 3) := dk_181 0 105 (dk_at dksX8_gift_4 19 rfl rfl)
theorem dX8_gift_115 : decode cX8_gift 115 = .ok (.return_, 1) := dk_177 (dk_at dksX8_gift_4 22 rfl rfl)
abbrev cX8_taken : ByteArray := prog_6_method_8_code
def yX8_taken : MethodName := ⟨RX8, "taken", "(II)I"⟩
def dkwX8_taken_0 : List UInt8 := [42, 27, 28, 182, 0, 91, 62, 42, 182, 0, 29, 29, 172]
abbrev dktX8_taken_0 : List UInt8 := dkwX8_taken_0 ++ []
theorem dksX8_taken_0 : cX8_taken.data.toList.drop 0 = dktX8_taken_0 := by decide +kernel
theorem dX8_taken_0 : decode cX8_taken 0 = .ok (.aload_n 0, 1) := dk_42 (dk_at dksX8_taken_0 0 rfl rfl)
theorem dX8_taken_1 : decode cX8_taken 1 = .ok (.iload_n 1, 1) := dk_27 (dk_at dksX8_taken_0 1 rfl rfl)
theorem dX8_taken_2 : decode cX8_taken 2 = .ok (.iload_n 2, 1) := dk_28 (dk_at dksX8_taken_0 2 rfl rfl)
theorem dX8_taken_3 : decode cX8_taken 3 = .ok (.invokevirtual 91, 3) := dk_182 0 91 (dk_at dksX8_taken_0 3 rfl rfl)
theorem dX8_taken_6 : decode cX8_taken 6 = .ok (.istore_n 3, 1) := dk_62 (dk_at dksX8_taken_0 6 rfl rfl)
theorem dX8_taken_7 : decode cX8_taken 7 = .ok (.aload_n 0, 1) := dk_42 (dk_at dksX8_taken_0 7 rfl rfl)
theorem dX8_taken_8 : decode cX8_taken 8 = .ok (.invokevirtual 29, 3) := dk_182 0 29 (dk_at dksX8_taken_0 8 rfl rfl)
theorem dX8_taken_11 : decode cX8_taken 11 = .ok (.iload_n 3, 1) := dk_29 (dk_at dksX8_taken_0 11 rfl rfl)
theorem dX8_taken_12 : decode cX8_taken 12 = .ok (.ireturn, 1) := dk_172 (dk_at dksX8_taken_0 12 rfl rfl)
abbrev cX8_looked : ByteArray := prog_6_method_7_code
def yX8_looked : MethodName := ⟨RX8, "looked", "(II)I"⟩
def dkwX8_looked_1 : List UInt8 := [27, 133, 28, 133, 184, 0, 87, 6, 182, 0, 83, 42, 180, 0, 80, 172]
abbrev dktX8_looked_1 : List UInt8 := dkwX8_looked_1 ++ []
def dkwX8_looked_0 : List UInt8 := [42, 42, 180, 0, 63, 5, 160, 0, 7, 4, 167, 0, 4, 3, 5, 182, 0, 83, 42, 42, 180, 0, 80, 133]
abbrev dktX8_looked_0 : List UInt8 := dkwX8_looked_0 ++ dktX8_looked_1
theorem dksX8_looked_0 : cX8_looked.data.toList.drop 0 = dktX8_looked_0 := by decide +kernel
theorem dksX8_looked_1 : cX8_looked.data.toList.drop 24 = dktX8_looked_1 := dk_seg dksX8_looked_0 24 rfl rfl
theorem dX8_looked_0 : decode cX8_looked 0 = .ok (.aload_n 0, 1) := dk_42 (dk_at dksX8_looked_0 0 rfl rfl)
theorem dX8_looked_1 : decode cX8_looked 1 = .ok (.aload_n 0, 1) := dk_42 (dk_at dksX8_looked_0 1 rfl rfl)
theorem dX8_looked_2 : decode cX8_looked 2 = .ok (.getfield 63, 3) := dk_180 0 63 (dk_at dksX8_looked_0 2 rfl rfl)
theorem dX8_looked_5 : decode cX8_looked 5 = .ok (.iconst 2, 1) := dk_5 (dk_at dksX8_looked_0 5 rfl rfl)
theorem dX8_looked_6 : decode cX8_looked 6 = .ok (.if_icmp .ne 7, 3) := dk_160 0 7 (dk_at dksX8_looked_0 6 rfl rfl)
theorem dX8_looked_9 : decode cX8_looked 9 = .ok (.iconst 1, 1) := dk_4 (dk_at dksX8_looked_0 9 rfl rfl)
theorem dX8_looked_10 : decode cX8_looked 10 = .ok (.goto 4, 3) := dk_167 0 4 (dk_at dksX8_looked_0 10 rfl rfl)
theorem dX8_looked_13 : decode cX8_looked 13 = .ok (.iconst 0, 1) := dk_3 (dk_at dksX8_looked_0 13 rfl rfl)
theorem dX8_looked_14 : decode cX8_looked 14 = .ok (.iconst 2, 1) := dk_5 (dk_at dksX8_looked_0 14 rfl rfl)
theorem dX8_looked_15 : decode cX8_looked 15 = .ok (.invokevirtual 83, 3) := dk_182 0 83 (dk_at dksX8_looked_0 15 rfl rfl)
theorem dX8_looked_18 : decode cX8_looked 18 = .ok (.aload_n 0, 1) := dk_42 (dk_at dksX8_looked_0 18 rfl rfl)
theorem dX8_looked_19 : decode cX8_looked 19 = .ok (.aload_n 0, 1) := dk_42 (dk_at dksX8_looked_0 19 rfl rfl)
theorem dX8_looked_20 : decode cX8_looked 20 = .ok (.getfield 80, 3) := dk_180 0 80 (dk_at dksX8_looked_0 20 rfl rfl)
theorem dX8_looked_23 : decode cX8_looked 23 = .ok (.i2l, 1) := dk_133 (dk_at dksX8_looked_0 23 rfl rfl)
theorem dX8_looked_24 : decode cX8_looked 24 = .ok (.iload_n 1, 1) := dk_27 (dk_at dksX8_looked_1 0 rfl rfl)
theorem dX8_looked_25 : decode cX8_looked 25 = .ok (.i2l, 1) := dk_133 (dk_at dksX8_looked_1 1 rfl rfl)
theorem dX8_looked_26 : decode cX8_looked 26 = .ok (.iload_n 2, 1) := dk_28 (dk_at dksX8_looked_1 2 rfl rfl)
theorem dX8_looked_27 : decode cX8_looked 27 = .ok (.i2l, 1) := dk_133 (dk_at dksX8_looked_1 3 rfl rfl)
theorem dX8_looked_28 : decode cX8_looked 28 = .ok (.invokestatic 87, 3) := dk_184 0 87 (dk_at dksX8_looked_1 4 rfl rfl)
theorem dX8_looked_31 : decode cX8_looked 31 = .ok (.iconst 3, 1) := dk_6 (dk_at dksX8_looked_1 7 rfl rfl)
theorem dX8_looked_32 : decode cX8_looked 32 = .ok (.invokevirtual 83, 3) := dk_182 0 83 (dk_at dksX8_looked_1 8 rfl rfl)
theorem dX8_looked_35 : decode cX8_looked 35 = .ok (.aload_n 0, 1) := dk_42 (dk_at dksX8_looked_1 11 rfl rfl)
theorem dX8_looked_36 : decode cX8_looked 36 = .ok (.getfield 80, 3) := dk_180 0 80 (dk_at dksX8_looked_1 12 rfl rfl)
theorem dX8_looked_39 : decode cX8_looked 39 = .ok (.ireturn, 1) := dk_172 (dk_at dksX8_looked_1 15 rfl rfl)
abbrev cX8_clock : ByteArray := prog_6_method_9_code
def yX8_clock : MethodName := ⟨RX8, "clock", "(I)V"⟩
def dkwX8_clock_3 : List UInt8 := [167, 0, 5, 16, 50, 182, 0, 98, 42, 180, 0, 18, 89, 180, 0, 95, 4, 96, 181, 0, 95, 177]
abbrev dktX8_clock_3 : List UInt8 := dkwX8_clock_3 ++ []
def dkwX8_clock_2 : List UInt8 := [182, 0, 98, 42, 180, 0, 18, 28, 6, 42, 180, 0, 63, 5, 160, 0, 13, 42, 3, 16, 99, 182, 0, 102]
abbrev dktX8_clock_2 : List UInt8 := dkwX8_clock_2 ++ dktX8_clock_3
def dkwX8_clock_1 : List UInt8 := [42, 3, 6, 182, 0, 102, 182, 0, 98, 42, 180, 0, 18, 28, 5, 42, 3, 16, 6, 182, 0, 102]
abbrev dktX8_clock_1 : List UInt8 := dkwX8_clock_1 ++ dktX8_clock_2
def dkwX8_clock_0 : List UInt8 := [42, 180, 0, 18, 180, 0, 95, 61, 42, 180, 0, 18, 28, 3, 27, 182, 0, 98, 42, 180, 0, 18, 28, 4]
abbrev dktX8_clock_0 : List UInt8 := dkwX8_clock_0 ++ dktX8_clock_1
theorem dksX8_clock_0 : cX8_clock.data.toList.drop 0 = dktX8_clock_0 := by decide +kernel
theorem dksX8_clock_1 : cX8_clock.data.toList.drop 24 = dktX8_clock_1 := dk_seg dksX8_clock_0 24 rfl rfl
theorem dksX8_clock_2 : cX8_clock.data.toList.drop 46 = dktX8_clock_2 := dk_seg dksX8_clock_1 22 rfl rfl
theorem dksX8_clock_3 : cX8_clock.data.toList.drop 70 = dktX8_clock_3 := dk_seg dksX8_clock_2 24 rfl rfl
theorem dX8_clock_0 : decode cX8_clock 0 = .ok (.aload_n 0, 1) := dk_42 (dk_at dksX8_clock_0 0 rfl rfl)
theorem dX8_clock_1 : decode cX8_clock 1 = .ok (.getfield 18, 3) := dk_180 0 18 (dk_at dksX8_clock_0 1 rfl rfl)
theorem dX8_clock_4 : decode cX8_clock 4 = .ok (.getfield 95, 3) := dk_180 0 95 (dk_at dksX8_clock_0 4 rfl rfl)
theorem dX8_clock_7 : decode cX8_clock 7 = .ok (.istore_n 2, 1) := dk_61 (dk_at dksX8_clock_0 7 rfl rfl)
theorem dX8_clock_8 : decode cX8_clock 8 = .ok (.aload_n 0, 1) := dk_42 (dk_at dksX8_clock_0 8 rfl rfl)
theorem dX8_clock_9 : decode cX8_clock 9 = .ok (.getfield 18, 3) := dk_180 0 18 (dk_at dksX8_clock_0 9 rfl rfl)
theorem dX8_clock_12 : decode cX8_clock 12 = .ok (.iload_n 2, 1) := dk_28 (dk_at dksX8_clock_0 12 rfl rfl)
theorem dX8_clock_13 : decode cX8_clock 13 = .ok (.iconst 0, 1) := dk_3 (dk_at dksX8_clock_0 13 rfl rfl)
theorem dX8_clock_14 : decode cX8_clock 14 = .ok (.iload_n 1, 1) := dk_27 (dk_at dksX8_clock_0 14 rfl rfl)
theorem dX8_clock_15 : decode cX8_clock 15 = .ok (.invokevirtual 98, 3) := dk_182 0 98 (dk_at dksX8_clock_0 15 rfl rfl)
theorem dX8_clock_18 : decode cX8_clock 18 = .ok (.aload_n 0, 1) := dk_42 (dk_at dksX8_clock_0 18 rfl rfl)
theorem dX8_clock_19 : decode cX8_clock 19 = .ok (.getfield 18, 3) := dk_180 0 18 (dk_at dksX8_clock_0 19 rfl rfl)
theorem dX8_clock_22 : decode cX8_clock 22 = .ok (.iload_n 2, 1) := dk_28 (dk_at dksX8_clock_0 22 rfl rfl)
theorem dX8_clock_23 : decode cX8_clock 23 = .ok (.iconst 1, 1) := dk_4 (dk_at dksX8_clock_0 23 rfl rfl)
theorem dX8_clock_24 : decode cX8_clock 24 = .ok (.aload_n 0, 1) := dk_42 (dk_at dksX8_clock_1 0 rfl rfl)
theorem dX8_clock_25 : decode cX8_clock 25 = .ok (.iconst 0, 1) := dk_3 (dk_at dksX8_clock_1 1 rfl rfl)
theorem dX8_clock_26 : decode cX8_clock 26 = .ok (.iconst 3, 1) := dk_6 (dk_at dksX8_clock_1 2 rfl rfl)
theorem dX8_clock_27 : decode cX8_clock 27 = .ok (.invokevirtual 102, 3) := dk_182 0 102 (dk_at dksX8_clock_1 3 rfl rfl)
theorem dX8_clock_30 : decode cX8_clock 30 = .ok (.invokevirtual 98, 3) := dk_182 0 98 (dk_at dksX8_clock_1 6 rfl rfl)
theorem dX8_clock_33 : decode cX8_clock 33 = .ok (.aload_n 0, 1) := dk_42 (dk_at dksX8_clock_1 9 rfl rfl)
theorem dX8_clock_34 : decode cX8_clock 34 = .ok (.getfield 18, 3) := dk_180 0 18 (dk_at dksX8_clock_1 10 rfl rfl)
theorem dX8_clock_37 : decode cX8_clock 37 = .ok (.iload_n 2, 1) := dk_28 (dk_at dksX8_clock_1 13 rfl rfl)
theorem dX8_clock_38 : decode cX8_clock 38 = .ok (.iconst 2, 1) := dk_5 (dk_at dksX8_clock_1 14 rfl rfl)
theorem dX8_clock_39 : decode cX8_clock 39 = .ok (.aload_n 0, 1) := dk_42 (dk_at dksX8_clock_1 15 rfl rfl)
theorem dX8_clock_40 : decode cX8_clock 40 = .ok (.iconst 0, 1) := dk_3 (dk_at dksX8_clock_1 16 rfl rfl)
theorem dX8_clock_41 : decode cX8_clock 41 = .ok (.bipush 6, 2) := dk_16 6 (dk_at dksX8_clock_1 17 rfl rfl)
theorem dX8_clock_43 : decode cX8_clock 43 = .ok (.invokevirtual 102, 3) := dk_182 0 102 (dk_at dksX8_clock_1 19 rfl rfl)
theorem dX8_clock_46 : decode cX8_clock 46 = .ok (.invokevirtual 98, 3) := dk_182 0 98 (dk_at dksX8_clock_2 0 rfl rfl)
theorem dX8_clock_49 : decode cX8_clock 49 = .ok (.aload_n 0, 1) := dk_42 (dk_at dksX8_clock_2 3 rfl rfl)
theorem dX8_clock_50 : decode cX8_clock 50 = .ok (.getfield 18, 3) := dk_180 0 18 (dk_at dksX8_clock_2 4 rfl rfl)
theorem dX8_clock_53 : decode cX8_clock 53 = .ok (.iload_n 2, 1) := dk_28 (dk_at dksX8_clock_2 7 rfl rfl)
theorem dX8_clock_54 : decode cX8_clock 54 = .ok (.iconst 3, 1) := dk_6 (dk_at dksX8_clock_2 8 rfl rfl)
theorem dX8_clock_55 : decode cX8_clock 55 = .ok (.aload_n 0, 1) := dk_42 (dk_at dksX8_clock_2 9 rfl rfl)
theorem dX8_clock_56 : decode cX8_clock 56 = .ok (.getfield 63, 3) := dk_180 0 63 (dk_at dksX8_clock_2 10 rfl rfl)
theorem dX8_clock_59 : decode cX8_clock 59 = .ok (.iconst 2, 1) := dk_5 (dk_at dksX8_clock_2 13 rfl rfl)
theorem dX8_clock_60 : decode cX8_clock 60 = .ok (.if_icmp .ne 13, 3) := dk_160 0 13 (dk_at dksX8_clock_2 14 rfl rfl)
theorem dX8_clock_63 : decode cX8_clock 63 = .ok (.aload_n 0, 1) := dk_42 (dk_at dksX8_clock_2 17 rfl rfl)
theorem dX8_clock_64 : decode cX8_clock 64 = .ok (.iconst 0, 1) := dk_3 (dk_at dksX8_clock_2 18 rfl rfl)
theorem dX8_clock_65 : decode cX8_clock 65 = .ok (.bipush 99, 2) := dk_16 99 (dk_at dksX8_clock_2 19 rfl rfl)
theorem dX8_clock_67 : decode cX8_clock 67 = .ok (.invokevirtual 102, 3) := dk_182 0 102 (dk_at dksX8_clock_2 21 rfl rfl)
theorem dX8_clock_70 : decode cX8_clock 70 = .ok (.goto 5, 3) := dk_167 0 5 (dk_at dksX8_clock_3 0 rfl rfl)
theorem dX8_clock_73 : decode cX8_clock 73 = .ok (.bipush 50, 2) := dk_16 50 (dk_at dksX8_clock_3 3 rfl rfl)
theorem dX8_clock_75 : decode cX8_clock 75 = .ok (.invokevirtual 98, 3) := dk_182 0 98 (dk_at dksX8_clock_3 5 rfl rfl)
theorem dX8_clock_78 : decode cX8_clock 78 = .ok (.aload_n 0, 1) := dk_42 (dk_at dksX8_clock_3 8 rfl rfl)
theorem dX8_clock_79 : decode cX8_clock 79 = .ok (.getfield 18, 3) := dk_180 0 18 (dk_at dksX8_clock_3 9 rfl rfl)
theorem dX8_clock_82 : decode cX8_clock 82 = .ok (.dup, 1) := dk_89 (dk_at dksX8_clock_3 12 rfl rfl)
theorem dX8_clock_83 : decode cX8_clock 83 = .ok (.getfield 95, 3) := dk_180 0 95 (dk_at dksX8_clock_3 13 rfl rfl)
theorem dX8_clock_86 : decode cX8_clock 86 = .ok (.iconst 1, 1) := dk_4 (dk_at dksX8_clock_3 16 rfl rfl)
theorem dX8_clock_87 : decode cX8_clock 87 = .ok (.iadd, 1) := dk_96 (dk_at dksX8_clock_3 17 rfl rfl)
theorem dX8_clock_88 : decode cX8_clock 88 = .ok (.putfield 95, 3) := dk_181 0 95 (dk_at dksX8_clock_3 18 rfl rfl)
theorem dX8_clock_91 : decode cX8_clock 91 = .ok (.return_, 1) := dk_177 (dk_at dksX8_clock_3 21 rfl rfl)
theorem q72 : (Jvm.Cond.initialized "ClockWard$Reader") ∈ lw_all := lw_g (lw_at lw_m1 9 rfl) rfl
theorem q134 : (Jvm.Cond.fieldLinkNest "ClockWard$Reader" (95 : Nat) "ClockWard$Ward" "clocks" "I" "ClockWard") ∈ lw_tbl := lw_at lw_m1 71 rfl
theorem q137 : (Jvm.Cond.fieldLinkNest "ClockWard$Reader" (118 : Nat) "ClockWard$Ward" "floor" "I" "ClockWard") ∈ lw_tbl := lw_at lw_m1 74 rfl
theorem q147 : (Jvm.Cond.fieldLinkNest "ClockWard$Reader" (105 : Nat) "ClockWard$Ward" "planned" "I" "ClockWard") ∈ lw_tbl := lw_at lw_m1 84 rfl
theorem q150 : (Jvm.Cond.fieldLinkNest "ClockWard$Reader" (108 : Nat) "ClockWard$Ward" "plan" "[B" "ClockWard") ∈ lw_tbl := lw_at lw_m1 87 rfl
theorem q192 : (Jvm.Cond.fieldLinkNest "ClockWard$Reader" (35 : Nat) "ClockWard" "tape" "[B" "ClockWard") ∈ lw_tbl := lw_at lw_m1 129 rfl
theorem q274 : (Jvm.Cond.instantiable "ClockWard$Reader" (9 : Nat)) ∈ lw_all := lw_g (lw_at lw_m1 211 rfl) rfl
theorem q276 : (Jvm.Cond.instanceMethod ({ cls := "ClockWard$Reader", name := "<init>", desc := "(LClockWard;I)V" } : Jvm.MethodName)) ∈ lw_all := lw_g (lw_at lw_m1 213 rfl) rfl
theorem q277 : (Jvm.Cond.code ({ cls := "ClockWard$Reader", name := "<init>", desc := "(LClockWard;I)V" } : Jvm.MethodName) prog_6_method_1_code (3 : Nat) (Option.none : Option Jvm.ClassFile.FieldType)) ∈ lw_all := lw_g (lw_at lw_m1 214 rfl) rfl
theorem q278 : (Jvm.Cond.methodLink "ClockWard$Reader" (9 : Nat) ({ cls := "java/lang/Object", name := "<init>", desc := "()V" } : Jvm.MethodName)) ∈ lw_all := lw_g (lw_at lw_m1 215 rfl) rfl
theorem q279 : (Jvm.Cond.classLink "ClockWard$Reader" (15 : Nat) "ClockWard$Ward") ∈ lw_all := lw_g (lw_at lw_m1 216 rfl) rfl
theorem q280 : (Jvm.Cond.methodLinkNest "ClockWard$Reader" (17 : Nat) ({ cls := "ClockWard$Ward", name := "<init>", desc := "()V" } : Jvm.MethodName) "ClockWard") ∈ lw_tbl := lw_at lw_m1 217 rfl
theorem q281 : (Jvm.Cond.methodLink "ClockWard$Reader" (29 : Nat) ({ cls := "ClockWard$Reader", name := "next", desc := "()V" } : Jvm.MethodName)) ∈ lw_all := lw_g (lw_at lw_m1 218 rfl) rfl
theorem q282 : (Jvm.Cond.privateMethod ({ cls := "ClockWard$Reader", name := "next", desc := "()V" } : Jvm.MethodName)) ∈ lw_tbl := lw_at lw_m1 219 rfl
theorem q283 : (Jvm.Cond.instanceMethod ({ cls := "ClockWard$Reader", name := "next", desc := "()V" } : Jvm.MethodName)) ∈ lw_all := lw_g (lw_at lw_m1 220 rfl) rfl
theorem q284 : (Jvm.Cond.code ({ cls := "ClockWard$Reader", name := "next", desc := "()V" } : Jvm.MethodName) prog_6_method_6_code (1 : Nat) (Option.none : Option Jvm.ClassFile.FieldType)) ∈ lw_all := lw_g (lw_at lw_m1 221 rfl) rfl
theorem q285 : (Jvm.Cond.methodLink "ClockWard$Reader" (76 : Nat) ({ cls := "ClockWard$Reader", name := "isIn", desc := "(CC)Z" } : Jvm.MethodName)) ∈ lw_all := lw_g (lw_at lw_m1 222 rfl) rfl
theorem q286 : (Jvm.Cond.privateMethod ({ cls := "ClockWard$Reader", name := "isIn", desc := "(CC)Z" } : Jvm.MethodName)) ∈ lw_tbl := lw_at lw_m1 223 rfl
theorem q287 : (Jvm.Cond.instanceMethod ({ cls := "ClockWard$Reader", name := "isIn", desc := "(CC)Z" } : Jvm.MethodName)) ∈ lw_all := lw_g (lw_at lw_m1 224 rfl) rfl
theorem q288 : (Jvm.Cond.code ({ cls := "ClockWard$Reader", name := "isIn", desc := "(CC)Z" } : Jvm.MethodName) prog_6_method_2_code (3 : Nat) (Option.some Jvm.ClassFile.FieldType.boolean)) ∈ lw_all := lw_g (lw_at lw_m1 225 rfl) rfl
theorem q289 : (Jvm.Cond.methodLink "ClockWard$Reader" (83 : Nat) ({ cls := "ClockWard$Reader", name := "need", desc := "(ZI)V" } : Jvm.MethodName)) ∈ lw_all := lw_g (lw_at lw_m1 226 rfl) rfl
theorem q290 : (Jvm.Cond.privateMethod ({ cls := "ClockWard$Reader", name := "need", desc := "(ZI)V" } : Jvm.MethodName)) ∈ lw_tbl := lw_at lw_m1 227 rfl
theorem q291 : (Jvm.Cond.instanceMethod ({ cls := "ClockWard$Reader", name := "need", desc := "(ZI)V" } : Jvm.MethodName)) ∈ lw_all := lw_g (lw_at lw_m1 228 rfl) rfl
theorem q292 : (Jvm.Cond.code ({ cls := "ClockWard$Reader", name := "need", desc := "(ZI)V" } : Jvm.MethodName) prog_6_method_3_code (3 : Nat) (Option.none : Option Jvm.ClassFile.FieldType)) ∈ lw_all := lw_g (lw_at lw_m1 229 rfl) rfl
theorem q293 : (Jvm.Cond.classLink "ClockWard$Reader" (39 : Nat) "ClockWard$Fault") ∈ lw_all := lw_g (lw_at lw_m1 230 rfl) rfl
theorem q347 : (Jvm.Cond.methodLink "ClockWard$Reader" (44 : Nat) ({ cls := "ClockWard$Fault", name := "<init>", desc := "(II)V" } : Jvm.MethodName)) ∈ lw_all := lw_g (lw_at lw_m2 44 rfl) rfl
theorem q377 : (Jvm.Cond.fieldLink "ClockWard$Reader" (26 : Nat) "ClockWard$Reader" "size" "I") ∈ lw_all := lw_g (lw_at lw_m2 74 rfl) rfl
theorem q378 : (Jvm.Cond.fieldLink "ClockWard$Reader" (18 : Nat) "ClockWard$Reader" "made" "LClockWard$Ward;") ∈ lw_all := lw_g (lw_at lw_m2 75 rfl) rfl
theorem q380 : (Jvm.Cond.fieldLink "ClockWard$Reader" (128 : Nat) "ClockWard$Reader" "hasFloor" "Z") ∈ lw_all := lw_g (lw_at lw_m2 77 rfl) rfl
theorem q381 : (Jvm.Cond.fieldLink "ClockWard$Reader" (22 : Nat) "ClockWard$Reader" "highest" "I") ∈ lw_all := lw_g (lw_at lw_m2 78 rfl) rfl
theorem q382 : (Jvm.Cond.fieldLink "ClockWard$Reader" (32 : Nat) "ClockWard$Reader" "at" "I") ∈ lw_all := lw_g (lw_at lw_m2 79 rfl) rfl
theorem q383 : (Jvm.Cond.fieldLink "ClockWard$Reader" (41 : Nat) "ClockWard$Reader" "from" "I") ∈ lw_all := lw_g (lw_at lw_m2 80 rfl) rfl
theorem q384 : (Jvm.Cond.fieldLink "ClockWard$Reader" (63 : Nat) "ClockWard$Reader" "sort" "I") ∈ lw_all := lw_g (lw_at lw_m2 81 rfl) rfl
theorem q385 : (Jvm.Cond.fieldLink "ClockWard$Reader" (80 : Nat) "ClockWard$Reader" "value" "I") ∈ lw_all := lw_g (lw_at lw_m2 82 rfl) rfl
theorem q386 : (Jvm.Cond.fieldLink "ClockWard$Reader" (3 : Nat) "ClockWard$Reader" "this$0" "LClockWard;") ∈ lw_all := lw_g (lw_at lw_m2 83 rfl) rfl
theorem q387 : (Jvm.Cond.laysFinal "ClockWard$Reader" "ClockWard$Reader" "size" "I") ∈ lw_all := lw_g (lw_at lw_m2 84 rfl) rfl
theorem q388 : (Jvm.Cond.soleField "ClockWard$Reader" "size") ∈ lw_all := lw_g (lw_at lw_m2 85 rfl) rfl
theorem q389 : (Jvm.Cond.laysFinal "ClockWard$Reader" "ClockWard$Reader" "made" "LClockWard$Ward;") ∈ lw_all := lw_g (lw_at lw_m2 86 rfl) rfl
theorem q390 : (Jvm.Cond.soleField "ClockWard$Reader" "made") ∈ lw_all := lw_g (lw_at lw_m2 87 rfl) rfl
theorem q391 : (Jvm.Cond.lays "ClockWard$Reader" "ClockWard$Reader" "hasFloor" "Z") ∈ lw_all := lw_g (lw_at lw_m2 88 rfl) rfl
theorem q392 : (Jvm.Cond.soleField "ClockWard$Reader" "hasFloor") ∈ lw_all := lw_g (lw_at lw_m2 89 rfl) rfl
theorem q393 : (Jvm.Cond.lays "ClockWard$Reader" "ClockWard$Reader" "highest" "I") ∈ lw_all := lw_g (lw_at lw_m2 90 rfl) rfl
theorem q394 : (Jvm.Cond.soleField "ClockWard$Reader" "highest") ∈ lw_all := lw_g (lw_at lw_m2 91 rfl) rfl
theorem q395 : (Jvm.Cond.lays "ClockWard$Reader" "ClockWard$Reader" "at" "I") ∈ lw_all := lw_g (lw_at lw_m2 92 rfl) rfl
theorem q396 : (Jvm.Cond.soleField "ClockWard$Reader" "at") ∈ lw_all := lw_g (lw_at lw_m2 93 rfl) rfl
theorem q397 : (Jvm.Cond.lays "ClockWard$Reader" "ClockWard$Reader" "from" "I") ∈ lw_all := lw_g (lw_at lw_m2 94 rfl) rfl
theorem q398 : (Jvm.Cond.soleField "ClockWard$Reader" "from") ∈ lw_all := lw_g (lw_at lw_m2 95 rfl) rfl
theorem q399 : (Jvm.Cond.lays "ClockWard$Reader" "ClockWard$Reader" "sort" "I") ∈ lw_all := lw_g (lw_at lw_m2 96 rfl) rfl
theorem q400 : (Jvm.Cond.soleField "ClockWard$Reader" "sort") ∈ lw_all := lw_g (lw_at lw_m2 97 rfl) rfl
theorem q401 : (Jvm.Cond.lays "ClockWard$Reader" "ClockWard$Reader" "value" "I") ∈ lw_all := lw_g (lw_at lw_m2 98 rfl) rfl
theorem q402 : (Jvm.Cond.soleField "ClockWard$Reader" "value") ∈ lw_all := lw_g (lw_at lw_m2 99 rfl) rfl
theorem q403 : (Jvm.Cond.laysFinal "ClockWard$Reader" "ClockWard$Reader" "this$0" "LClockWard;") ∈ lw_all := lw_g (lw_at lw_m2 100 rfl) rfl
theorem q404 : (Jvm.Cond.soleField "ClockWard$Reader" "this$0") ∈ lw_all := lw_g (lw_at lw_m2 101 rfl) rfl
theorem q405 : (Jvm.Cond.superclass "ClockWard$Reader" "java/lang/Object") ∈ lw_all := lw_g (lw_at lw_m2 102 rfl) rfl
theorem q407 : (Jvm.Cond.instanceMethod ({ cls := "ClockWard$Reader", name := "lines", desc := "()I" } : Jvm.MethodName)) ∈ lw_all := lw_g (lw_at lw_m2 104 rfl) rfl
theorem q408 : (Jvm.Cond.selects "ClockWard$Reader" ({ cls := "ClockWard$Reader", name := "lines", desc := "()I" } : Jvm.MethodName) ({ cls := "ClockWard$Reader", name := "lines", desc := "()I" } : Jvm.MethodName)) ∈ lw_all := lw_g (lw_at lw_m2 105 rfl) rfl
theorem q409 : (Jvm.Cond.code ({ cls := "ClockWard$Reader", name := "lines", desc := "()I" } : Jvm.MethodName) prog_6_method_13_code (2 : Nat) (Option.some Jvm.ClassFile.FieldType.int)) ∈ lw_all := lw_g (lw_at lw_m2 106 rfl) rfl
theorem q410 : (Jvm.Cond.methodLink "ClockWard$Reader" (135 : Nat) ({ cls := "ClockWard$Reader", name := "line", desc := "()V" } : Jvm.MethodName)) ∈ lw_all := lw_g (lw_at lw_m2 107 rfl) rfl
theorem q411 : (Jvm.Cond.privateMethod ({ cls := "ClockWard$Reader", name := "line", desc := "()V" } : Jvm.MethodName)) ∈ lw_tbl := lw_at lw_m2 108 rfl
theorem q412 : (Jvm.Cond.instanceMethod ({ cls := "ClockWard$Reader", name := "line", desc := "()V" } : Jvm.MethodName)) ∈ lw_all := lw_g (lw_at lw_m2 109 rfl) rfl
theorem q413 : (Jvm.Cond.code ({ cls := "ClockWard$Reader", name := "line", desc := "()V" } : Jvm.MethodName) prog_6_method_12_code (2 : Nat) (Option.none : Option Jvm.ClassFile.FieldType)) ∈ lw_all := lw_g (lw_at lw_m2 110 rfl) rfl
theorem q414 : (Jvm.Cond.methodLink "ClockWard$Reader" (124 : Nat) ({ cls := "ClockWard$Reader", name := "is", desc := "(I)Z" } : Jvm.MethodName)) ∈ lw_all := lw_g (lw_at lw_m2 111 rfl) rfl
theorem q415 : (Jvm.Cond.privateMethod ({ cls := "ClockWard$Reader", name := "is", desc := "(I)Z" } : Jvm.MethodName)) ∈ lw_tbl := lw_at lw_m2 112 rfl
theorem q416 : (Jvm.Cond.instanceMethod ({ cls := "ClockWard$Reader", name := "is", desc := "(I)Z" } : Jvm.MethodName)) ∈ lw_all := lw_g (lw_at lw_m2 113 rfl) rfl
theorem q417 : (Jvm.Cond.code ({ cls := "ClockWard$Reader", name := "is", desc := "(I)Z" } : Jvm.MethodName) prog_6_method_5_code (5 : Nat) (Option.some Jvm.ClassFile.FieldType.boolean)) ∈ lw_all := lw_g (lw_at lw_m2 114 rfl) rfl
theorem q418 : (Jvm.Cond.methodLink "ClockWard$Reader" (59 : Nat) ({ cls := "ClockWard$Reader", name := "name", desc := "(I)Ljava/lang/String;" } : Jvm.MethodName)) ∈ lw_all := lw_g (lw_at lw_m2 115 rfl) rfl
theorem q419 : (Jvm.Cond.privateMethod ({ cls := "ClockWard$Reader", name := "name", desc := "(I)Ljava/lang/String;" } : Jvm.MethodName)) ∈ lw_tbl := lw_at lw_m2 116 rfl
theorem q420 : (Jvm.Cond.instanceMethod ({ cls := "ClockWard$Reader", name := "name", desc := "(I)Ljava/lang/String;" } : Jvm.MethodName)) ∈ lw_all := lw_g (lw_at lw_m2 117 rfl) rfl
theorem q421 : (Jvm.Cond.code ({ cls := "ClockWard$Reader", name := "name", desc := "(I)Ljava/lang/String;" } : Jvm.MethodName) prog_6_method_4_code (2 : Nat) (Option.some (Jvm.ClassFile.FieldType.object "java/lang/String"))) ∈ lw_all := lw_g (lw_at lw_m2 118 rfl) rfl
theorem q422 : (Jvm.Cond.stringRef "ClockWard$Reader" (47 : Nat) "plain") ∈ lw_tbl := lw_at lw_m2 119 rfl
theorem q423 : (Jvm.Cond.stringRef "ClockWard$Reader" (49 : Nat) "cuckoo") ∈ lw_tbl := lw_at lw_m2 120 rfl
theorem q424 : (Jvm.Cond.stringRef "ClockWard$Reader" (51 : Nat) "tower") ∈ lw_tbl := lw_at lw_m2 121 rfl
theorem q425 : (Jvm.Cond.stringRef "ClockWard$Reader" (53 : Nat) "back") ∈ lw_tbl := lw_at lw_m2 122 rfl
theorem q426 : (Jvm.Cond.stringRef "ClockWard$Reader" (55 : Nat) "gift") ∈ lw_tbl := lw_at lw_m2 123 rfl
theorem q427 : (Jvm.Cond.stringRef "ClockWard$Reader" (57 : Nat) "floor") ∈ lw_tbl := lw_at lw_m2 124 rfl
theorem q428 : (Jvm.Cond.methodLink "ClockWard$Reader" (66 : Nat) ({ cls := "java/lang/String", name := "length", desc := "()I" } : Jvm.MethodName)) ∈ lw_all := lw_g (lw_at lw_m2 125 rfl) rfl
theorem q438 : (Jvm.Cond.methodLink "ClockWard$Reader" (72 : Nat) ({ cls := "java/lang/String", name := "charAt", desc := "(I)C" } : Jvm.MethodName)) ∈ lw_all := lw_g (lw_at lw_m2 135 rfl) rfl
theorem q476 : (Jvm.Cond.methodLink "ClockWard$Reader" (132 : Nat) ({ cls := "ClockWard$Reader", name := "told", desc := "(I)V" } : Jvm.MethodName)) ∈ lw_all := lw_g (lw_at lw_m2 173 rfl) rfl
theorem q477 : (Jvm.Cond.privateMethod ({ cls := "ClockWard$Reader", name := "told", desc := "(I)V" } : Jvm.MethodName)) ∈ lw_tbl := lw_at lw_m2 174 rfl
theorem q478 : (Jvm.Cond.instanceMethod ({ cls := "ClockWard$Reader", name := "told", desc := "(I)V" } : Jvm.MethodName)) ∈ lw_all := lw_g (lw_at lw_m2 175 rfl) rfl
theorem q479 : (Jvm.Cond.code ({ cls := "ClockWard$Reader", name := "told", desc := "(I)V" } : Jvm.MethodName) prog_6_method_11_code (2 : Nat) (Option.none : Option Jvm.ClassFile.FieldType)) ∈ lw_all := lw_g (lw_at lw_m2 176 rfl) rfl
theorem q480 : (Jvm.Cond.methodLink "ClockWard$Reader" (116 : Nat) ({ cls := "ClockWard$Reader", name := "gift", desc := "()V" } : Jvm.MethodName)) ∈ lw_all := lw_g (lw_at lw_m2 177 rfl) rfl
theorem q481 : (Jvm.Cond.privateMethod ({ cls := "ClockWard$Reader", name := "gift", desc := "()V" } : Jvm.MethodName)) ∈ lw_tbl := lw_at lw_m2 178 rfl
theorem q482 : (Jvm.Cond.instanceMethod ({ cls := "ClockWard$Reader", name := "gift", desc := "()V" } : Jvm.MethodName)) ∈ lw_all := lw_g (lw_at lw_m2 179 rfl) rfl
theorem q483 : (Jvm.Cond.code ({ cls := "ClockWard$Reader", name := "gift", desc := "()V" } : Jvm.MethodName) prog_6_method_10_code (4 : Nat) (Option.none : Option Jvm.ClassFile.FieldType)) ∈ lw_all := lw_g (lw_at lw_m2 180 rfl) rfl
theorem q484 : (Jvm.Cond.methodLink "ClockWard$Reader" (102 : Nat) ({ cls := "ClockWard$Reader", name := "taken", desc := "(II)I" } : Jvm.MethodName)) ∈ lw_all := lw_g (lw_at lw_m2 181 rfl) rfl
theorem q485 : (Jvm.Cond.privateMethod ({ cls := "ClockWard$Reader", name := "taken", desc := "(II)I" } : Jvm.MethodName)) ∈ lw_tbl := lw_at lw_m2 182 rfl
theorem q486 : (Jvm.Cond.instanceMethod ({ cls := "ClockWard$Reader", name := "taken", desc := "(II)I" } : Jvm.MethodName)) ∈ lw_all := lw_g (lw_at lw_m2 183 rfl) rfl
theorem q487 : (Jvm.Cond.code ({ cls := "ClockWard$Reader", name := "taken", desc := "(II)I" } : Jvm.MethodName) prog_6_method_8_code (4 : Nat) (Option.some Jvm.ClassFile.FieldType.int)) ∈ lw_all := lw_g (lw_at lw_m2 184 rfl) rfl
theorem q488 : (Jvm.Cond.methodLink "ClockWard$Reader" (91 : Nat) ({ cls := "ClockWard$Reader", name := "looked", desc := "(II)I" } : Jvm.MethodName)) ∈ lw_all := lw_g (lw_at lw_m2 185 rfl) rfl
theorem q489 : (Jvm.Cond.privateMethod ({ cls := "ClockWard$Reader", name := "looked", desc := "(II)I" } : Jvm.MethodName)) ∈ lw_tbl := lw_at lw_m2 186 rfl
theorem q490 : (Jvm.Cond.instanceMethod ({ cls := "ClockWard$Reader", name := "looked", desc := "(II)I" } : Jvm.MethodName)) ∈ lw_all := lw_g (lw_at lw_m2 187 rfl) rfl
theorem q491 : (Jvm.Cond.code ({ cls := "ClockWard$Reader", name := "looked", desc := "(II)I" } : Jvm.MethodName) prog_6_method_7_code (3 : Nat) (Option.some Jvm.ClassFile.FieldType.int)) ∈ lw_all := lw_g (lw_at lw_m2 188 rfl) rfl
theorem q492 : (Jvm.Cond.methodLinkNest "ClockWard$Reader" (87 : Nat) ({ cls := "ClockWard", name := "in", desc := "(JJJ)Z" } : Jvm.MethodName) "ClockWard") ∈ lw_tbl := lw_at lw_m2 189 rfl
theorem q493 : (Jvm.Cond.methodLink "ClockWard$Reader" (111 : Nat) ({ cls := "java/lang/Math", name := "max", desc := "(II)I" } : Jvm.MethodName)) ∈ lw_all := lw_g (lw_at lw_m2 190 rfl) rfl
theorem q496 : (Jvm.Cond.methodLink "ClockWard$Reader" (120 : Nat) ({ cls := "ClockWard$Reader", name := "clock", desc := "(I)V" } : Jvm.MethodName)) ∈ lw_all := lw_g (lw_at lw_m2 193 rfl) rfl
theorem q497 : (Jvm.Cond.privateMethod ({ cls := "ClockWard$Reader", name := "clock", desc := "(I)V" } : Jvm.MethodName)) ∈ lw_tbl := lw_at lw_m2 194 rfl
theorem q498 : (Jvm.Cond.instanceMethod ({ cls := "ClockWard$Reader", name := "clock", desc := "(I)V" } : Jvm.MethodName)) ∈ lw_all := lw_g (lw_at lw_m2 195 rfl) rfl
theorem q499 : (Jvm.Cond.code ({ cls := "ClockWard$Reader", name := "clock", desc := "(I)V" } : Jvm.MethodName) prog_6_method_9_code (3 : Nat) (Option.none : Option Jvm.ClassFile.FieldType)) ∈ lw_all := lw_g (lw_at lw_m2 196 rfl) rfl
theorem q500 : (Jvm.Cond.methodLink "ClockWard$Reader" (98 : Nat) ({ cls := "ClockWard$Ward", name := "becomes", desc := "(III)V" } : Jvm.MethodName)) ∈ lw_all := lw_g (lw_at lw_m2 197 rfl) rfl
theorem in_X8 : ∀ w ∈ wsX80, w ∈ lw_all := lw_in wsX80 [387, 389, 391, 393, 395, 397, 399, 401, 403] (by decide +kernel) (by decide +kernel)
