theorem q98 : (Jvm.Cond.arrayOver (Jvm.ClassFile.FieldType.object "ClockWard$Plain")) ∈ lw_tbl := lw_at lw_m1 35 rfl
set_option maxRecDepth 100000
theorem q168 : (Jvm.Cond.arrayClass Jvm.ClassFile.FieldType.byte) ∈ lw_all := lw_g (lw_at lw_m1 105 rfl) rfl
theorem q169 : (Jvm.Cond.arrayClass Jvm.ClassFile.FieldType.int) ∈ lw_all := lw_g (lw_at lw_m1 106 rfl) rfl
theorem q170 : (Jvm.Cond.arrayOver (Jvm.ClassFile.FieldType.object "ClockWard$Ward")) ∈ lw_tbl := lw_at lw_m1 107 rfl
theorem q172 : (Jvm.Cond.arrayOver (Jvm.ClassFile.FieldType.object "ClockWard$Sheet")) ∈ lw_tbl := lw_at lw_m1 109 rfl
theorem q839 : (Jvm.Cond.arrayClass Jvm.ClassFile.FieldType.short) ∈ lw_all := lw_g (lw_at lw_m4 56 rfl) rfl
theorem q1026 : (Jvm.Cond.arrayClass Jvm.ClassFile.FieldType.boolean) ∈ lw_all := lw_g (lw_at lw_m5 3 rfl) rfl

theorem q81 : (Jvm.Cond.initialized "java/lang/System") ∈ lw_all := lw_g (lw_at lw_m1 18 rfl) rfl
set_option maxRecDepth 100000
theorem q509 : (Jvm.Cond.static ({ cls := "java/lang/System", name := "arraycopy", desc := "(Ljava/lang/Object;ILjava/lang/Object;II)V" } : Jvm.MethodName)) ∈ lw_all := lw_g (lw_at lw_m2 206 rfl) rfl
theorem q510 : (Jvm.Cond.native ({ cls := "java/lang/System", name := "arraycopy", desc := "(Ljava/lang/Object;ILjava/lang/Object;II)V" } : Jvm.MethodName)) ∈ lw_all := lw_g (lw_at lw_m2 207 rfl) rfl

/-! java/lang/Object -/
set_option maxRecDepth 100000
def RJ14 : String := "java/lang/Object"
abbrev cJ14_init : ByteArray := object_method_1_code
def yJ14_init : MethodName := ⟨RJ14, "<init>", "()V"⟩
theorem dJ14_init_0 : decode cJ14_init 0 = .ok (.return_, 1) := by decide +kernel
theorem q95 : (Jvm.Cond.instanceMethod ({ cls := "java/lang/Object", name := "<init>", desc := "()V" } : Jvm.MethodName)) ∈ lw_all := lw_g (lw_at lw_m1 32 rfl) rfl
theorem q96 : (Jvm.Cond.code ({ cls := "java/lang/Object", name := "<init>", desc := "()V" } : Jvm.MethodName) object_method_1_code (1 : Nat) (Option.none : Option Jvm.ClassFile.FieldType)) ∈ lw_all := lw_g (lw_at lw_m1 33 rfl) rfl

/-! java/lang/Math -/
set_option maxRecDepth 100000
def RJ6 : String := "java/lang/Math"
abbrev cJ6_max : ByteArray := prog_17_method_65_code
def yJ6_max : MethodName := ⟨RJ6, "max", "(II)I"⟩
def dkwJ6_max_0 : List UInt8 := [26, 27, 161, 0, 7, 26, 167, 0, 4, 27, 172]
abbrev dktJ6_max_0 : List UInt8 := dkwJ6_max_0 ++ []
theorem dksJ6_max_0 : cJ6_max.data.toList.drop 0 = dktJ6_max_0 := by decide +kernel
theorem dJ6_max_0 : decode cJ6_max 0 = .ok (.iload_n 0, 1) := dk_26 (dk_at dksJ6_max_0 0 rfl rfl)
theorem dJ6_max_1 : decode cJ6_max 1 = .ok (.iload_n 1, 1) := dk_27 (dk_at dksJ6_max_0 1 rfl rfl)
theorem dJ6_max_2 : decode cJ6_max 2 = .ok (.if_icmp .lt 7, 3) := dk_161 0 7 (dk_at dksJ6_max_0 2 rfl rfl)
theorem dJ6_max_5 : decode cJ6_max 5 = .ok (.iload_n 0, 1) := dk_26 (dk_at dksJ6_max_0 5 rfl rfl)
theorem dJ6_max_6 : decode cJ6_max 6 = .ok (.goto 4, 3) := dk_167 0 4 (dk_at dksJ6_max_0 6 rfl rfl)
theorem dJ6_max_9 : decode cJ6_max 9 = .ok (.iload_n 1, 1) := dk_27 (dk_at dksJ6_max_0 9 rfl rfl)
theorem dJ6_max_10 : decode cJ6_max 10 = .ok (.ireturn, 1) := dk_172 (dk_at dksJ6_max_0 10 rfl rfl)
abbrev cJ6_min : ByteArray := prog_17_method_69_code
def yJ6_min : MethodName := ⟨RJ6, "min", "(II)I"⟩
def dkwJ6_min_0 : List UInt8 := [26, 27, 163, 0, 7, 26, 167, 0, 4, 27, 172]
abbrev dktJ6_min_0 : List UInt8 := dkwJ6_min_0 ++ []
theorem dksJ6_min_0 : cJ6_min.data.toList.drop 0 = dktJ6_min_0 := by decide +kernel
theorem dJ6_min_0 : decode cJ6_min 0 = .ok (.iload_n 0, 1) := dk_26 (dk_at dksJ6_min_0 0 rfl rfl)
theorem dJ6_min_1 : decode cJ6_min 1 = .ok (.iload_n 1, 1) := dk_27 (dk_at dksJ6_min_0 1 rfl rfl)
theorem dJ6_min_2 : decode cJ6_min 2 = .ok (.if_icmp .gt 7, 3) := dk_163 0 7 (dk_at dksJ6_min_0 2 rfl rfl)
theorem dJ6_min_5 : decode cJ6_min 5 = .ok (.iload_n 0, 1) := dk_26 (dk_at dksJ6_min_0 5 rfl rfl)
theorem dJ6_min_6 : decode cJ6_min 6 = .ok (.goto 4, 3) := dk_167 0 4 (dk_at dksJ6_min_0 6 rfl rfl)
theorem dJ6_min_9 : decode cJ6_min 9 = .ok (.iload_n 1, 1) := dk_27 (dk_at dksJ6_min_0 9 rfl rfl)
theorem dJ6_min_10 : decode cJ6_min 10 = .ok (.ireturn, 1) := dk_172 (dk_at dksJ6_min_0 10 rfl rfl)
theorem q80 : (Jvm.Cond.initialized "java/lang/Math") ∈ lw_all := lw_g (lw_at lw_m1 17 rfl) rfl
theorem q494 : (Jvm.Cond.static ({ cls := "java/lang/Math", name := "max", desc := "(II)I" } : Jvm.MethodName)) ∈ lw_all := lw_g (lw_at lw_m2 191 rfl) rfl
theorem q495 : (Jvm.Cond.code ({ cls := "java/lang/Math", name := "max", desc := "(II)I" } : Jvm.MethodName) prog_17_method_65_code (2 : Nat) (Option.some Jvm.ClassFile.FieldType.int)) ∈ lw_all := lw_g (lw_at lw_m2 192 rfl) rfl
theorem q563 : (Jvm.Cond.static ({ cls := "java/lang/Math", name := "min", desc := "(II)I" } : Jvm.MethodName)) ∈ lw_all := lw_g (lw_at lw_m3 20 rfl) rfl
theorem q564 : (Jvm.Cond.code ({ cls := "java/lang/Math", name := "min", desc := "(II)I" } : Jvm.MethodName) prog_17_method_69_code (2 : Nat) (Option.some Jvm.ClassFile.FieldType.int)) ∈ lw_all := lw_g (lw_at lw_m3 21 rfl) rfl

/-! java/lang/Integer -/
set_option maxRecDepth 100000
def RJ7 : String := "java/lang/Integer"
abbrev cJ7_bitCount : ByteArray := prog_16_method_49_code
def yJ7_bitCount : MethodName := ⟨RJ7, "bitCount", "(I)I"⟩
def dkwJ7_bitCount_2 : List UInt8 := [26, 16, 63, 126, 172]
abbrev dktJ7_bitCount_2 : List UInt8 := dkwJ7_bitCount_2 ++ []
def dkwJ7_bitCount_1 : List UInt8 := [26, 26, 7, 124, 96, 19, 1, 11, 126, 59, 26, 26, 16, 8, 124, 96, 59, 26, 26, 16, 16, 124, 96, 59]
abbrev dktJ7_bitCount_1 : List UInt8 := dkwJ7_bitCount_1 ++ dktJ7_bitCount_2
def dkwJ7_bitCount_0 : List UInt8 := [26, 26, 4, 124, 19, 1, 9, 126, 100, 59, 26, 19, 1, 10, 126, 26, 5, 124, 19, 1, 10, 126, 96, 59]
abbrev dktJ7_bitCount_0 : List UInt8 := dkwJ7_bitCount_0 ++ dktJ7_bitCount_1
theorem dksJ7_bitCount_0 : cJ7_bitCount.data.toList.drop 0 = dktJ7_bitCount_0 := by decide +kernel
theorem dksJ7_bitCount_1 : cJ7_bitCount.data.toList.drop 24 = dktJ7_bitCount_1 := dk_seg dksJ7_bitCount_0 24 rfl rfl
theorem dksJ7_bitCount_2 : cJ7_bitCount.data.toList.drop 48 = dktJ7_bitCount_2 := dk_seg dksJ7_bitCount_1 24 rfl rfl
theorem dJ7_bitCount_0 : decode cJ7_bitCount 0 = .ok (.iload_n 0, 1) := dk_26 (dk_at dksJ7_bitCount_0 0 rfl rfl)
theorem dJ7_bitCount_1 : decode cJ7_bitCount 1 = .ok (.iload_n 0, 1) := dk_26 (dk_at dksJ7_bitCount_0 1 rfl rfl)
theorem dJ7_bitCount_2 : decode cJ7_bitCount 2 = .ok (.iconst 1, 1) := dk_4 (dk_at dksJ7_bitCount_0 2 rfl rfl)
theorem dJ7_bitCount_3 : decode cJ7_bitCount 3 = .ok (.iushr, 1) := dk_124 (dk_at dksJ7_bitCount_0 3 rfl rfl)
theorem dJ7_bitCount_4 : decode cJ7_bitCount 4 = .ok (.ldc_w 265, 3) := dk_19 1 9 (dk_at dksJ7_bitCount_0 4 rfl rfl)
theorem dJ7_bitCount_7 : decode cJ7_bitCount 7 = .ok (.iand, 1) := dk_126 (dk_at dksJ7_bitCount_0 7 rfl rfl)
theorem dJ7_bitCount_8 : decode cJ7_bitCount 8 = .ok (.isub, 1) := dk_100 (dk_at dksJ7_bitCount_0 8 rfl rfl)
theorem dJ7_bitCount_9 : decode cJ7_bitCount 9 = .ok (.istore_n 0, 1) := dk_59 (dk_at dksJ7_bitCount_0 9 rfl rfl)
theorem dJ7_bitCount_10 : decode cJ7_bitCount 10 = .ok (.iload_n 0, 1) := dk_26 (dk_at dksJ7_bitCount_0 10 rfl rfl)
theorem dJ7_bitCount_11 : decode cJ7_bitCount 11 = .ok (.ldc_w 266, 3) := dk_19 1 10 (dk_at dksJ7_bitCount_0 11 rfl rfl)
theorem dJ7_bitCount_14 : decode cJ7_bitCount 14 = .ok (.iand, 1) := dk_126 (dk_at dksJ7_bitCount_0 14 rfl rfl)
theorem dJ7_bitCount_15 : decode cJ7_bitCount 15 = .ok (.iload_n 0, 1) := dk_26 (dk_at dksJ7_bitCount_0 15 rfl rfl)
theorem dJ7_bitCount_16 : decode cJ7_bitCount 16 = .ok (.iconst 2, 1) := dk_5 (dk_at dksJ7_bitCount_0 16 rfl rfl)
theorem dJ7_bitCount_17 : decode cJ7_bitCount 17 = .ok (.iushr, 1) := dk_124 (dk_at dksJ7_bitCount_0 17 rfl rfl)
theorem dJ7_bitCount_18 : decode cJ7_bitCount 18 = .ok (.ldc_w 266, 3) := dk_19 1 10 (dk_at dksJ7_bitCount_0 18 rfl rfl)
theorem dJ7_bitCount_21 : decode cJ7_bitCount 21 = .ok (.iand, 1) := dk_126 (dk_at dksJ7_bitCount_0 21 rfl rfl)
theorem dJ7_bitCount_22 : decode cJ7_bitCount 22 = .ok (.iadd, 1) := dk_96 (dk_at dksJ7_bitCount_0 22 rfl rfl)
theorem dJ7_bitCount_23 : decode cJ7_bitCount 23 = .ok (.istore_n 0, 1) := dk_59 (dk_at dksJ7_bitCount_0 23 rfl rfl)
theorem dJ7_bitCount_24 : decode cJ7_bitCount 24 = .ok (.iload_n 0, 1) := dk_26 (dk_at dksJ7_bitCount_1 0 rfl rfl)
theorem dJ7_bitCount_25 : decode cJ7_bitCount 25 = .ok (.iload_n 0, 1) := dk_26 (dk_at dksJ7_bitCount_1 1 rfl rfl)
theorem dJ7_bitCount_26 : decode cJ7_bitCount 26 = .ok (.iconst 4, 1) := dk_7 (dk_at dksJ7_bitCount_1 2 rfl rfl)
theorem dJ7_bitCount_27 : decode cJ7_bitCount 27 = .ok (.iushr, 1) := dk_124 (dk_at dksJ7_bitCount_1 3 rfl rfl)
theorem dJ7_bitCount_28 : decode cJ7_bitCount 28 = .ok (.iadd, 1) := dk_96 (dk_at dksJ7_bitCount_1 4 rfl rfl)
theorem dJ7_bitCount_29 : decode cJ7_bitCount 29 = .ok (.ldc_w 267, 3) := dk_19 1 11 (dk_at dksJ7_bitCount_1 5 rfl rfl)
theorem dJ7_bitCount_32 : decode cJ7_bitCount 32 = .ok (.iand, 1) := dk_126 (dk_at dksJ7_bitCount_1 8 rfl rfl)
theorem dJ7_bitCount_33 : decode cJ7_bitCount 33 = .ok (.istore_n 0, 1) := dk_59 (dk_at dksJ7_bitCount_1 9 rfl rfl)
theorem dJ7_bitCount_34 : decode cJ7_bitCount 34 = .ok (.iload_n 0, 1) := dk_26 (dk_at dksJ7_bitCount_1 10 rfl rfl)
theorem dJ7_bitCount_35 : decode cJ7_bitCount 35 = .ok (.iload_n 0, 1) := dk_26 (dk_at dksJ7_bitCount_1 11 rfl rfl)
theorem dJ7_bitCount_36 : decode cJ7_bitCount 36 = .ok (.bipush 8, 2) := dk_16 8 (dk_at dksJ7_bitCount_1 12 rfl rfl)
theorem dJ7_bitCount_38 : decode cJ7_bitCount 38 = .ok (.iushr, 1) := dk_124 (dk_at dksJ7_bitCount_1 14 rfl rfl)
theorem dJ7_bitCount_39 : decode cJ7_bitCount 39 = .ok (.iadd, 1) := dk_96 (dk_at dksJ7_bitCount_1 15 rfl rfl)
theorem dJ7_bitCount_40 : decode cJ7_bitCount 40 = .ok (.istore_n 0, 1) := dk_59 (dk_at dksJ7_bitCount_1 16 rfl rfl)
theorem dJ7_bitCount_41 : decode cJ7_bitCount 41 = .ok (.iload_n 0, 1) := dk_26 (dk_at dksJ7_bitCount_1 17 rfl rfl)
theorem dJ7_bitCount_42 : decode cJ7_bitCount 42 = .ok (.iload_n 0, 1) := dk_26 (dk_at dksJ7_bitCount_1 18 rfl rfl)
theorem dJ7_bitCount_43 : decode cJ7_bitCount 43 = .ok (.bipush 16, 2) := dk_16 16 (dk_at dksJ7_bitCount_1 19 rfl rfl)
theorem dJ7_bitCount_45 : decode cJ7_bitCount 45 = .ok (.iushr, 1) := dk_124 (dk_at dksJ7_bitCount_1 21 rfl rfl)
theorem dJ7_bitCount_46 : decode cJ7_bitCount 46 = .ok (.iadd, 1) := dk_96 (dk_at dksJ7_bitCount_1 22 rfl rfl)
theorem dJ7_bitCount_47 : decode cJ7_bitCount 47 = .ok (.istore_n 0, 1) := dk_59 (dk_at dksJ7_bitCount_1 23 rfl rfl)
theorem dJ7_bitCount_48 : decode cJ7_bitCount 48 = .ok (.iload_n 0, 1) := dk_26 (dk_at dksJ7_bitCount_2 0 rfl rfl)
theorem dJ7_bitCount_49 : decode cJ7_bitCount 49 = .ok (.bipush 63, 2) := dk_16 63 (dk_at dksJ7_bitCount_2 1 rfl rfl)
theorem dJ7_bitCount_51 : decode cJ7_bitCount 51 = .ok (.iand, 1) := dk_126 (dk_at dksJ7_bitCount_2 3 rfl rfl)
theorem dJ7_bitCount_52 : decode cJ7_bitCount 52 = .ok (.ireturn, 1) := dk_172 (dk_at dksJ7_bitCount_2 4 rfl rfl)
theorem q82 : (Jvm.Cond.initialized "java/lang/Integer") ∈ lw_all := lw_g (lw_at lw_m1 19 rfl) rfl
theorem q672 : (Jvm.Cond.static ({ cls := "java/lang/Integer", name := "bitCount", desc := "(I)I" } : Jvm.MethodName)) ∈ lw_all := lw_g (lw_at lw_m3 129 rfl) rfl
theorem q673 : (Jvm.Cond.code ({ cls := "java/lang/Integer", name := "bitCount", desc := "(I)I" } : Jvm.MethodName) prog_16_method_49_code (1 : Nat) (Option.some Jvm.ClassFile.FieldType.int)) ∈ lw_all := lw_g (lw_at lw_m3 130 rfl) rfl
theorem q674 : (Jvm.Cond.constant "java/lang/Integer" (265 : Nat) (1431655765 : Int32)) ∈ lw_all := lw_g (lw_at lw_m3 131 rfl) rfl
theorem q675 : (Jvm.Cond.constant "java/lang/Integer" (266 : Nat) (858993459 : Int32)) ∈ lw_all := lw_g (lw_at lw_m3 132 rfl) rfl
theorem q676 : (Jvm.Cond.constant "java/lang/Integer" (267 : Nat) (252645135 : Int32)) ∈ lw_all := lw_g (lw_at lw_m3 133 rfl) rfl

/-! ClockWard$Plain -/
set_option maxRecDepth 100000
def RX1 : String := "ClockWard$Plain"
abbrev cX1_init : ByteArray := prog_5_method_1_code
def yX1_init : MethodName := ⟨RX1, "<init>", "()V"⟩
theorem dX1_init_0 : decode cX1_init 0 = .ok (.aload_n 0, 1) := by decide +kernel
theorem dX1_init_1 : decode cX1_init 1 = .ok (.invokespecial 1, 3) := by decide +kernel
theorem dX1_init_4 : decode cX1_init 4 = .ok (.return_, 1) := by decide +kernel
abbrev cX1_gains : ByteArray := prog_5_method_2_code
def yX1_gains : MethodName := ⟨RX1, "gains", "(I)I"⟩
def dkwX1_gains_0 : List UInt8 := [27, 6, 100, 172]
abbrev dktX1_gains_0 : List UInt8 := dkwX1_gains_0 ++ []
theorem dksX1_gains_0 : cX1_gains.data.toList.drop 0 = dktX1_gains_0 := by decide +kernel
theorem dX1_gains_0 : decode cX1_gains 0 = .ok (.iload_n 1, 1) := dk_27 (dk_at dksX1_gains_0 0 rfl rfl)
theorem dX1_gains_1 : decode cX1_gains 1 = .ok (.iconst 3, 1) := dk_6 (dk_at dksX1_gains_0 1 rfl rfl)
theorem dX1_gains_2 : decode cX1_gains 2 = .ok (.isub, 1) := dk_100 (dk_at dksX1_gains_0 2 rfl rfl)
theorem dX1_gains_3 : decode cX1_gains 3 = .ok (.ireturn, 1) := dk_172 (dk_at dksX1_gains_0 3 rfl rfl)
theorem q65 : (Jvm.Cond.initialized "ClockWard$Plain") ∈ lw_all := lw_g (lw_at lw_m1 2 rfl) rfl
theorem q99 : (Jvm.Cond.instantiable "ClockWard$Plain" (0 : Nat)) ∈ lw_all := lw_g (lw_at lw_m1 36 rfl) rfl
theorem q101 : (Jvm.Cond.instanceMethod ({ cls := "ClockWard$Plain", name := "<init>", desc := "()V" } : Jvm.MethodName)) ∈ lw_all := lw_g (lw_at lw_m1 38 rfl) rfl
theorem q102 : (Jvm.Cond.code ({ cls := "ClockWard$Plain", name := "<init>", desc := "()V" } : Jvm.MethodName) prog_5_method_1_code (1 : Nat) (Option.none : Option Jvm.ClassFile.FieldType)) ∈ lw_all := lw_g (lw_at lw_m1 39 rfl) rfl
theorem q103 : (Jvm.Cond.methodLink "ClockWard$Plain" (1 : Nat) ({ cls := "java/lang/Object", name := "<init>", desc := "()V" } : Jvm.MethodName)) ∈ lw_all := lw_g (lw_at lw_m1 40 rfl) rfl
theorem q104 : (Jvm.Cond.superclass "ClockWard$Plain" "java/lang/Object") ∈ lw_all := lw_g (lw_at lw_m1 41 rfl) rfl
theorem q546 : (Jvm.Cond.instanceMethod ({ cls := "ClockWard$Plain", name := "gains", desc := "(I)I" } : Jvm.MethodName)) ∈ lw_all := lw_g (lw_at lw_m3 3 rfl) rfl
theorem q547 : (Jvm.Cond.selects "ClockWard$Plain" ({ cls := "ClockWard$Plain", name := "gains", desc := "(I)I" } : Jvm.MethodName) ({ cls := "ClockWard$Plain", name := "gains", desc := "(I)I" } : Jvm.MethodName)) ∈ lw_all := lw_g (lw_at lw_m3 4 rfl) rfl
theorem q548 : (Jvm.Cond.sameMethod "ClockWard$Plain" "ClockWard$Plain" "gains" "(I)I") ∈ lw_all := lw_g (lw_at lw_m3 5 rfl) rfl
theorem q561 : (Jvm.Cond.code ({ cls := "ClockWard$Plain", name := "gains", desc := "(I)I" } : Jvm.MethodName) prog_5_method_2_code (2 : Nat) (Option.some Jvm.ClassFile.FieldType.int)) ∈ lw_all := lw_g (lw_at lw_m3 18 rfl) rfl

/-! ClockWard$Cuckoo -/
set_option maxRecDepth 100000
def RX2 : String := "ClockWard$Cuckoo"
abbrev cX2_init : ByteArray := prog_3_method_1_code
def yX2_init : MethodName := ⟨RX2, "<init>", "()V"⟩
theorem dX2_init_0 : decode cX2_init 0 = .ok (.aload_n 0, 1) := by decide +kernel
theorem dX2_init_1 : decode cX2_init 1 = .ok (.invokespecial 1, 3) := by decide +kernel
theorem dX2_init_4 : decode cX2_init 4 = .ok (.return_, 1) := by decide +kernel
abbrev cX2_gains : ByteArray := prog_3_method_2_code
def yX2_gains : MethodName := ⟨RX2, "gains", "(I)I"⟩
def dkwX2_gains_0 : List UInt8 := [5, 42, 27, 183, 0, 7, 104, 172]
abbrev dktX2_gains_0 : List UInt8 := dkwX2_gains_0 ++ []
theorem dksX2_gains_0 : cX2_gains.data.toList.drop 0 = dktX2_gains_0 := by decide +kernel
theorem dX2_gains_0 : decode cX2_gains 0 = .ok (.iconst 2, 1) := dk_5 (dk_at dksX2_gains_0 0 rfl rfl)
theorem dX2_gains_1 : decode cX2_gains 1 = .ok (.aload_n 0, 1) := dk_42 (dk_at dksX2_gains_0 1 rfl rfl)
theorem dX2_gains_2 : decode cX2_gains 2 = .ok (.iload_n 1, 1) := dk_27 (dk_at dksX2_gains_0 2 rfl rfl)
theorem dX2_gains_3 : decode cX2_gains 3 = .ok (.invokespecial 7, 3) := dk_183 0 7 (dk_at dksX2_gains_0 3 rfl rfl)
theorem dX2_gains_6 : decode cX2_gains 6 = .ok (.imul, 1) := dk_104 (dk_at dksX2_gains_0 6 rfl rfl)
theorem dX2_gains_7 : decode cX2_gains 7 = .ok (.ireturn, 1) := dk_172 (dk_at dksX2_gains_0 7 rfl rfl)
theorem q66 : (Jvm.Cond.initialized "ClockWard$Cuckoo") ∈ lw_all := lw_g (lw_at lw_m1 3 rfl) rfl
theorem q106 : (Jvm.Cond.instantiable "ClockWard$Cuckoo" (0 : Nat)) ∈ lw_all := lw_g (lw_at lw_m1 43 rfl) rfl
theorem q108 : (Jvm.Cond.instanceMethod ({ cls := "ClockWard$Cuckoo", name := "<init>", desc := "()V" } : Jvm.MethodName)) ∈ lw_all := lw_g (lw_at lw_m1 45 rfl) rfl
theorem q109 : (Jvm.Cond.code ({ cls := "ClockWard$Cuckoo", name := "<init>", desc := "()V" } : Jvm.MethodName) prog_3_method_1_code (1 : Nat) (Option.none : Option Jvm.ClassFile.FieldType)) ∈ lw_all := lw_g (lw_at lw_m1 46 rfl) rfl
theorem q110 : (Jvm.Cond.methodLinkNest "ClockWard$Cuckoo" (1 : Nat) ({ cls := "ClockWard$Plain", name := "<init>", desc := "()V" } : Jvm.MethodName) "ClockWard") ∈ lw_tbl := lw_at lw_m1 47 rfl
theorem q111 : (Jvm.Cond.superclass "ClockWard$Cuckoo" "ClockWard$Plain") ∈ lw_all := lw_g (lw_at lw_m1 48 rfl) rfl
theorem q553 : (Jvm.Cond.selects "ClockWard$Cuckoo" ({ cls := "ClockWard$Plain", name := "gains", desc := "(I)I" } : Jvm.MethodName) ({ cls := "ClockWard$Cuckoo", name := "gains", desc := "(I)I" } : Jvm.MethodName)) ∈ lw_all := lw_g (lw_at lw_m3 10 rfl) rfl
theorem q554 : (Jvm.Cond.instanceMethod ({ cls := "ClockWard$Cuckoo", name := "gains", desc := "(I)I" } : Jvm.MethodName)) ∈ lw_all := lw_g (lw_at lw_m3 11 rfl) rfl
theorem q555 : (Jvm.Cond.code ({ cls := "ClockWard$Cuckoo", name := "gains", desc := "(I)I" } : Jvm.MethodName) prog_3_method_2_code (2 : Nat) (Option.some Jvm.ClassFile.FieldType.int)) ∈ lw_all := lw_g (lw_at lw_m3 12 rfl) rfl
theorem q556 : (Jvm.Cond.methodLink "ClockWard$Cuckoo" (7 : Nat) ({ cls := "ClockWard$Plain", name := "gains", desc := "(I)I" } : Jvm.MethodName)) ∈ lw_all := lw_g (lw_at lw_m3 13 rfl) rfl
theorem q1336 : (Jvm.Cond.sameMethod "ClockWard$Cuckoo" "ClockWard$Cuckoo" "gains" "(I)I") ∈ lw_all := lw_g (lw_at lw_m6 73 rfl) rfl
theorem q1338 : (Jvm.Cond.castable "ClockWard$Cuckoo" "ClockWard$Plain") ∈ lw_tbl := lw_at lw_m6 75 rfl

/-! ClockWard$Tower -/
set_option maxRecDepth 100000
def RX3 : String := "ClockWard$Tower"
abbrev cX3_init : ByteArray := prog_8_method_1_code
def yX3_init : MethodName := ⟨RX3, "<init>", "()V"⟩
theorem dX3_init_0 : decode cX3_init 0 = .ok (.aload_n 0, 1) := by decide +kernel
theorem dX3_init_1 : decode cX3_init 1 = .ok (.invokespecial 1, 3) := by decide +kernel
theorem dX3_init_4 : decode cX3_init 4 = .ok (.return_, 1) := by decide +kernel
abbrev cX3_gains : ByteArray := prog_8_method_2_code
def yX3_gains : MethodName := ⟨RX3, "gains", "(I)I"⟩
def dkwX3_gains_0 : List UInt8 := [42, 27, 183, 0, 7, 4, 100, 172]
abbrev dktX3_gains_0 : List UInt8 := dkwX3_gains_0 ++ []
theorem dksX3_gains_0 : cX3_gains.data.toList.drop 0 = dktX3_gains_0 := by decide +kernel
theorem dX3_gains_0 : decode cX3_gains 0 = .ok (.aload_n 0, 1) := dk_42 (dk_at dksX3_gains_0 0 rfl rfl)
theorem dX3_gains_1 : decode cX3_gains 1 = .ok (.iload_n 1, 1) := dk_27 (dk_at dksX3_gains_0 1 rfl rfl)
theorem dX3_gains_2 : decode cX3_gains 2 = .ok (.invokespecial 7, 3) := dk_183 0 7 (dk_at dksX3_gains_0 2 rfl rfl)
theorem dX3_gains_5 : decode cX3_gains 5 = .ok (.iconst 1, 1) := dk_4 (dk_at dksX3_gains_0 5 rfl rfl)
theorem dX3_gains_6 : decode cX3_gains 6 = .ok (.isub, 1) := dk_100 (dk_at dksX3_gains_0 6 rfl rfl)
theorem dX3_gains_7 : decode cX3_gains 7 = .ok (.ireturn, 1) := dk_172 (dk_at dksX3_gains_0 7 rfl rfl)
theorem q67 : (Jvm.Cond.initialized "ClockWard$Tower") ∈ lw_all := lw_g (lw_at lw_m1 4 rfl) rfl
theorem q113 : (Jvm.Cond.instantiable "ClockWard$Tower" (0 : Nat)) ∈ lw_all := lw_g (lw_at lw_m1 50 rfl) rfl
theorem q115 : (Jvm.Cond.instanceMethod ({ cls := "ClockWard$Tower", name := "<init>", desc := "()V" } : Jvm.MethodName)) ∈ lw_all := lw_g (lw_at lw_m1 52 rfl) rfl
theorem q116 : (Jvm.Cond.code ({ cls := "ClockWard$Tower", name := "<init>", desc := "()V" } : Jvm.MethodName) prog_8_method_1_code (1 : Nat) (Option.none : Option Jvm.ClassFile.FieldType)) ∈ lw_all := lw_g (lw_at lw_m1 53 rfl) rfl
theorem q117 : (Jvm.Cond.methodLinkNest "ClockWard$Tower" (1 : Nat) ({ cls := "ClockWard$Cuckoo", name := "<init>", desc := "()V" } : Jvm.MethodName) "ClockWard") ∈ lw_tbl := lw_at lw_m1 54 rfl
theorem q118 : (Jvm.Cond.superclass "ClockWard$Tower" "ClockWard$Cuckoo") ∈ lw_all := lw_g (lw_at lw_m1 55 rfl) rfl
theorem q557 : (Jvm.Cond.selects "ClockWard$Tower" ({ cls := "ClockWard$Plain", name := "gains", desc := "(I)I" } : Jvm.MethodName) ({ cls := "ClockWard$Tower", name := "gains", desc := "(I)I" } : Jvm.MethodName)) ∈ lw_all := lw_g (lw_at lw_m3 14 rfl) rfl
theorem q558 : (Jvm.Cond.instanceMethod ({ cls := "ClockWard$Tower", name := "gains", desc := "(I)I" } : Jvm.MethodName)) ∈ lw_all := lw_g (lw_at lw_m3 15 rfl) rfl
theorem q559 : (Jvm.Cond.code ({ cls := "ClockWard$Tower", name := "gains", desc := "(I)I" } : Jvm.MethodName) prog_8_method_2_code (2 : Nat) (Option.some Jvm.ClassFile.FieldType.int)) ∈ lw_all := lw_g (lw_at lw_m3 16 rfl) rfl
theorem q560 : (Jvm.Cond.methodLink "ClockWard$Tower" (7 : Nat) ({ cls := "ClockWard$Cuckoo", name := "gains", desc := "(I)I" } : Jvm.MethodName)) ∈ lw_all := lw_g (lw_at lw_m3 17 rfl) rfl
theorem q1339 : (Jvm.Cond.castable "ClockWard$Tower" "ClockWard$Plain") ∈ lw_tbl := lw_at lw_m6 76 rfl

/-! ClockWard$Back -/
set_option maxRecDepth 100000
def RX4 : String := "ClockWard$Back"
abbrev cX4_init : ByteArray := prog_2_method_1_code
def yX4_init : MethodName := ⟨RX4, "<init>", "()V"⟩
theorem dX4_init_0 : decode cX4_init 0 = .ok (.aload_n 0, 1) := by decide +kernel
theorem dX4_init_1 : decode cX4_init 1 = .ok (.invokespecial 1, 3) := by decide +kernel
theorem dX4_init_4 : decode cX4_init 4 = .ok (.return_, 1) := by decide +kernel
abbrev cX4_gains : ByteArray := prog_2_method_2_code
def yX4_gains : MethodName := ⟨RX4, "gains", "(I)I"⟩
def dkwX4_gains_0 : List UInt8 := [42, 27, 183, 0, 7, 116, 172]
abbrev dktX4_gains_0 : List UInt8 := dkwX4_gains_0 ++ []
theorem dksX4_gains_0 : cX4_gains.data.toList.drop 0 = dktX4_gains_0 := by decide +kernel
theorem dX4_gains_0 : decode cX4_gains 0 = .ok (.aload_n 0, 1) := dk_42 (dk_at dksX4_gains_0 0 rfl rfl)
theorem dX4_gains_1 : decode cX4_gains 1 = .ok (.iload_n 1, 1) := dk_27 (dk_at dksX4_gains_0 1 rfl rfl)
theorem dX4_gains_2 : decode cX4_gains 2 = .ok (.invokespecial 7, 3) := dk_183 0 7 (dk_at dksX4_gains_0 2 rfl rfl)
theorem dX4_gains_5 : decode cX4_gains 5 = .ok (.ineg, 1) := dk_116 (dk_at dksX4_gains_0 5 rfl rfl)
theorem dX4_gains_6 : decode cX4_gains 6 = .ok (.ireturn, 1) := dk_172 (dk_at dksX4_gains_0 6 rfl rfl)
theorem q68 : (Jvm.Cond.initialized "ClockWard$Back") ∈ lw_all := lw_g (lw_at lw_m1 5 rfl) rfl
theorem q120 : (Jvm.Cond.instantiable "ClockWard$Back" (0 : Nat)) ∈ lw_all := lw_g (lw_at lw_m1 57 rfl) rfl
theorem q122 : (Jvm.Cond.instanceMethod ({ cls := "ClockWard$Back", name := "<init>", desc := "()V" } : Jvm.MethodName)) ∈ lw_all := lw_g (lw_at lw_m1 59 rfl) rfl
theorem q123 : (Jvm.Cond.code ({ cls := "ClockWard$Back", name := "<init>", desc := "()V" } : Jvm.MethodName) prog_2_method_1_code (1 : Nat) (Option.none : Option Jvm.ClassFile.FieldType)) ∈ lw_all := lw_g (lw_at lw_m1 60 rfl) rfl
theorem q124 : (Jvm.Cond.methodLinkNest "ClockWard$Back" (1 : Nat) ({ cls := "ClockWard$Plain", name := "<init>", desc := "()V" } : Jvm.MethodName) "ClockWard") ∈ lw_tbl := lw_at lw_m1 61 rfl
theorem q125 : (Jvm.Cond.superclass "ClockWard$Back" "ClockWard$Plain") ∈ lw_all := lw_g (lw_at lw_m1 62 rfl) rfl
theorem q549 : (Jvm.Cond.selects "ClockWard$Back" ({ cls := "ClockWard$Plain", name := "gains", desc := "(I)I" } : Jvm.MethodName) ({ cls := "ClockWard$Back", name := "gains", desc := "(I)I" } : Jvm.MethodName)) ∈ lw_all := lw_g (lw_at lw_m3 6 rfl) rfl
theorem q550 : (Jvm.Cond.instanceMethod ({ cls := "ClockWard$Back", name := "gains", desc := "(I)I" } : Jvm.MethodName)) ∈ lw_all := lw_g (lw_at lw_m3 7 rfl) rfl
theorem q551 : (Jvm.Cond.code ({ cls := "ClockWard$Back", name := "gains", desc := "(I)I" } : Jvm.MethodName) prog_2_method_2_code (2 : Nat) (Option.some Jvm.ClassFile.FieldType.int)) ∈ lw_all := lw_g (lw_at lw_m3 8 rfl) rfl
theorem q552 : (Jvm.Cond.methodLink "ClockWard$Back" (7 : Nat) ({ cls := "ClockWard$Plain", name := "gains", desc := "(I)I" } : Jvm.MethodName)) ∈ lw_all := lw_g (lw_at lw_m3 9 rfl) rfl
theorem q1340 : (Jvm.Cond.castable "ClockWard$Back" "ClockWard$Plain") ∈ lw_tbl := lw_at lw_m6 77 rfl

/-! ClockWard$Ward -/
set_option maxRecDepth 100000
def RX5 : String := "ClockWard$Ward"
def TX5 : u_T := fun k => match k with
  | 0 => ("ClockWard$Ward", "clocks", "I", false)
  | 1 => ("ClockWard$Ward", "clock", "[B", true)
  | 2 => ("ClockWard$Ward", "floor", "I", false)
  | 3 => ("ClockWard$Ward", "night", "I", false)
  | 4 => ("ClockWard$Ward", "lost", "I", false)
  | 5 => ("ClockWard$Ward", "got", "[I", true)
  | 6 => ("ClockWard$Ward", "planned", "I", false)
  | _ => ("ClockWard$Ward", "plan", "[B", true)
def tyX5 : Nat → FieldType := fun k => match k with
  | 0 => .int
  | 1 => .array .byte
  | 2 => .int
  | 3 => .int
  | 4 => .int
  | 5 => .array .int
  | 6 => .int
  | _ => .array .byte
abbrev wsX50 : List Cond := u_ws RX5 TX5 8
theorem nmX5 : ∀ a, a < 8 → ∀ b, b < 8 → a ≠ b → (TX5 a).2.1 ≠ (TX5 b).2.1 := by decide +kernel
theorem tyX5_ok : ∀ k, k < 8 → parseFieldDescriptor (TX5 k).2.2.1 = some (tyX5 k) := by decide +kernel
abbrev cX5_init : ByteArray := prog_9_method_1_code
def yX5_init : MethodName := ⟨RX5, "<init>", "()V"⟩
def dkwX5_init_1 : List UInt8 := [181, 0, 19, 42, 16, 18, 188, 8, 181, 0, 23, 177]
abbrev dktX5_init_1 : List UInt8 := dkwX5_init_1 ++ []
def dkwX5_init_0 : List UInt8 := [42, 183, 0, 3, 42, 16, 20, 188, 8, 181, 0, 9, 42, 16, 40, 181, 0, 15, 42, 16, 25, 188, 10]
abbrev dktX5_init_0 : List UInt8 := dkwX5_init_0 ++ dktX5_init_1
theorem dksX5_init_0 : cX5_init.data.toList.drop 0 = dktX5_init_0 := by decide +kernel
theorem dksX5_init_1 : cX5_init.data.toList.drop 23 = dktX5_init_1 := dk_seg dksX5_init_0 23 rfl rfl
theorem dX5_init_0 : decode cX5_init 0 = .ok (.aload_n 0, 1) := dk_42 (dk_at dksX5_init_0 0 rfl rfl)
theorem dX5_init_1 : decode cX5_init 1 = .ok (.invokespecial 3, 3) := dk_183 0 3 (dk_at dksX5_init_0 1 rfl rfl)
theorem dX5_init_4 : decode cX5_init 4 = .ok (.aload_n 0, 1) := dk_42 (dk_at dksX5_init_0 4 rfl rfl)
theorem dX5_init_5 : decode cX5_init 5 = .ok (.bipush 20, 2) := dk_16 20 (dk_at dksX5_init_0 5 rfl rfl)
theorem dX5_init_7 : decode cX5_init 7 = .ok (.newarray .byte, 2) := dk_188_8 (dk_at dksX5_init_0 7 rfl rfl)
theorem dX5_init_9 : decode cX5_init 9 = .ok (.putfield 9, 3) := dk_181 0 9 (dk_at dksX5_init_0 9 rfl rfl)
theorem dX5_init_12 : decode cX5_init 12 = .ok (.aload_n 0, 1) := dk_42 (dk_at dksX5_init_0 12 rfl rfl)
theorem dX5_init_13 : decode cX5_init 13 = .ok (.bipush 40, 2) := dk_16 40 (dk_at dksX5_init_0 13 rfl rfl)
theorem dX5_init_15 : decode cX5_init 15 = .ok (.putfield 15, 3) := dk_181 0 15 (dk_at dksX5_init_0 15 rfl rfl)
theorem dX5_init_18 : decode cX5_init 18 = .ok (.aload_n 0, 1) := dk_42 (dk_at dksX5_init_0 18 rfl rfl)
theorem dX5_init_19 : decode cX5_init 19 = .ok (.bipush 25, 2) := dk_16 25 (dk_at dksX5_init_0 19 rfl rfl)
theorem dX5_init_21 : decode cX5_init 21 = .ok (.newarray .int, 2) := dk_188_10 (dk_at dksX5_init_0 21 rfl rfl)
theorem dX5_init_23 : decode cX5_init 23 = .ok (.putfield 19, 3) := dk_181 0 19 (dk_at dksX5_init_1 0 rfl rfl)
theorem dX5_init_26 : decode cX5_init 26 = .ok (.aload_n 0, 1) := dk_42 (dk_at dksX5_init_1 3 rfl rfl)
theorem dX5_init_27 : decode cX5_init 27 = .ok (.bipush 18, 2) := dk_16 18 (dk_at dksX5_init_1 4 rfl rfl)
theorem dX5_init_29 : decode cX5_init 29 = .ok (.newarray .byte, 2) := dk_188_8 (dk_at dksX5_init_1 6 rfl rfl)
theorem dX5_init_31 : decode cX5_init 31 = .ok (.putfield 23, 3) := dk_181 0 23 (dk_at dksX5_init_1 8 rfl rfl)
theorem dX5_init_34 : decode cX5_init 34 = .ok (.return_, 1) := dk_177 (dk_at dksX5_init_1 11 rfl rfl)
abbrev cX5_becomes : ByteArray := prog_9_method_4_code
def yX5_becomes : MethodName := ⟨RX5, "becomes", "(III)V"⟩
def dkwX5_becomes_0 : List UInt8 := [42, 180, 0, 9, 7, 27, 104, 28, 96, 29, 145, 84, 177]
abbrev dktX5_becomes_0 : List UInt8 := dkwX5_becomes_0 ++ []
theorem dksX5_becomes_0 : cX5_becomes.data.toList.drop 0 = dktX5_becomes_0 := by decide +kernel
theorem dX5_becomes_0 : decode cX5_becomes 0 = .ok (.aload_n 0, 1) := dk_42 (dk_at dksX5_becomes_0 0 rfl rfl)
theorem dX5_becomes_1 : decode cX5_becomes 1 = .ok (.getfield 9, 3) := dk_180 0 9 (dk_at dksX5_becomes_0 1 rfl rfl)
theorem dX5_becomes_4 : decode cX5_becomes 4 = .ok (.iconst 4, 1) := dk_7 (dk_at dksX5_becomes_0 4 rfl rfl)
theorem dX5_becomes_5 : decode cX5_becomes 5 = .ok (.iload_n 1, 1) := dk_27 (dk_at dksX5_becomes_0 5 rfl rfl)
theorem dX5_becomes_6 : decode cX5_becomes 6 = .ok (.imul, 1) := dk_104 (dk_at dksX5_becomes_0 6 rfl rfl)
theorem dX5_becomes_7 : decode cX5_becomes 7 = .ok (.iload_n 2, 1) := dk_28 (dk_at dksX5_becomes_0 7 rfl rfl)
theorem dX5_becomes_8 : decode cX5_becomes 8 = .ok (.iadd, 1) := dk_96 (dk_at dksX5_becomes_0 8 rfl rfl)
theorem dX5_becomes_9 : decode cX5_becomes 9 = .ok (.iload_n 3, 1) := dk_29 (dk_at dksX5_becomes_0 9 rfl rfl)
theorem dX5_becomes_10 : decode cX5_becomes 10 = .ok (.i2b, 1) := dk_145 (dk_at dksX5_becomes_0 10 rfl rfl)
theorem dX5_becomes_11 : decode cX5_becomes 11 = .ok (.bastore, 1) := dk_84 (dk_at dksX5_becomes_0 11 rfl rfl)
theorem dX5_becomes_12 : decode cX5_becomes 12 = .ok (.return_, 1) := dk_177 (dk_at dksX5_becomes_0 12 rfl rfl)
abbrev cX5_as : ByteArray := prog_9_method_2_code
def yX5_as : MethodName := ⟨RX5, "as", "(LClockWard$Ward;)V"⟩
def dkwX5_as_3 : List UInt8 := [180, 0, 23, 3, 42, 180, 0, 23, 3, 16, 18, 184, 0, 29, 177]
abbrev dktX5_as_3 : List UInt8 := dkwX5_as_3 ++ []
def dkwX5_as_2 : List UInt8 := [180, 0, 19, 3, 42, 180, 0, 19, 3, 16, 25, 184, 0, 29, 42, 43, 180, 0, 41, 181, 0, 41, 43]
abbrev dktX5_as_2 : List UInt8 := dkwX5_as_2 ++ dktX5_as_3
def dkwX5_as_1 : List UInt8 := [43, 180, 0, 15, 181, 0, 15, 42, 43, 180, 0, 35, 181, 0, 35, 42, 43, 180, 0, 38, 181, 0, 38, 43]
abbrev dktX5_as_1 : List UInt8 := dkwX5_as_1 ++ dktX5_as_2
def dkwX5_as_0 : List UInt8 := [42, 43, 180, 0, 26, 181, 0, 26, 43, 180, 0, 9, 3, 42, 180, 0, 9, 3, 16, 20, 184, 0, 29, 42]
abbrev dktX5_as_0 : List UInt8 := dkwX5_as_0 ++ dktX5_as_1
theorem dksX5_as_0 : cX5_as.data.toList.drop 0 = dktX5_as_0 := by decide +kernel
theorem dksX5_as_1 : cX5_as.data.toList.drop 24 = dktX5_as_1 := dk_seg dksX5_as_0 24 rfl rfl
theorem dksX5_as_2 : cX5_as.data.toList.drop 48 = dktX5_as_2 := dk_seg dksX5_as_1 24 rfl rfl
theorem dksX5_as_3 : cX5_as.data.toList.drop 71 = dktX5_as_3 := dk_seg dksX5_as_2 23 rfl rfl
theorem dX5_as_0 : decode cX5_as 0 = .ok (.aload_n 0, 1) := dk_42 (dk_at dksX5_as_0 0 rfl rfl)
theorem dX5_as_1 : decode cX5_as 1 = .ok (.aload_n 1, 1) := dk_43 (dk_at dksX5_as_0 1 rfl rfl)
theorem dX5_as_2 : decode cX5_as 2 = .ok (.getfield 26, 3) := dk_180 0 26 (dk_at dksX5_as_0 2 rfl rfl)
theorem dX5_as_5 : decode cX5_as 5 = .ok (.putfield 26, 3) := dk_181 0 26 (dk_at dksX5_as_0 5 rfl rfl)
theorem dX5_as_8 : decode cX5_as 8 = .ok (.aload_n 1, 1) := dk_43 (dk_at dksX5_as_0 8 rfl rfl)
theorem dX5_as_9 : decode cX5_as 9 = .ok (.getfield 9, 3) := dk_180 0 9 (dk_at dksX5_as_0 9 rfl rfl)
theorem dX5_as_12 : decode cX5_as 12 = .ok (.iconst 0, 1) := dk_3 (dk_at dksX5_as_0 12 rfl rfl)
theorem dX5_as_13 : decode cX5_as 13 = .ok (.aload_n 0, 1) := dk_42 (dk_at dksX5_as_0 13 rfl rfl)
theorem dX5_as_14 : decode cX5_as 14 = .ok (.getfield 9, 3) := dk_180 0 9 (dk_at dksX5_as_0 14 rfl rfl)
theorem dX5_as_17 : decode cX5_as 17 = .ok (.iconst 0, 1) := dk_3 (dk_at dksX5_as_0 17 rfl rfl)
theorem dX5_as_18 : decode cX5_as 18 = .ok (.bipush 20, 2) := dk_16 20 (dk_at dksX5_as_0 18 rfl rfl)
theorem dX5_as_20 : decode cX5_as 20 = .ok (.invokestatic 29, 3) := dk_184 0 29 (dk_at dksX5_as_0 20 rfl rfl)
theorem dX5_as_23 : decode cX5_as 23 = .ok (.aload_n 0, 1) := dk_42 (dk_at dksX5_as_0 23 rfl rfl)
theorem dX5_as_24 : decode cX5_as 24 = .ok (.aload_n 1, 1) := dk_43 (dk_at dksX5_as_1 0 rfl rfl)
theorem dX5_as_25 : decode cX5_as 25 = .ok (.getfield 15, 3) := dk_180 0 15 (dk_at dksX5_as_1 1 rfl rfl)
theorem dX5_as_28 : decode cX5_as 28 = .ok (.putfield 15, 3) := dk_181 0 15 (dk_at dksX5_as_1 4 rfl rfl)
theorem dX5_as_31 : decode cX5_as 31 = .ok (.aload_n 0, 1) := dk_42 (dk_at dksX5_as_1 7 rfl rfl)
theorem dX5_as_32 : decode cX5_as 32 = .ok (.aload_n 1, 1) := dk_43 (dk_at dksX5_as_1 8 rfl rfl)
theorem dX5_as_33 : decode cX5_as 33 = .ok (.getfield 35, 3) := dk_180 0 35 (dk_at dksX5_as_1 9 rfl rfl)
theorem dX5_as_36 : decode cX5_as 36 = .ok (.putfield 35, 3) := dk_181 0 35 (dk_at dksX5_as_1 12 rfl rfl)
theorem dX5_as_39 : decode cX5_as 39 = .ok (.aload_n 0, 1) := dk_42 (dk_at dksX5_as_1 15 rfl rfl)
theorem dX5_as_40 : decode cX5_as 40 = .ok (.aload_n 1, 1) := dk_43 (dk_at dksX5_as_1 16 rfl rfl)
theorem dX5_as_41 : decode cX5_as 41 = .ok (.getfield 38, 3) := dk_180 0 38 (dk_at dksX5_as_1 17 rfl rfl)
theorem dX5_as_44 : decode cX5_as 44 = .ok (.putfield 38, 3) := dk_181 0 38 (dk_at dksX5_as_1 20 rfl rfl)
theorem dX5_as_47 : decode cX5_as 47 = .ok (.aload_n 1, 1) := dk_43 (dk_at dksX5_as_1 23 rfl rfl)
theorem dX5_as_48 : decode cX5_as 48 = .ok (.getfield 19, 3) := dk_180 0 19 (dk_at dksX5_as_2 0 rfl rfl)
theorem dX5_as_51 : decode cX5_as 51 = .ok (.iconst 0, 1) := dk_3 (dk_at dksX5_as_2 3 rfl rfl)
theorem dX5_as_52 : decode cX5_as 52 = .ok (.aload_n 0, 1) := dk_42 (dk_at dksX5_as_2 4 rfl rfl)
theorem dX5_as_53 : decode cX5_as 53 = .ok (.getfield 19, 3) := dk_180 0 19 (dk_at dksX5_as_2 5 rfl rfl)
theorem dX5_as_56 : decode cX5_as 56 = .ok (.iconst 0, 1) := dk_3 (dk_at dksX5_as_2 8 rfl rfl)
theorem dX5_as_57 : decode cX5_as 57 = .ok (.bipush 25, 2) := dk_16 25 (dk_at dksX5_as_2 9 rfl rfl)
theorem dX5_as_59 : decode cX5_as 59 = .ok (.invokestatic 29, 3) := dk_184 0 29 (dk_at dksX5_as_2 11 rfl rfl)
theorem dX5_as_62 : decode cX5_as 62 = .ok (.aload_n 0, 1) := dk_42 (dk_at dksX5_as_2 14 rfl rfl)
theorem dX5_as_63 : decode cX5_as 63 = .ok (.aload_n 1, 1) := dk_43 (dk_at dksX5_as_2 15 rfl rfl)
theorem dX5_as_64 : decode cX5_as 64 = .ok (.getfield 41, 3) := dk_180 0 41 (dk_at dksX5_as_2 16 rfl rfl)
theorem dX5_as_67 : decode cX5_as 67 = .ok (.putfield 41, 3) := dk_181 0 41 (dk_at dksX5_as_2 19 rfl rfl)
theorem dX5_as_70 : decode cX5_as 70 = .ok (.aload_n 1, 1) := dk_43 (dk_at dksX5_as_2 22 rfl rfl)
theorem dX5_as_71 : decode cX5_as 71 = .ok (.getfield 23, 3) := dk_180 0 23 (dk_at dksX5_as_3 0 rfl rfl)
theorem dX5_as_74 : decode cX5_as 74 = .ok (.iconst 0, 1) := dk_3 (dk_at dksX5_as_3 3 rfl rfl)
theorem dX5_as_75 : decode cX5_as 75 = .ok (.aload_n 0, 1) := dk_42 (dk_at dksX5_as_3 4 rfl rfl)
theorem dX5_as_76 : decode cX5_as 76 = .ok (.getfield 23, 3) := dk_180 0 23 (dk_at dksX5_as_3 5 rfl rfl)
theorem dX5_as_79 : decode cX5_as 79 = .ok (.iconst 0, 1) := dk_3 (dk_at dksX5_as_3 8 rfl rfl)
theorem dX5_as_80 : decode cX5_as 80 = .ok (.bipush 18, 2) := dk_16 18 (dk_at dksX5_as_3 9 rfl rfl)
theorem dX5_as_82 : decode cX5_as 82 = .ok (.invokestatic 29, 3) := dk_184 0 29 (dk_at dksX5_as_3 11 rfl rfl)
theorem dX5_as_85 : decode cX5_as 85 = .ok (.return_, 1) := dk_177 (dk_at dksX5_as_3 14 rfl rfl)
abbrev cX5_right : ByteArray := prog_9_method_9_code
def yX5_right : MethodName := ⟨RX5, "right", "()I"⟩
def dkwX5_right_1 : List UInt8 := [4, 28, 120, 167, 0, 4, 3, 128, 60, 132, 2, 1, 167, 255, 224, 27, 172]
abbrev dktX5_right_1 : List UInt8 := dkwX5_right_1 ++ []
def dkwX5_right_0 : List UInt8 := [3, 60, 3, 61, 28, 42, 180, 0, 26, 162, 0, 30, 27, 42, 28, 6, 182, 0, 44, 16, 50, 160, 0, 9]
abbrev dktX5_right_0 : List UInt8 := dkwX5_right_0 ++ dktX5_right_1
theorem dksX5_right_0 : cX5_right.data.toList.drop 0 = dktX5_right_0 := by decide +kernel
theorem dksX5_right_1 : cX5_right.data.toList.drop 24 = dktX5_right_1 := dk_seg dksX5_right_0 24 rfl rfl
theorem dX5_right_0 : decode cX5_right 0 = .ok (.iconst 0, 1) := dk_3 (dk_at dksX5_right_0 0 rfl rfl)
theorem dX5_right_1 : decode cX5_right 1 = .ok (.istore_n 1, 1) := dk_60 (dk_at dksX5_right_0 1 rfl rfl)
theorem dX5_right_2 : decode cX5_right 2 = .ok (.iconst 0, 1) := dk_3 (dk_at dksX5_right_0 2 rfl rfl)
theorem dX5_right_3 : decode cX5_right 3 = .ok (.istore_n 2, 1) := dk_61 (dk_at dksX5_right_0 3 rfl rfl)
theorem dX5_right_4 : decode cX5_right 4 = .ok (.iload_n 2, 1) := dk_28 (dk_at dksX5_right_0 4 rfl rfl)
theorem dX5_right_5 : decode cX5_right 5 = .ok (.aload_n 0, 1) := dk_42 (dk_at dksX5_right_0 5 rfl rfl)
theorem dX5_right_6 : decode cX5_right 6 = .ok (.getfield 26, 3) := dk_180 0 26 (dk_at dksX5_right_0 6 rfl rfl)
theorem dX5_right_9 : decode cX5_right 9 = .ok (.if_icmp .ge 30, 3) := dk_162 0 30 (dk_at dksX5_right_0 9 rfl rfl)
theorem dX5_right_12 : decode cX5_right 12 = .ok (.iload_n 1, 1) := dk_27 (dk_at dksX5_right_0 12 rfl rfl)
theorem dX5_right_13 : decode cX5_right 13 = .ok (.aload_n 0, 1) := dk_42 (dk_at dksX5_right_0 13 rfl rfl)
theorem dX5_right_14 : decode cX5_right 14 = .ok (.iload_n 2, 1) := dk_28 (dk_at dksX5_right_0 14 rfl rfl)
theorem dX5_right_15 : decode cX5_right 15 = .ok (.iconst 3, 1) := dk_6 (dk_at dksX5_right_0 15 rfl rfl)
theorem dX5_right_16 : decode cX5_right 16 = .ok (.invokevirtual 44, 3) := dk_182 0 44 (dk_at dksX5_right_0 16 rfl rfl)
theorem dX5_right_19 : decode cX5_right 19 = .ok (.bipush 50, 2) := dk_16 50 (dk_at dksX5_right_0 19 rfl rfl)
theorem dX5_right_21 : decode cX5_right 21 = .ok (.if_icmp .ne 9, 3) := dk_160 0 9 (dk_at dksX5_right_0 21 rfl rfl)
theorem dX5_right_24 : decode cX5_right 24 = .ok (.iconst 1, 1) := dk_4 (dk_at dksX5_right_1 0 rfl rfl)
theorem dX5_right_25 : decode cX5_right 25 = .ok (.iload_n 2, 1) := dk_28 (dk_at dksX5_right_1 1 rfl rfl)
theorem dX5_right_26 : decode cX5_right 26 = .ok (.ishl, 1) := dk_120 (dk_at dksX5_right_1 2 rfl rfl)
theorem dX5_right_27 : decode cX5_right 27 = .ok (.goto 4, 3) := dk_167 0 4 (dk_at dksX5_right_1 3 rfl rfl)
theorem dX5_right_30 : decode cX5_right 30 = .ok (.iconst 0, 1) := dk_3 (dk_at dksX5_right_1 6 rfl rfl)
theorem dX5_right_31 : decode cX5_right 31 = .ok (.ior, 1) := dk_128 (dk_at dksX5_right_1 7 rfl rfl)
theorem dX5_right_32 : decode cX5_right 32 = .ok (.istore_n 1, 1) := dk_60 (dk_at dksX5_right_1 8 rfl rfl)
theorem dX5_right_33 : decode cX5_right 33 = .ok (.iinc 2 1, 3) := dk_132 2 1 (dk_at dksX5_right_1 9 rfl rfl)
theorem dX5_right_36 : decode cX5_right 36 = .ok (.goto (-32), 3) := dk_167 255 224 (dk_at dksX5_right_1 12 rfl rfl)
theorem dX5_right_39 : decode cX5_right 39 = .ok (.iload_n 1, 1) := dk_27 (dk_at dksX5_right_1 15 rfl rfl)
theorem dX5_right_40 : decode cX5_right 40 = .ok (.ireturn, 1) := dk_172 (dk_at dksX5_right_1 16 rfl rfl)
abbrev cX5_of : ByteArray := prog_9_method_3_code
def yX5_of : MethodName := ⟨RX5, "of", "(II)I"⟩
def dkwX5_of_0 : List UInt8 := [42, 180, 0, 9, 7, 27, 104, 28, 96, 51, 172]
abbrev dktX5_of_0 : List UInt8 := dkwX5_of_0 ++ []
theorem dksX5_of_0 : cX5_of.data.toList.drop 0 = dktX5_of_0 := by decide +kernel
theorem dX5_of_0 : decode cX5_of 0 = .ok (.aload_n 0, 1) := dk_42 (dk_at dksX5_of_0 0 rfl rfl)
theorem dX5_of_1 : decode cX5_of 1 = .ok (.getfield 9, 3) := dk_180 0 9 (dk_at dksX5_of_0 1 rfl rfl)
theorem dX5_of_4 : decode cX5_of 4 = .ok (.iconst 4, 1) := dk_7 (dk_at dksX5_of_0 4 rfl rfl)
theorem dX5_of_5 : decode cX5_of 5 = .ok (.iload_n 1, 1) := dk_27 (dk_at dksX5_of_0 5 rfl rfl)
theorem dX5_of_6 : decode cX5_of 6 = .ok (.imul, 1) := dk_104 (dk_at dksX5_of_0 6 rfl rfl)
theorem dX5_of_7 : decode cX5_of 7 = .ok (.iload_n 2, 1) := dk_28 (dk_at dksX5_of_0 7 rfl rfl)
theorem dX5_of_8 : decode cX5_of 8 = .ok (.iadd, 1) := dk_96 (dk_at dksX5_of_0 8 rfl rfl)
theorem dX5_of_9 : decode cX5_of 9 = .ok (.baload, 1) := dk_51 (dk_at dksX5_of_0 9 rfl rfl)
theorem dX5_of_10 : decode cX5_of 10 = .ok (.ireturn, 1) := dk_172 (dk_at dksX5_of_0 10 rfl rfl)
abbrev cX5_allTimes : ByteArray := prog_9_method_10_code
def yX5_allTimes : MethodName := ⟨RX5, "allTimes", "()I"⟩
def dkwX5_allTimes_1 : List UInt8 := [167, 255, 236, 27, 172]
abbrev dktX5_allTimes_1 : List UInt8 := dkwX5_allTimes_1 ++ []
def dkwX5_allTimes_0 : List UInt8 := [3, 60, 3, 61, 28, 42, 180, 0, 26, 162, 0, 18, 27, 42, 28, 6, 182, 0, 44, 96, 60, 132, 2, 1]
abbrev dktX5_allTimes_0 : List UInt8 := dkwX5_allTimes_0 ++ dktX5_allTimes_1
theorem dksX5_allTimes_0 : cX5_allTimes.data.toList.drop 0 = dktX5_allTimes_0 := by decide +kernel
theorem dksX5_allTimes_1 : cX5_allTimes.data.toList.drop 24 = dktX5_allTimes_1 := dk_seg dksX5_allTimes_0 24 rfl rfl
theorem dX5_allTimes_0 : decode cX5_allTimes 0 = .ok (.iconst 0, 1) := dk_3 (dk_at dksX5_allTimes_0 0 rfl rfl)
theorem dX5_allTimes_1 : decode cX5_allTimes 1 = .ok (.istore_n 1, 1) := dk_60 (dk_at dksX5_allTimes_0 1 rfl rfl)
theorem dX5_allTimes_2 : decode cX5_allTimes 2 = .ok (.iconst 0, 1) := dk_3 (dk_at dksX5_allTimes_0 2 rfl rfl)
theorem dX5_allTimes_3 : decode cX5_allTimes 3 = .ok (.istore_n 2, 1) := dk_61 (dk_at dksX5_allTimes_0 3 rfl rfl)
theorem dX5_allTimes_4 : decode cX5_allTimes 4 = .ok (.iload_n 2, 1) := dk_28 (dk_at dksX5_allTimes_0 4 rfl rfl)
theorem dX5_allTimes_5 : decode cX5_allTimes 5 = .ok (.aload_n 0, 1) := dk_42 (dk_at dksX5_allTimes_0 5 rfl rfl)
theorem dX5_allTimes_6 : decode cX5_allTimes 6 = .ok (.getfield 26, 3) := dk_180 0 26 (dk_at dksX5_allTimes_0 6 rfl rfl)
theorem dX5_allTimes_9 : decode cX5_allTimes 9 = .ok (.if_icmp .ge 18, 3) := dk_162 0 18 (dk_at dksX5_allTimes_0 9 rfl rfl)
theorem dX5_allTimes_12 : decode cX5_allTimes 12 = .ok (.iload_n 1, 1) := dk_27 (dk_at dksX5_allTimes_0 12 rfl rfl)
theorem dX5_allTimes_13 : decode cX5_allTimes 13 = .ok (.aload_n 0, 1) := dk_42 (dk_at dksX5_allTimes_0 13 rfl rfl)
theorem dX5_allTimes_14 : decode cX5_allTimes 14 = .ok (.iload_n 2, 1) := dk_28 (dk_at dksX5_allTimes_0 14 rfl rfl)
theorem dX5_allTimes_15 : decode cX5_allTimes 15 = .ok (.iconst 3, 1) := dk_6 (dk_at dksX5_allTimes_0 15 rfl rfl)
theorem dX5_allTimes_16 : decode cX5_allTimes 16 = .ok (.invokevirtual 44, 3) := dk_182 0 44 (dk_at dksX5_allTimes_0 16 rfl rfl)
theorem dX5_allTimes_19 : decode cX5_allTimes 19 = .ok (.iadd, 1) := dk_96 (dk_at dksX5_allTimes_0 19 rfl rfl)
theorem dX5_allTimes_20 : decode cX5_allTimes 20 = .ok (.istore_n 1, 1) := dk_60 (dk_at dksX5_allTimes_0 20 rfl rfl)
theorem dX5_allTimes_21 : decode cX5_allTimes 21 = .ok (.iinc 2 1, 3) := dk_132 2 1 (dk_at dksX5_allTimes_0 21 rfl rfl)
theorem dX5_allTimes_24 : decode cX5_allTimes 24 = .ok (.goto (-20), 3) := dk_167 255 236 (dk_at dksX5_allTimes_1 0 rfl rfl)
theorem dX5_allTimes_27 : decode cX5_allTimes 27 = .ok (.iload_n 1, 1) := dk_27 (dk_at dksX5_allTimes_1 3 rfl rfl)
theorem dX5_allTimes_28 : decode cX5_allTimes 28 = .ok (.ireturn, 1) := dk_172 (dk_at dksX5_allTimes_1 4 rfl rfl)
abbrev cX5_mayBe : ByteArray := prog_9_method_7_code
def yX5_mayBe : MethodName := ⟨RX5, "mayBe", "(III)Z"⟩
def dkwX5_mayBe_3 : List UInt8 := [182, 0, 52, 96, 16, 99, 163, 0, 7, 4, 167, 0, 4, 3, 172]
abbrev dktX5_mayBe_3 : List UInt8 := dkwX5_mayBe_3 ++ []
def dkwX5_mayBe_2 : List UInt8 := [182, 0, 44, 29, 100, 42, 180, 0, 15, 161, 0, 26, 42, 28, 6, 182, 0, 44, 42, 27, 28, 29]
abbrev dktX5_mayBe_2 : List UInt8 := dkwX5_mayBe_2 ++ dktX5_mayBe_3
def dkwX5_mayBe_1 : List UInt8 := [182, 0, 44, 4, 159, 0, 7, 4, 167, 0, 4, 3, 54, 4, 21, 4, 153, 0, 41, 42, 27, 6]
abbrev dktX5_mayBe_1 : List UInt8 := dkwX5_mayBe_1 ++ dktX5_mayBe_2
def dkwX5_mayBe_0 : List UInt8 := [42, 27, 28, 182, 0, 48, 154, 0, 23, 42, 27, 3, 182, 0, 44, 5, 160, 0, 17, 42, 28, 3]
abbrev dktX5_mayBe_0 : List UInt8 := dkwX5_mayBe_0 ++ dktX5_mayBe_1
theorem dksX5_mayBe_0 : cX5_mayBe.data.toList.drop 0 = dktX5_mayBe_0 := by decide +kernel
theorem dksX5_mayBe_1 : cX5_mayBe.data.toList.drop 22 = dktX5_mayBe_1 := dk_seg dksX5_mayBe_0 22 rfl rfl
theorem dksX5_mayBe_2 : cX5_mayBe.data.toList.drop 44 = dktX5_mayBe_2 := dk_seg dksX5_mayBe_1 22 rfl rfl
theorem dksX5_mayBe_3 : cX5_mayBe.data.toList.drop 66 = dktX5_mayBe_3 := dk_seg dksX5_mayBe_2 22 rfl rfl
theorem dX5_mayBe_0 : decode cX5_mayBe 0 = .ok (.aload_n 0, 1) := dk_42 (dk_at dksX5_mayBe_0 0 rfl rfl)
theorem dX5_mayBe_1 : decode cX5_mayBe 1 = .ok (.iload_n 1, 1) := dk_27 (dk_at dksX5_mayBe_0 1 rfl rfl)
theorem dX5_mayBe_2 : decode cX5_mayBe 2 = .ok (.iload_n 2, 1) := dk_28 (dk_at dksX5_mayBe_0 2 rfl rfl)
theorem dX5_mayBe_3 : decode cX5_mayBe 3 = .ok (.invokevirtual 48, 3) := dk_182 0 48 (dk_at dksX5_mayBe_0 3 rfl rfl)
theorem dX5_mayBe_6 : decode cX5_mayBe 6 = .ok (.ifCond .ne 23, 3) := dk_154 0 23 (dk_at dksX5_mayBe_0 6 rfl rfl)
theorem dX5_mayBe_9 : decode cX5_mayBe 9 = .ok (.aload_n 0, 1) := dk_42 (dk_at dksX5_mayBe_0 9 rfl rfl)
theorem dX5_mayBe_10 : decode cX5_mayBe 10 = .ok (.iload_n 1, 1) := dk_27 (dk_at dksX5_mayBe_0 10 rfl rfl)
theorem dX5_mayBe_11 : decode cX5_mayBe 11 = .ok (.iconst 0, 1) := dk_3 (dk_at dksX5_mayBe_0 11 rfl rfl)
theorem dX5_mayBe_12 : decode cX5_mayBe 12 = .ok (.invokevirtual 44, 3) := dk_182 0 44 (dk_at dksX5_mayBe_0 12 rfl rfl)
theorem dX5_mayBe_15 : decode cX5_mayBe 15 = .ok (.iconst 2, 1) := dk_5 (dk_at dksX5_mayBe_0 15 rfl rfl)
theorem dX5_mayBe_16 : decode cX5_mayBe 16 = .ok (.if_icmp .ne 17, 3) := dk_160 0 17 (dk_at dksX5_mayBe_0 16 rfl rfl)
theorem dX5_mayBe_19 : decode cX5_mayBe 19 = .ok (.aload_n 0, 1) := dk_42 (dk_at dksX5_mayBe_0 19 rfl rfl)
theorem dX5_mayBe_20 : decode cX5_mayBe 20 = .ok (.iload_n 2, 1) := dk_28 (dk_at dksX5_mayBe_0 20 rfl rfl)
theorem dX5_mayBe_21 : decode cX5_mayBe 21 = .ok (.iconst 0, 1) := dk_3 (dk_at dksX5_mayBe_0 21 rfl rfl)
theorem dX5_mayBe_22 : decode cX5_mayBe 22 = .ok (.invokevirtual 44, 3) := dk_182 0 44 (dk_at dksX5_mayBe_1 0 rfl rfl)
theorem dX5_mayBe_25 : decode cX5_mayBe 25 = .ok (.iconst 1, 1) := dk_4 (dk_at dksX5_mayBe_1 3 rfl rfl)
theorem dX5_mayBe_26 : decode cX5_mayBe 26 = .ok (.if_icmp .eq 7, 3) := dk_159 0 7 (dk_at dksX5_mayBe_1 4 rfl rfl)
theorem dX5_mayBe_29 : decode cX5_mayBe 29 = .ok (.iconst 1, 1) := dk_4 (dk_at dksX5_mayBe_1 7 rfl rfl)
theorem dX5_mayBe_30 : decode cX5_mayBe 30 = .ok (.goto 4, 3) := dk_167 0 4 (dk_at dksX5_mayBe_1 8 rfl rfl)
theorem dX5_mayBe_33 : decode cX5_mayBe 33 = .ok (.iconst 0, 1) := dk_3 (dk_at dksX5_mayBe_1 11 rfl rfl)
theorem dX5_mayBe_34 : decode cX5_mayBe 34 = .ok (.istore 4, 2) := dk_54 4 (dk_at dksX5_mayBe_1 12 rfl rfl)
theorem dX5_mayBe_36 : decode cX5_mayBe 36 = .ok (.iload 4, 2) := dk_21 4 (dk_at dksX5_mayBe_1 14 rfl rfl)
theorem dX5_mayBe_38 : decode cX5_mayBe 38 = .ok (.ifCond .eq 41, 3) := dk_153 0 41 (dk_at dksX5_mayBe_1 16 rfl rfl)
theorem dX5_mayBe_41 : decode cX5_mayBe 41 = .ok (.aload_n 0, 1) := dk_42 (dk_at dksX5_mayBe_1 19 rfl rfl)
theorem dX5_mayBe_42 : decode cX5_mayBe 42 = .ok (.iload_n 1, 1) := dk_27 (dk_at dksX5_mayBe_1 20 rfl rfl)
theorem dX5_mayBe_43 : decode cX5_mayBe 43 = .ok (.iconst 3, 1) := dk_6 (dk_at dksX5_mayBe_1 21 rfl rfl)
theorem dX5_mayBe_44 : decode cX5_mayBe 44 = .ok (.invokevirtual 44, 3) := dk_182 0 44 (dk_at dksX5_mayBe_2 0 rfl rfl)
theorem dX5_mayBe_47 : decode cX5_mayBe 47 = .ok (.iload_n 3, 1) := dk_29 (dk_at dksX5_mayBe_2 3 rfl rfl)
theorem dX5_mayBe_48 : decode cX5_mayBe 48 = .ok (.isub, 1) := dk_100 (dk_at dksX5_mayBe_2 4 rfl rfl)
theorem dX5_mayBe_49 : decode cX5_mayBe 49 = .ok (.aload_n 0, 1) := dk_42 (dk_at dksX5_mayBe_2 5 rfl rfl)
theorem dX5_mayBe_50 : decode cX5_mayBe 50 = .ok (.getfield 15, 3) := dk_180 0 15 (dk_at dksX5_mayBe_2 6 rfl rfl)
theorem dX5_mayBe_53 : decode cX5_mayBe 53 = .ok (.if_icmp .lt 26, 3) := dk_161 0 26 (dk_at dksX5_mayBe_2 9 rfl rfl)
theorem dX5_mayBe_56 : decode cX5_mayBe 56 = .ok (.aload_n 0, 1) := dk_42 (dk_at dksX5_mayBe_2 12 rfl rfl)
theorem dX5_mayBe_57 : decode cX5_mayBe 57 = .ok (.iload_n 2, 1) := dk_28 (dk_at dksX5_mayBe_2 13 rfl rfl)
theorem dX5_mayBe_58 : decode cX5_mayBe 58 = .ok (.iconst 3, 1) := dk_6 (dk_at dksX5_mayBe_2 14 rfl rfl)
theorem dX5_mayBe_59 : decode cX5_mayBe 59 = .ok (.invokevirtual 44, 3) := dk_182 0 44 (dk_at dksX5_mayBe_2 15 rfl rfl)
theorem dX5_mayBe_62 : decode cX5_mayBe 62 = .ok (.aload_n 0, 1) := dk_42 (dk_at dksX5_mayBe_2 18 rfl rfl)
theorem dX5_mayBe_63 : decode cX5_mayBe 63 = .ok (.iload_n 1, 1) := dk_27 (dk_at dksX5_mayBe_2 19 rfl rfl)
theorem dX5_mayBe_64 : decode cX5_mayBe 64 = .ok (.iload_n 2, 1) := dk_28 (dk_at dksX5_mayBe_2 20 rfl rfl)
theorem dX5_mayBe_65 : decode cX5_mayBe 65 = .ok (.iload_n 3, 1) := dk_29 (dk_at dksX5_mayBe_2 21 rfl rfl)
theorem dX5_mayBe_66 : decode cX5_mayBe 66 = .ok (.invokevirtual 52, 3) := dk_182 0 52 (dk_at dksX5_mayBe_3 0 rfl rfl)
theorem dX5_mayBe_69 : decode cX5_mayBe 69 = .ok (.iadd, 1) := dk_96 (dk_at dksX5_mayBe_3 3 rfl rfl)
theorem dX5_mayBe_70 : decode cX5_mayBe 70 = .ok (.bipush 99, 2) := dk_16 99 (dk_at dksX5_mayBe_3 4 rfl rfl)
theorem dX5_mayBe_72 : decode cX5_mayBe 72 = .ok (.if_icmp .gt 7, 3) := dk_163 0 7 (dk_at dksX5_mayBe_3 6 rfl rfl)
theorem dX5_mayBe_75 : decode cX5_mayBe 75 = .ok (.iconst 1, 1) := dk_4 (dk_at dksX5_mayBe_3 9 rfl rfl)
theorem dX5_mayBe_76 : decode cX5_mayBe 76 = .ok (.goto 4, 3) := dk_167 0 4 (dk_at dksX5_mayBe_3 10 rfl rfl)
theorem dX5_mayBe_79 : decode cX5_mayBe 79 = .ok (.iconst 0, 1) := dk_3 (dk_at dksX5_mayBe_3 13 rfl rfl)
theorem dX5_mayBe_80 : decode cX5_mayBe 80 = .ok (.ireturn, 1) := dk_172 (dk_at dksX5_mayBe_3 14 rfl rfl)
abbrev cX5_isKin : ByteArray := prog_9_method_5_code
def yX5_isKin : MethodName := ⟨RX5, "isKin", "(II)Z"⟩
def dkwX5_isKin_0 : List UInt8 := [42, 27, 4, 182, 0, 44, 42, 28, 4, 182, 0, 44, 160, 0, 7, 4, 167, 0, 4, 3, 172]
abbrev dktX5_isKin_0 : List UInt8 := dkwX5_isKin_0 ++ []
theorem dksX5_isKin_0 : cX5_isKin.data.toList.drop 0 = dktX5_isKin_0 := by decide +kernel
theorem dX5_isKin_0 : decode cX5_isKin 0 = .ok (.aload_n 0, 1) := dk_42 (dk_at dksX5_isKin_0 0 rfl rfl)
theorem dX5_isKin_1 : decode cX5_isKin 1 = .ok (.iload_n 1, 1) := dk_27 (dk_at dksX5_isKin_0 1 rfl rfl)
theorem dX5_isKin_2 : decode cX5_isKin 2 = .ok (.iconst 1, 1) := dk_4 (dk_at dksX5_isKin_0 2 rfl rfl)
theorem dX5_isKin_3 : decode cX5_isKin 3 = .ok (.invokevirtual 44, 3) := dk_182 0 44 (dk_at dksX5_isKin_0 3 rfl rfl)
theorem dX5_isKin_6 : decode cX5_isKin 6 = .ok (.aload_n 0, 1) := dk_42 (dk_at dksX5_isKin_0 6 rfl rfl)
theorem dX5_isKin_7 : decode cX5_isKin 7 = .ok (.iload_n 2, 1) := dk_28 (dk_at dksX5_isKin_0 7 rfl rfl)
theorem dX5_isKin_8 : decode cX5_isKin 8 = .ok (.iconst 1, 1) := dk_4 (dk_at dksX5_isKin_0 8 rfl rfl)
theorem dX5_isKin_9 : decode cX5_isKin 9 = .ok (.invokevirtual 44, 3) := dk_182 0 44 (dk_at dksX5_isKin_0 9 rfl rfl)
theorem dX5_isKin_12 : decode cX5_isKin 12 = .ok (.if_icmp .ne 7, 3) := dk_160 0 7 (dk_at dksX5_isKin_0 12 rfl rfl)
theorem dX5_isKin_15 : decode cX5_isKin 15 = .ok (.iconst 1, 1) := dk_4 (dk_at dksX5_isKin_0 15 rfl rfl)
theorem dX5_isKin_16 : decode cX5_isKin 16 = .ok (.goto 4, 3) := dk_167 0 4 (dk_at dksX5_isKin_0 16 rfl rfl)
theorem dX5_isKin_19 : decode cX5_isKin 19 = .ok (.iconst 0, 1) := dk_3 (dk_at dksX5_isKin_0 19 rfl rfl)
theorem dX5_isKin_20 : decode cX5_isKin 20 = .ok (.ireturn, 1) := dk_172 (dk_at dksX5_isKin_0 20 rfl rfl)
abbrev cX5_gets : ByteArray := prog_9_method_6_code
def yX5_gets : MethodName := ⟨RX5, "gets", "(III)I"⟩
def dkwX5_gets_0 : List UInt8 := [42, 27, 28, 182, 0, 48, 153, 0, 7, 29, 167, 0, 8, 29, 29, 6, 108, 100, 172]
abbrev dktX5_gets_0 : List UInt8 := dkwX5_gets_0 ++ []
theorem dksX5_gets_0 : cX5_gets.data.toList.drop 0 = dktX5_gets_0 := by decide +kernel
theorem dX5_gets_0 : decode cX5_gets 0 = .ok (.aload_n 0, 1) := dk_42 (dk_at dksX5_gets_0 0 rfl rfl)
theorem dX5_gets_1 : decode cX5_gets 1 = .ok (.iload_n 1, 1) := dk_27 (dk_at dksX5_gets_0 1 rfl rfl)
theorem dX5_gets_2 : decode cX5_gets 2 = .ok (.iload_n 2, 1) := dk_28 (dk_at dksX5_gets_0 2 rfl rfl)
theorem dX5_gets_3 : decode cX5_gets 3 = .ok (.invokevirtual 48, 3) := dk_182 0 48 (dk_at dksX5_gets_0 3 rfl rfl)
theorem dX5_gets_6 : decode cX5_gets 6 = .ok (.ifCond .eq 7, 3) := dk_153 0 7 (dk_at dksX5_gets_0 6 rfl rfl)
theorem dX5_gets_9 : decode cX5_gets 9 = .ok (.iload_n 3, 1) := dk_29 (dk_at dksX5_gets_0 9 rfl rfl)
theorem dX5_gets_10 : decode cX5_gets 10 = .ok (.goto 8, 3) := dk_167 0 8 (dk_at dksX5_gets_0 10 rfl rfl)
theorem dX5_gets_13 : decode cX5_gets 13 = .ok (.iload_n 3, 1) := dk_29 (dk_at dksX5_gets_0 13 rfl rfl)
theorem dX5_gets_14 : decode cX5_gets 14 = .ok (.iload_n 3, 1) := dk_29 (dk_at dksX5_gets_0 14 rfl rfl)
theorem dX5_gets_15 : decode cX5_gets 15 = .ok (.iconst 3, 1) := dk_6 (dk_at dksX5_gets_0 15 rfl rfl)
theorem dX5_gets_16 : decode cX5_gets 16 = .ok (.idiv, 1) := dk_108 (dk_at dksX5_gets_0 16 rfl rfl)
theorem dX5_gets_17 : decode cX5_gets 17 = .ok (.isub, 1) := dk_100 (dk_at dksX5_gets_0 17 rfl rfl)
theorem dX5_gets_18 : decode cX5_gets 18 = .ok (.ireturn, 1) := dk_172 (dk_at dksX5_gets_0 18 rfl rfl)
abbrev cX5_gives : ByteArray := prog_9_method_8_code
def yX5_gives : MethodName := ⟨RX5, "gives", "(III)V"⟩
def dkwX5_gives_2 : List UInt8 := [46, 21, 4, 96, 79, 42, 89, 180, 0, 38, 29, 21, 4, 100, 96, 181, 0, 38, 177]
abbrev dktX5_gives_2 : List UInt8 := dkwX5_gives_2 ++ []
def dkwX5_gives_1 : List UInt8 := [28, 6, 42, 28, 6, 182, 0, 44, 21, 4, 96, 182, 0, 56, 42, 180, 0, 19, 8, 28, 104, 27, 96, 92]
abbrev dktX5_gives_1 : List UInt8 := dkwX5_gives_1 ++ dktX5_gives_2
def dkwX5_gives_0 : List UInt8 := [42, 27, 28, 29, 182, 0, 52, 54, 4, 42, 27, 6, 42, 27, 6, 182, 0, 44, 29, 100, 182, 0, 56, 42]
abbrev dktX5_gives_0 : List UInt8 := dkwX5_gives_0 ++ dktX5_gives_1
theorem dksX5_gives_0 : cX5_gives.data.toList.drop 0 = dktX5_gives_0 := by decide +kernel
theorem dksX5_gives_1 : cX5_gives.data.toList.drop 24 = dktX5_gives_1 := dk_seg dksX5_gives_0 24 rfl rfl
theorem dksX5_gives_2 : cX5_gives.data.toList.drop 48 = dktX5_gives_2 := dk_seg dksX5_gives_1 24 rfl rfl
theorem dX5_gives_0 : decode cX5_gives 0 = .ok (.aload_n 0, 1) := dk_42 (dk_at dksX5_gives_0 0 rfl rfl)
theorem dX5_gives_1 : decode cX5_gives 1 = .ok (.iload_n 1, 1) := dk_27 (dk_at dksX5_gives_0 1 rfl rfl)
theorem dX5_gives_2 : decode cX5_gives 2 = .ok (.iload_n 2, 1) := dk_28 (dk_at dksX5_gives_0 2 rfl rfl)
theorem dX5_gives_3 : decode cX5_gives 3 = .ok (.iload_n 3, 1) := dk_29 (dk_at dksX5_gives_0 3 rfl rfl)
theorem dX5_gives_4 : decode cX5_gives 4 = .ok (.invokevirtual 52, 3) := dk_182 0 52 (dk_at dksX5_gives_0 4 rfl rfl)
theorem dX5_gives_7 : decode cX5_gives 7 = .ok (.istore 4, 2) := dk_54 4 (dk_at dksX5_gives_0 7 rfl rfl)
theorem dX5_gives_9 : decode cX5_gives 9 = .ok (.aload_n 0, 1) := dk_42 (dk_at dksX5_gives_0 9 rfl rfl)
theorem dX5_gives_10 : decode cX5_gives 10 = .ok (.iload_n 1, 1) := dk_27 (dk_at dksX5_gives_0 10 rfl rfl)
theorem dX5_gives_11 : decode cX5_gives 11 = .ok (.iconst 3, 1) := dk_6 (dk_at dksX5_gives_0 11 rfl rfl)
theorem dX5_gives_12 : decode cX5_gives 12 = .ok (.aload_n 0, 1) := dk_42 (dk_at dksX5_gives_0 12 rfl rfl)
theorem dX5_gives_13 : decode cX5_gives 13 = .ok (.iload_n 1, 1) := dk_27 (dk_at dksX5_gives_0 13 rfl rfl)
theorem dX5_gives_14 : decode cX5_gives 14 = .ok (.iconst 3, 1) := dk_6 (dk_at dksX5_gives_0 14 rfl rfl)
theorem dX5_gives_15 : decode cX5_gives 15 = .ok (.invokevirtual 44, 3) := dk_182 0 44 (dk_at dksX5_gives_0 15 rfl rfl)
theorem dX5_gives_18 : decode cX5_gives 18 = .ok (.iload_n 3, 1) := dk_29 (dk_at dksX5_gives_0 18 rfl rfl)
theorem dX5_gives_19 : decode cX5_gives 19 = .ok (.isub, 1) := dk_100 (dk_at dksX5_gives_0 19 rfl rfl)
theorem dX5_gives_20 : decode cX5_gives 20 = .ok (.invokevirtual 56, 3) := dk_182 0 56 (dk_at dksX5_gives_0 20 rfl rfl)
theorem dX5_gives_23 : decode cX5_gives 23 = .ok (.aload_n 0, 1) := dk_42 (dk_at dksX5_gives_0 23 rfl rfl)
theorem dX5_gives_24 : decode cX5_gives 24 = .ok (.iload_n 2, 1) := dk_28 (dk_at dksX5_gives_1 0 rfl rfl)
theorem dX5_gives_25 : decode cX5_gives 25 = .ok (.iconst 3, 1) := dk_6 (dk_at dksX5_gives_1 1 rfl rfl)
theorem dX5_gives_26 : decode cX5_gives 26 = .ok (.aload_n 0, 1) := dk_42 (dk_at dksX5_gives_1 2 rfl rfl)
theorem dX5_gives_27 : decode cX5_gives 27 = .ok (.iload_n 2, 1) := dk_28 (dk_at dksX5_gives_1 3 rfl rfl)
theorem dX5_gives_28 : decode cX5_gives 28 = .ok (.iconst 3, 1) := dk_6 (dk_at dksX5_gives_1 4 rfl rfl)
theorem dX5_gives_29 : decode cX5_gives 29 = .ok (.invokevirtual 44, 3) := dk_182 0 44 (dk_at dksX5_gives_1 5 rfl rfl)
theorem dX5_gives_32 : decode cX5_gives 32 = .ok (.iload 4, 2) := dk_21 4 (dk_at dksX5_gives_1 8 rfl rfl)
theorem dX5_gives_34 : decode cX5_gives 34 = .ok (.iadd, 1) := dk_96 (dk_at dksX5_gives_1 10 rfl rfl)
theorem dX5_gives_35 : decode cX5_gives 35 = .ok (.invokevirtual 56, 3) := dk_182 0 56 (dk_at dksX5_gives_1 11 rfl rfl)
theorem dX5_gives_38 : decode cX5_gives 38 = .ok (.aload_n 0, 1) := dk_42 (dk_at dksX5_gives_1 14 rfl rfl)
theorem dX5_gives_39 : decode cX5_gives 39 = .ok (.getfield 19, 3) := dk_180 0 19 (dk_at dksX5_gives_1 15 rfl rfl)
theorem dX5_gives_42 : decode cX5_gives 42 = .ok (.iconst 5, 1) := dk_8 (dk_at dksX5_gives_1 18 rfl rfl)
theorem dX5_gives_43 : decode cX5_gives 43 = .ok (.iload_n 2, 1) := dk_28 (dk_at dksX5_gives_1 19 rfl rfl)
theorem dX5_gives_44 : decode cX5_gives 44 = .ok (.imul, 1) := dk_104 (dk_at dksX5_gives_1 20 rfl rfl)
theorem dX5_gives_45 : decode cX5_gives 45 = .ok (.iload_n 1, 1) := dk_27 (dk_at dksX5_gives_1 21 rfl rfl)
theorem dX5_gives_46 : decode cX5_gives 46 = .ok (.iadd, 1) := dk_96 (dk_at dksX5_gives_1 22 rfl rfl)
theorem dX5_gives_47 : decode cX5_gives 47 = .ok (.dup2, 1) := dk_92 (dk_at dksX5_gives_1 23 rfl rfl)
theorem dX5_gives_48 : decode cX5_gives 48 = .ok (.iaload, 1) := dk_46 (dk_at dksX5_gives_2 0 rfl rfl)
theorem dX5_gives_49 : decode cX5_gives 49 = .ok (.iload 4, 2) := dk_21 4 (dk_at dksX5_gives_2 1 rfl rfl)
theorem dX5_gives_51 : decode cX5_gives 51 = .ok (.iadd, 1) := dk_96 (dk_at dksX5_gives_2 3 rfl rfl)
theorem dX5_gives_52 : decode cX5_gives 52 = .ok (.iastore, 1) := dk_79 (dk_at dksX5_gives_2 4 rfl rfl)
theorem dX5_gives_53 : decode cX5_gives 53 = .ok (.aload_n 0, 1) := dk_42 (dk_at dksX5_gives_2 5 rfl rfl)
theorem dX5_gives_54 : decode cX5_gives 54 = .ok (.dup, 1) := dk_89 (dk_at dksX5_gives_2 6 rfl rfl)
theorem dX5_gives_55 : decode cX5_gives 55 = .ok (.getfield 38, 3) := dk_180 0 38 (dk_at dksX5_gives_2 7 rfl rfl)
theorem dX5_gives_58 : decode cX5_gives 58 = .ok (.iload_n 3, 1) := dk_29 (dk_at dksX5_gives_2 10 rfl rfl)
theorem dX5_gives_59 : decode cX5_gives 59 = .ok (.iload 4, 2) := dk_21 4 (dk_at dksX5_gives_2 11 rfl rfl)
theorem dX5_gives_61 : decode cX5_gives 61 = .ok (.isub, 1) := dk_100 (dk_at dksX5_gives_2 13 rfl rfl)
theorem dX5_gives_62 : decode cX5_gives 62 = .ok (.iadd, 1) := dk_96 (dk_at dksX5_gives_2 14 rfl rfl)
theorem dX5_gives_63 : decode cX5_gives 63 = .ok (.putfield 38, 3) := dk_181 0 38 (dk_at dksX5_gives_2 15 rfl rfl)
theorem dX5_gives_66 : decode cX5_gives 66 = .ok (.return_, 1) := dk_177 (dk_at dksX5_gives_2 18 rfl rfl)
theorem q69 : (Jvm.Cond.initialized "ClockWard$Ward") ∈ lw_all := lw_g (lw_at lw_m1 6 rfl) rfl
theorem q127 : (Jvm.Cond.instantiable "ClockWard$Ward" (8 : Nat)) ∈ lw_all := lw_g (lw_at lw_m1 64 rfl) rfl
theorem q129 : (Jvm.Cond.instanceMethod ({ cls := "ClockWard$Ward", name := "<init>", desc := "()V" } : Jvm.MethodName)) ∈ lw_all := lw_g (lw_at lw_m1 66 rfl) rfl
theorem q130 : (Jvm.Cond.code ({ cls := "ClockWard$Ward", name := "<init>", desc := "()V" } : Jvm.MethodName) prog_9_method_1_code (1 : Nat) (Option.none : Option Jvm.ClassFile.FieldType)) ∈ lw_all := lw_g (lw_at lw_m1 67 rfl) rfl
theorem q131 : (Jvm.Cond.methodLink "ClockWard$Ward" (3 : Nat) ({ cls := "java/lang/Object", name := "<init>", desc := "()V" } : Jvm.MethodName)) ∈ lw_all := lw_g (lw_at lw_m1 68 rfl) rfl
theorem q132 : (Jvm.Cond.fieldLink "ClockWard$Ward" (26 : Nat) "ClockWard$Ward" "clocks" "I") ∈ lw_all := lw_g (lw_at lw_m1 69 rfl) rfl
theorem q135 : (Jvm.Cond.fieldLink "ClockWard$Ward" (9 : Nat) "ClockWard$Ward" "clock" "[B") ∈ lw_all := lw_g (lw_at lw_m1 72 rfl) rfl
theorem q136 : (Jvm.Cond.fieldLink "ClockWard$Ward" (15 : Nat) "ClockWard$Ward" "floor" "I") ∈ lw_all := lw_g (lw_at lw_m1 73 rfl) rfl
theorem q139 : (Jvm.Cond.fieldLink "ClockWard$Ward" (35 : Nat) "ClockWard$Ward" "night" "I") ∈ lw_all := lw_g (lw_at lw_m1 76 rfl) rfl
theorem q141 : (Jvm.Cond.fieldLink "ClockWard$Ward" (38 : Nat) "ClockWard$Ward" "lost" "I") ∈ lw_all := lw_g (lw_at lw_m1 78 rfl) rfl
theorem q143 : (Jvm.Cond.fieldLink "ClockWard$Ward" (19 : Nat) "ClockWard$Ward" "got" "[I") ∈ lw_all := lw_g (lw_at lw_m1 80 rfl) rfl
theorem q145 : (Jvm.Cond.fieldLink "ClockWard$Ward" (41 : Nat) "ClockWard$Ward" "planned" "I") ∈ lw_all := lw_g (lw_at lw_m1 82 rfl) rfl
theorem q148 : (Jvm.Cond.fieldLink "ClockWard$Ward" (23 : Nat) "ClockWard$Ward" "plan" "[B") ∈ lw_all := lw_g (lw_at lw_m1 85 rfl) rfl
theorem q151 : (Jvm.Cond.lays "ClockWard$Ward" "ClockWard$Ward" "clocks" "I") ∈ lw_all := lw_g (lw_at lw_m1 88 rfl) rfl
theorem q152 : (Jvm.Cond.soleField "ClockWard$Ward" "clocks") ∈ lw_all := lw_g (lw_at lw_m1 89 rfl) rfl
theorem q153 : (Jvm.Cond.laysFinal "ClockWard$Ward" "ClockWard$Ward" "clock" "[B") ∈ lw_all := lw_g (lw_at lw_m1 90 rfl) rfl
theorem q154 : (Jvm.Cond.soleField "ClockWard$Ward" "clock") ∈ lw_all := lw_g (lw_at lw_m1 91 rfl) rfl
theorem q155 : (Jvm.Cond.lays "ClockWard$Ward" "ClockWard$Ward" "floor" "I") ∈ lw_all := lw_g (lw_at lw_m1 92 rfl) rfl
theorem q156 : (Jvm.Cond.soleField "ClockWard$Ward" "floor") ∈ lw_all := lw_g (lw_at lw_m1 93 rfl) rfl
theorem q157 : (Jvm.Cond.lays "ClockWard$Ward" "ClockWard$Ward" "night" "I") ∈ lw_all := lw_g (lw_at lw_m1 94 rfl) rfl
theorem q158 : (Jvm.Cond.soleField "ClockWard$Ward" "night") ∈ lw_all := lw_g (lw_at lw_m1 95 rfl) rfl
theorem q159 : (Jvm.Cond.lays "ClockWard$Ward" "ClockWard$Ward" "lost" "I") ∈ lw_all := lw_g (lw_at lw_m1 96 rfl) rfl
theorem q160 : (Jvm.Cond.soleField "ClockWard$Ward" "lost") ∈ lw_all := lw_g (lw_at lw_m1 97 rfl) rfl
theorem q161 : (Jvm.Cond.laysFinal "ClockWard$Ward" "ClockWard$Ward" "got" "[I") ∈ lw_all := lw_g (lw_at lw_m1 98 rfl) rfl
theorem q162 : (Jvm.Cond.soleField "ClockWard$Ward" "got") ∈ lw_all := lw_g (lw_at lw_m1 99 rfl) rfl
theorem q163 : (Jvm.Cond.lays "ClockWard$Ward" "ClockWard$Ward" "planned" "I") ∈ lw_all := lw_g (lw_at lw_m1 100 rfl) rfl
theorem q164 : (Jvm.Cond.soleField "ClockWard$Ward" "planned") ∈ lw_all := lw_g (lw_at lw_m1 101 rfl) rfl
theorem q165 : (Jvm.Cond.laysFinal "ClockWard$Ward" "ClockWard$Ward" "plan" "[B") ∈ lw_all := lw_g (lw_at lw_m1 102 rfl) rfl
theorem q166 : (Jvm.Cond.soleField "ClockWard$Ward" "plan") ∈ lw_all := lw_g (lw_at lw_m1 103 rfl) rfl
theorem q167 : (Jvm.Cond.superclass "ClockWard$Ward" "java/lang/Object") ∈ lw_all := lw_g (lw_at lw_m1 104 rfl) rfl
theorem q501 : (Jvm.Cond.instanceMethod ({ cls := "ClockWard$Ward", name := "becomes", desc := "(III)V" } : Jvm.MethodName)) ∈ lw_all := lw_g (lw_at lw_m2 198 rfl) rfl
theorem q502 : (Jvm.Cond.selects "ClockWard$Ward" ({ cls := "ClockWard$Ward", name := "becomes", desc := "(III)V" } : Jvm.MethodName) ({ cls := "ClockWard$Ward", name := "becomes", desc := "(III)V" } : Jvm.MethodName)) ∈ lw_all := lw_g (lw_at lw_m2 199 rfl) rfl
theorem q503 : (Jvm.Cond.code ({ cls := "ClockWard$Ward", name := "becomes", desc := "(III)V" } : Jvm.MethodName) prog_9_method_4_code (4 : Nat) (Option.none : Option Jvm.ClassFile.FieldType)) ∈ lw_all := lw_g (lw_at lw_m2 200 rfl) rfl
theorem q505 : (Jvm.Cond.instanceMethod ({ cls := "ClockWard$Ward", name := "as", desc := "(LClockWard$Ward;)V" } : Jvm.MethodName)) ∈ lw_all := lw_g (lw_at lw_m2 202 rfl) rfl
theorem q506 : (Jvm.Cond.selects "ClockWard$Ward" ({ cls := "ClockWard$Ward", name := "as", desc := "(LClockWard$Ward;)V" } : Jvm.MethodName) ({ cls := "ClockWard$Ward", name := "as", desc := "(LClockWard$Ward;)V" } : Jvm.MethodName)) ∈ lw_all := lw_g (lw_at lw_m2 203 rfl) rfl
theorem q507 : (Jvm.Cond.code ({ cls := "ClockWard$Ward", name := "as", desc := "(LClockWard$Ward;)V" } : Jvm.MethodName) prog_9_method_2_code (2 : Nat) (Option.none : Option Jvm.ClassFile.FieldType)) ∈ lw_all := lw_g (lw_at lw_m2 204 rfl) rfl
theorem q508 : (Jvm.Cond.methodLink "ClockWard$Ward" (29 : Nat) ({ cls := "java/lang/System", name := "arraycopy", desc := "(Ljava/lang/Object;ILjava/lang/Object;II)V" } : Jvm.MethodName)) ∈ lw_all := lw_g (lw_at lw_m2 205 rfl) rfl
theorem q520 : (Jvm.Cond.instanceMethod ({ cls := "ClockWard$Ward", name := "right", desc := "()I" } : Jvm.MethodName)) ∈ lw_all := lw_g (lw_at lw_m2 217 rfl) rfl
theorem q521 : (Jvm.Cond.selects "ClockWard$Ward" ({ cls := "ClockWard$Ward", name := "right", desc := "()I" } : Jvm.MethodName) ({ cls := "ClockWard$Ward", name := "right", desc := "()I" } : Jvm.MethodName)) ∈ lw_all := lw_g (lw_at lw_m2 218 rfl) rfl
theorem q522 : (Jvm.Cond.code ({ cls := "ClockWard$Ward", name := "right", desc := "()I" } : Jvm.MethodName) prog_9_method_9_code (3 : Nat) (Option.some Jvm.ClassFile.FieldType.int)) ∈ lw_all := lw_g (lw_at lw_m2 219 rfl) rfl
theorem q523 : (Jvm.Cond.methodLink "ClockWard$Ward" (44 : Nat) ({ cls := "ClockWard$Ward", name := "of", desc := "(II)I" } : Jvm.MethodName)) ∈ lw_all := lw_g (lw_at lw_m2 220 rfl) rfl
theorem q524 : (Jvm.Cond.instanceMethod ({ cls := "ClockWard$Ward", name := "of", desc := "(II)I" } : Jvm.MethodName)) ∈ lw_all := lw_g (lw_at lw_m2 221 rfl) rfl
theorem q525 : (Jvm.Cond.selects "ClockWard$Ward" ({ cls := "ClockWard$Ward", name := "of", desc := "(II)I" } : Jvm.MethodName) ({ cls := "ClockWard$Ward", name := "of", desc := "(II)I" } : Jvm.MethodName)) ∈ lw_all := lw_g (lw_at lw_m2 222 rfl) rfl
theorem q526 : (Jvm.Cond.code ({ cls := "ClockWard$Ward", name := "of", desc := "(II)I" } : Jvm.MethodName) prog_9_method_3_code (3 : Nat) (Option.some Jvm.ClassFile.FieldType.int)) ∈ lw_all := lw_g (lw_at lw_m2 223 rfl) rfl
theorem q528 : (Jvm.Cond.instanceMethod ({ cls := "ClockWard$Ward", name := "allTimes", desc := "()I" } : Jvm.MethodName)) ∈ lw_all := lw_g (lw_at lw_m2 225 rfl) rfl
theorem q529 : (Jvm.Cond.selects "ClockWard$Ward" ({ cls := "ClockWard$Ward", name := "allTimes", desc := "()I" } : Jvm.MethodName) ({ cls := "ClockWard$Ward", name := "allTimes", desc := "()I" } : Jvm.MethodName)) ∈ lw_all := lw_g (lw_at lw_m2 226 rfl) rfl
theorem q530 : (Jvm.Cond.code ({ cls := "ClockWard$Ward", name := "allTimes", desc := "()I" } : Jvm.MethodName) prog_9_method_10_code (3 : Nat) (Option.some Jvm.ClassFile.FieldType.int)) ∈ lw_all := lw_g (lw_at lw_m2 227 rfl) rfl
theorem q611 : (Jvm.Cond.instanceMethod ({ cls := "ClockWard$Ward", name := "mayBe", desc := "(III)Z" } : Jvm.MethodName)) ∈ lw_all := lw_g (lw_at lw_m3 68 rfl) rfl
theorem q612 : (Jvm.Cond.selects "ClockWard$Ward" ({ cls := "ClockWard$Ward", name := "mayBe", desc := "(III)Z" } : Jvm.MethodName) ({ cls := "ClockWard$Ward", name := "mayBe", desc := "(III)Z" } : Jvm.MethodName)) ∈ lw_all := lw_g (lw_at lw_m3 69 rfl) rfl
theorem q613 : (Jvm.Cond.code ({ cls := "ClockWard$Ward", name := "mayBe", desc := "(III)Z" } : Jvm.MethodName) prog_9_method_7_code (5 : Nat) (Option.some Jvm.ClassFile.FieldType.boolean)) ∈ lw_all := lw_g (lw_at lw_m3 70 rfl) rfl
theorem q614 : (Jvm.Cond.methodLink "ClockWard$Ward" (48 : Nat) ({ cls := "ClockWard$Ward", name := "isKin", desc := "(II)Z" } : Jvm.MethodName)) ∈ lw_all := lw_g (lw_at lw_m3 71 rfl) rfl
theorem q615 : (Jvm.Cond.instanceMethod ({ cls := "ClockWard$Ward", name := "isKin", desc := "(II)Z" } : Jvm.MethodName)) ∈ lw_all := lw_g (lw_at lw_m3 72 rfl) rfl
theorem q616 : (Jvm.Cond.selects "ClockWard$Ward" ({ cls := "ClockWard$Ward", name := "isKin", desc := "(II)Z" } : Jvm.MethodName) ({ cls := "ClockWard$Ward", name := "isKin", desc := "(II)Z" } : Jvm.MethodName)) ∈ lw_all := lw_g (lw_at lw_m3 73 rfl) rfl
theorem q617 : (Jvm.Cond.code ({ cls := "ClockWard$Ward", name := "isKin", desc := "(II)Z" } : Jvm.MethodName) prog_9_method_5_code (3 : Nat) (Option.some Jvm.ClassFile.FieldType.boolean)) ∈ lw_all := lw_g (lw_at lw_m3 74 rfl) rfl
theorem q618 : (Jvm.Cond.methodLink "ClockWard$Ward" (52 : Nat) ({ cls := "ClockWard$Ward", name := "gets", desc := "(III)I" } : Jvm.MethodName)) ∈ lw_all := lw_g (lw_at lw_m3 75 rfl) rfl
theorem q619 : (Jvm.Cond.instanceMethod ({ cls := "ClockWard$Ward", name := "gets", desc := "(III)I" } : Jvm.MethodName)) ∈ lw_all := lw_g (lw_at lw_m3 76 rfl) rfl
theorem q620 : (Jvm.Cond.selects "ClockWard$Ward" ({ cls := "ClockWard$Ward", name := "gets", desc := "(III)I" } : Jvm.MethodName) ({ cls := "ClockWard$Ward", name := "gets", desc := "(III)I" } : Jvm.MethodName)) ∈ lw_all := lw_g (lw_at lw_m3 77 rfl) rfl
theorem q621 : (Jvm.Cond.code ({ cls := "ClockWard$Ward", name := "gets", desc := "(III)I" } : Jvm.MethodName) prog_9_method_6_code (4 : Nat) (Option.some Jvm.ClassFile.FieldType.int)) ∈ lw_all := lw_g (lw_at lw_m3 78 rfl) rfl
theorem q627 : (Jvm.Cond.instanceMethod ({ cls := "ClockWard$Ward", name := "gives", desc := "(III)V" } : Jvm.MethodName)) ∈ lw_all := lw_g (lw_at lw_m3 84 rfl) rfl
theorem q628 : (Jvm.Cond.selects "ClockWard$Ward" ({ cls := "ClockWard$Ward", name := "gives", desc := "(III)V" } : Jvm.MethodName) ({ cls := "ClockWard$Ward", name := "gives", desc := "(III)V" } : Jvm.MethodName)) ∈ lw_all := lw_g (lw_at lw_m3 85 rfl) rfl
theorem q629 : (Jvm.Cond.code ({ cls := "ClockWard$Ward", name := "gives", desc := "(III)V" } : Jvm.MethodName) prog_9_method_8_code (5 : Nat) (Option.none : Option Jvm.ClassFile.FieldType)) ∈ lw_all := lw_g (lw_at lw_m3 86 rfl) rfl
theorem q630 : (Jvm.Cond.methodLink "ClockWard$Ward" (56 : Nat) ({ cls := "ClockWard$Ward", name := "becomes", desc := "(III)V" } : Jvm.MethodName)) ∈ lw_all := lw_g (lw_at lw_m3 87 rfl) rfl
theorem in_X5 : ∀ w ∈ wsX50, w ∈ lw_all := lw_in wsX50 [151, 153, 155, 157, 159, 161, 163, 165] (by decide +kernel) (by decide +kernel)

/-! ClockWard$Sheet -/
set_option maxRecDepth 100000
def RX6 : String := "ClockWard$Sheet"
def TX6 : u_T := fun k => match k with
  | _ => ("ClockWard$Sheet", "row", "Ljava/lang/Object;", false)
def tyX6 : Nat → FieldType := fun k => match k with
  | _ => .object "java/lang/Object"
abbrev wsX60 : List Cond := u_ws RX6 TX6 1
theorem nmX6 : ∀ a, a < 1 → ∀ b, b < 1 → a ≠ b → (TX6 a).2.1 ≠ (TX6 b).2.1 := by decide +kernel
theorem tyX6_ok : ∀ k, k < 1 → parseFieldDescriptor (TX6 k).2.2.1 = some (tyX6 k) := by decide +kernel
abbrev cX6_init : ByteArray := prog_7_method_1_code
def yX6_init : MethodName := ⟨RX6, "<init>", "()V"⟩
theorem dX6_init_0 : decode cX6_init 0 = .ok (.aload_n 0, 1) := by decide +kernel
theorem dX6_init_1 : decode cX6_init 1 = .ok (.invokespecial 1, 3) := by decide +kernel
theorem dX6_init_4 : decode cX6_init 4 = .ok (.return_, 1) := by decide +kernel
theorem q70 : (Jvm.Cond.initialized "ClockWard$Sheet") ∈ lw_all := lw_g (lw_at lw_m1 7 rfl) rfl
theorem q173 : (Jvm.Cond.instantiable "ClockWard$Sheet" (1 : Nat)) ∈ lw_all := lw_g (lw_at lw_m1 110 rfl) rfl
theorem q175 : (Jvm.Cond.instanceMethod ({ cls := "ClockWard$Sheet", name := "<init>", desc := "()V" } : Jvm.MethodName)) ∈ lw_all := lw_g (lw_at lw_m1 112 rfl) rfl
theorem q176 : (Jvm.Cond.code ({ cls := "ClockWard$Sheet", name := "<init>", desc := "()V" } : Jvm.MethodName) prog_7_method_1_code (1 : Nat) (Option.none : Option Jvm.ClassFile.FieldType)) ∈ lw_all := lw_g (lw_at lw_m1 113 rfl) rfl
theorem q177 : (Jvm.Cond.methodLink "ClockWard$Sheet" (1 : Nat) ({ cls := "java/lang/Object", name := "<init>", desc := "()V" } : Jvm.MethodName)) ∈ lw_all := lw_g (lw_at lw_m1 114 rfl) rfl
theorem q179 : (Jvm.Cond.lays "ClockWard$Sheet" "ClockWard$Sheet" "row" "Ljava/lang/Object;") ∈ lw_all := lw_g (lw_at lw_m1 116 rfl) rfl
theorem q180 : (Jvm.Cond.soleField "ClockWard$Sheet" "row") ∈ lw_all := lw_g (lw_at lw_m1 117 rfl) rfl
theorem q181 : (Jvm.Cond.superclass "ClockWard$Sheet" "java/lang/Object") ∈ lw_all := lw_g (lw_at lw_m1 118 rfl) rfl
theorem in_X6 : ∀ w ∈ wsX60, w ∈ lw_all := lw_in wsX60 [179] (by decide +kernel) (by decide +kernel)
