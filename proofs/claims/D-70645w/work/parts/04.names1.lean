/-! ClockWard -/
set_option maxRecDepth 100000
def RX0 : String := "ClockWard"
def TX0 : u_T := fun k => match k with
  | 0 => ("ClockWard", "kinds", "[LClockWard$Plain;", true)
  | 1 => ("ClockWard", "now", "LClockWard$Ward;", true)
  | 2 => ("ClockWard", "tried", "LClockWard$Ward;", true)
  | 3 => ("ClockWard", "half", "LClockWard$Ward;", true)
  | 4 => ("ClockWard", "images", "[LClockWard$Ward;", true)
  | 5 => ("ClockWard", "kept", "I", false)
  | 6 => ("ClockWard", "seen", "[B", true)
  | 7 => ("ClockWard", "seenMany", "I", false)
  | 8 => ("ClockWard", "came", "I", false)
  | 9 => ("ClockWard", "firstNot", "I", false)
  | 10 => ("ClockWard", "tape", "[B", true)
  | 11 => ("ClockWard", "taped", "I", false)
  | 12 => ("ClockWard", "fault", "I", false)
  | 13 => ("ClockWard", "bestRight", "I", false)
  | 14 => ("ClockWard", "bestMany", "I", false)
  | 15 => ("ClockWard", "bestLost", "I", false)
  | 16 => ("ClockWard", "bestRow", "[I", true)
  | 17 => ("ClockWard", "rightSum", "J", false)
  | 18 => ("ClockWard", "manySum", "J", false)
  | 19 => ("ClockWard", "allWays", "J", false)
  | 20 => ("ClockWard", "shown", "[B", true)
  | 21 => ("ClockWard", "ways", "[B", true)
  | 22 => ("ClockWard", "sheets", "[LClockWard$Sheet;", true)
  | _ => ("ClockWard", "torn", "I", false)
def tyX0 : Nat → FieldType := fun k => match k with
  | 0 => .array (.object "ClockWard$Plain")
  | 1 => .object "ClockWard$Ward"
  | 2 => .object "ClockWard$Ward"
  | 3 => .object "ClockWard$Ward"
  | 4 => .array (.object "ClockWard$Ward")
  | 5 => .int
  | 6 => .array .byte
  | 7 => .int
  | 8 => .int
  | 9 => .int
  | 10 => .array .byte
  | 11 => .int
  | 12 => .int
  | 13 => .int
  | 14 => .int
  | 15 => .int
  | 16 => .array .int
  | 17 => .long
  | 18 => .long
  | 19 => .long
  | 20 => .array .byte
  | 21 => .array .byte
  | 22 => .array (.object "ClockWard$Sheet")
  | _ => .int
abbrev wsX00 : List Cond := u_ws RX0 TX0 24
set_option maxRecDepth 100000 in
theorem nmX0 : ∀ a, a < 24 → ∀ b, b < 24 → a ≠ b → (TX0 a).2.1 ≠ (TX0 b).2.1 := by decide +kernel
set_option maxRecDepth 100000 in
theorem tyX0_ok : ∀ k, k < 24 → parseFieldDescriptor (TX0 k).2.2.1 = some (tyX0 k) := by decide +kernel
abbrev cX0_init : ByteArray := prog_1_method_6_code
def yX0_init : MethodName := ⟨RX0, "<init>", "()V"⟩
def dkwX0_init_7 : List UInt8 := [162, 0, 22, 42, 180, 0, 115, 27, 187, 0, 113, 89, 183, 0, 119, 83, 132, 1, 1, 167, 255, 235, 177]
abbrev dktX0_init_7 : List UInt8 := dkwX0_init_7 ++ []
def dkwX0_init_6 : List UInt8 := [181, 0, 107, 42, 16, 100, 188, 8, 181, 0, 110, 42, 7, 189, 0, 113, 181, 0, 115, 3, 60, 27, 7]
abbrev dktX0_init_6 : List UInt8 := dkwX0_init_6 ++ dktX0_init_7
def dkwX0_init_5 : List UInt8 := [181, 0, 97, 42, 17, 0, 160, 188, 8, 181, 0, 100, 42, 5, 188, 10, 181, 0, 103, 42, 16, 105, 188, 8]
abbrev dktX0_init_5 : List UInt8 := dkwX0_init_5 ++ dktX0_init_6
def dkwX0_init_4 : List UInt8 := [89, 183, 0, 82, 83, 89, 4, 187, 0, 4, 89, 183, 0, 82, 83, 181, 0, 93, 42, 16, 18, 188, 8]
abbrev dktX0_init_4 : List UInt8 := dkwX0_init_4 ++ dktX0_init_5
def dkwX0_init_3 : List UInt8 := [181, 0, 87, 42, 187, 0, 4, 89, 183, 0, 82, 181, 0, 90, 42, 5, 189, 0, 4, 89, 3, 187, 0, 4]
abbrev dktX0_init_3 : List UInt8 := dkwX0_init_3 ++ dktX0_init_4
def dkwX0_init_2 : List UInt8 := [83, 181, 0, 9, 42, 187, 0, 4, 89, 183, 0, 82, 181, 0, 83, 42, 187, 0, 4, 89, 183, 0, 82]
abbrev dktX0_init_2 : List UInt8 := dkwX0_init_2 ++ dktX0_init_3
def dkwX0_init_1 : List UInt8 := [89, 183, 0, 75, 83, 89, 5, 187, 0, 76, 89, 183, 0, 78, 83, 89, 6, 187, 0, 79, 89, 183, 0, 81]
abbrev dktX0_init_1 : List UInt8 := dkwX0_init_1 ++ dktX0_init_2
def dkwX0_init_0 : List UInt8 := [42, 183, 0, 66, 42, 7, 189, 0, 14, 89, 3, 187, 0, 14, 89, 183, 0, 72, 83, 89, 4, 187, 0, 73]
abbrev dktX0_init_0 : List UInt8 := dkwX0_init_0 ++ dktX0_init_1
theorem dksX0_init_0 : cX0_init.data.toList.drop 0 = dktX0_init_0 := by decide +kernel
theorem dksX0_init_1 : cX0_init.data.toList.drop 24 = dktX0_init_1 := dk_seg dksX0_init_0 24 rfl rfl
theorem dksX0_init_2 : cX0_init.data.toList.drop 48 = dktX0_init_2 := dk_seg dksX0_init_1 24 rfl rfl
theorem dksX0_init_3 : cX0_init.data.toList.drop 71 = dktX0_init_3 := dk_seg dksX0_init_2 23 rfl rfl
theorem dksX0_init_4 : cX0_init.data.toList.drop 95 = dktX0_init_4 := dk_seg dksX0_init_3 24 rfl rfl
theorem dksX0_init_5 : cX0_init.data.toList.drop 118 = dktX0_init_5 := dk_seg dksX0_init_4 23 rfl rfl
theorem dksX0_init_6 : cX0_init.data.toList.drop 142 = dktX0_init_6 := dk_seg dksX0_init_5 24 rfl rfl
theorem dksX0_init_7 : cX0_init.data.toList.drop 165 = dktX0_init_7 := dk_seg dksX0_init_6 23 rfl rfl
theorem dX0_init_0 : decode cX0_init 0 = .ok (.aload_n 0, 1) := dk_42 (dk_at dksX0_init_0 0 rfl rfl)
theorem dX0_init_1 : decode cX0_init 1 = .ok (.invokespecial 66, 3) := dk_183 0 66 (dk_at dksX0_init_0 1 rfl rfl)
theorem dX0_init_4 : decode cX0_init 4 = .ok (.aload_n 0, 1) := dk_42 (dk_at dksX0_init_0 4 rfl rfl)
theorem dX0_init_5 : decode cX0_init 5 = .ok (.iconst 4, 1) := dk_7 (dk_at dksX0_init_0 5 rfl rfl)
theorem dX0_init_6 : decode cX0_init 6 = .ok (.anewarray 14, 3) := dk_189 0 14 (dk_at dksX0_init_0 6 rfl rfl)
theorem dX0_init_9 : decode cX0_init 9 = .ok (.dup, 1) := dk_89 (dk_at dksX0_init_0 9 rfl rfl)
theorem dX0_init_10 : decode cX0_init 10 = .ok (.iconst 0, 1) := dk_3 (dk_at dksX0_init_0 10 rfl rfl)
theorem dX0_init_11 : decode cX0_init 11 = .ok (.new 14, 3) := dk_187 0 14 (dk_at dksX0_init_0 11 rfl rfl)
theorem dX0_init_14 : decode cX0_init 14 = .ok (.dup, 1) := dk_89 (dk_at dksX0_init_0 14 rfl rfl)
theorem dX0_init_15 : decode cX0_init 15 = .ok (.invokespecial 72, 3) := dk_183 0 72 (dk_at dksX0_init_0 15 rfl rfl)
theorem dX0_init_18 : decode cX0_init 18 = .ok (.aastore, 1) := dk_83 (dk_at dksX0_init_0 18 rfl rfl)
theorem dX0_init_19 : decode cX0_init 19 = .ok (.dup, 1) := dk_89 (dk_at dksX0_init_0 19 rfl rfl)
theorem dX0_init_20 : decode cX0_init 20 = .ok (.iconst 1, 1) := dk_4 (dk_at dksX0_init_0 20 rfl rfl)
theorem dX0_init_21 : decode cX0_init 21 = .ok (.new 73, 3) := dk_187 0 73 (dk_at dksX0_init_0 21 rfl rfl)
theorem dX0_init_24 : decode cX0_init 24 = .ok (.dup, 1) := dk_89 (dk_at dksX0_init_1 0 rfl rfl)
theorem dX0_init_25 : decode cX0_init 25 = .ok (.invokespecial 75, 3) := dk_183 0 75 (dk_at dksX0_init_1 1 rfl rfl)
theorem dX0_init_28 : decode cX0_init 28 = .ok (.aastore, 1) := dk_83 (dk_at dksX0_init_1 4 rfl rfl)
theorem dX0_init_29 : decode cX0_init 29 = .ok (.dup, 1) := dk_89 (dk_at dksX0_init_1 5 rfl rfl)
theorem dX0_init_30 : decode cX0_init 30 = .ok (.iconst 2, 1) := dk_5 (dk_at dksX0_init_1 6 rfl rfl)
theorem dX0_init_31 : decode cX0_init 31 = .ok (.new 76, 3) := dk_187 0 76 (dk_at dksX0_init_1 7 rfl rfl)
theorem dX0_init_34 : decode cX0_init 34 = .ok (.dup, 1) := dk_89 (dk_at dksX0_init_1 10 rfl rfl)
theorem dX0_init_35 : decode cX0_init 35 = .ok (.invokespecial 78, 3) := dk_183 0 78 (dk_at dksX0_init_1 11 rfl rfl)
theorem dX0_init_38 : decode cX0_init 38 = .ok (.aastore, 1) := dk_83 (dk_at dksX0_init_1 14 rfl rfl)
theorem dX0_init_39 : decode cX0_init 39 = .ok (.dup, 1) := dk_89 (dk_at dksX0_init_1 15 rfl rfl)
theorem dX0_init_40 : decode cX0_init 40 = .ok (.iconst 3, 1) := dk_6 (dk_at dksX0_init_1 16 rfl rfl)
theorem dX0_init_41 : decode cX0_init 41 = .ok (.new 79, 3) := dk_187 0 79 (dk_at dksX0_init_1 17 rfl rfl)
theorem dX0_init_44 : decode cX0_init 44 = .ok (.dup, 1) := dk_89 (dk_at dksX0_init_1 20 rfl rfl)
theorem dX0_init_45 : decode cX0_init 45 = .ok (.invokespecial 81, 3) := dk_183 0 81 (dk_at dksX0_init_1 21 rfl rfl)
theorem dX0_init_48 : decode cX0_init 48 = .ok (.aastore, 1) := dk_83 (dk_at dksX0_init_2 0 rfl rfl)
theorem dX0_init_49 : decode cX0_init 49 = .ok (.putfield 9, 3) := dk_181 0 9 (dk_at dksX0_init_2 1 rfl rfl)
theorem dX0_init_52 : decode cX0_init 52 = .ok (.aload_n 0, 1) := dk_42 (dk_at dksX0_init_2 4 rfl rfl)
theorem dX0_init_53 : decode cX0_init 53 = .ok (.new 4, 3) := dk_187 0 4 (dk_at dksX0_init_2 5 rfl rfl)
theorem dX0_init_56 : decode cX0_init 56 = .ok (.dup, 1) := dk_89 (dk_at dksX0_init_2 8 rfl rfl)
theorem dX0_init_57 : decode cX0_init 57 = .ok (.invokespecial 82, 3) := dk_183 0 82 (dk_at dksX0_init_2 9 rfl rfl)
theorem dX0_init_60 : decode cX0_init 60 = .ok (.putfield 83, 3) := dk_181 0 83 (dk_at dksX0_init_2 12 rfl rfl)
theorem dX0_init_63 : decode cX0_init 63 = .ok (.aload_n 0, 1) := dk_42 (dk_at dksX0_init_2 15 rfl rfl)
theorem dX0_init_64 : decode cX0_init 64 = .ok (.new 4, 3) := dk_187 0 4 (dk_at dksX0_init_2 16 rfl rfl)
theorem dX0_init_67 : decode cX0_init 67 = .ok (.dup, 1) := dk_89 (dk_at dksX0_init_2 19 rfl rfl)
theorem dX0_init_68 : decode cX0_init 68 = .ok (.invokespecial 82, 3) := dk_183 0 82 (dk_at dksX0_init_2 20 rfl rfl)
theorem dX0_init_71 : decode cX0_init 71 = .ok (.putfield 87, 3) := dk_181 0 87 (dk_at dksX0_init_3 0 rfl rfl)
theorem dX0_init_74 : decode cX0_init 74 = .ok (.aload_n 0, 1) := dk_42 (dk_at dksX0_init_3 3 rfl rfl)
theorem dX0_init_75 : decode cX0_init 75 = .ok (.new 4, 3) := dk_187 0 4 (dk_at dksX0_init_3 4 rfl rfl)
theorem dX0_init_78 : decode cX0_init 78 = .ok (.dup, 1) := dk_89 (dk_at dksX0_init_3 7 rfl rfl)
theorem dX0_init_79 : decode cX0_init 79 = .ok (.invokespecial 82, 3) := dk_183 0 82 (dk_at dksX0_init_3 8 rfl rfl)
theorem dX0_init_82 : decode cX0_init 82 = .ok (.putfield 90, 3) := dk_181 0 90 (dk_at dksX0_init_3 11 rfl rfl)
theorem dX0_init_85 : decode cX0_init 85 = .ok (.aload_n 0, 1) := dk_42 (dk_at dksX0_init_3 14 rfl rfl)
theorem dX0_init_86 : decode cX0_init 86 = .ok (.iconst 2, 1) := dk_5 (dk_at dksX0_init_3 15 rfl rfl)
theorem dX0_init_87 : decode cX0_init 87 = .ok (.anewarray 4, 3) := dk_189 0 4 (dk_at dksX0_init_3 16 rfl rfl)
theorem dX0_init_90 : decode cX0_init 90 = .ok (.dup, 1) := dk_89 (dk_at dksX0_init_3 19 rfl rfl)
theorem dX0_init_91 : decode cX0_init 91 = .ok (.iconst 0, 1) := dk_3 (dk_at dksX0_init_3 20 rfl rfl)
theorem dX0_init_92 : decode cX0_init 92 = .ok (.new 4, 3) := dk_187 0 4 (dk_at dksX0_init_3 21 rfl rfl)
theorem dX0_init_95 : decode cX0_init 95 = .ok (.dup, 1) := dk_89 (dk_at dksX0_init_4 0 rfl rfl)
theorem dX0_init_96 : decode cX0_init 96 = .ok (.invokespecial 82, 3) := dk_183 0 82 (dk_at dksX0_init_4 1 rfl rfl)
theorem dX0_init_99 : decode cX0_init 99 = .ok (.aastore, 1) := dk_83 (dk_at dksX0_init_4 4 rfl rfl)
theorem dX0_init_100 : decode cX0_init 100 = .ok (.dup, 1) := dk_89 (dk_at dksX0_init_4 5 rfl rfl)
theorem dX0_init_101 : decode cX0_init 101 = .ok (.iconst 1, 1) := dk_4 (dk_at dksX0_init_4 6 rfl rfl)
theorem dX0_init_102 : decode cX0_init 102 = .ok (.new 4, 3) := dk_187 0 4 (dk_at dksX0_init_4 7 rfl rfl)
theorem dX0_init_105 : decode cX0_init 105 = .ok (.dup, 1) := dk_89 (dk_at dksX0_init_4 10 rfl rfl)
theorem dX0_init_106 : decode cX0_init 106 = .ok (.invokespecial 82, 3) := dk_183 0 82 (dk_at dksX0_init_4 11 rfl rfl)
theorem dX0_init_109 : decode cX0_init 109 = .ok (.aastore, 1) := dk_83 (dk_at dksX0_init_4 14 rfl rfl)
theorem dX0_init_110 : decode cX0_init 110 = .ok (.putfield 93, 3) := dk_181 0 93 (dk_at dksX0_init_4 15 rfl rfl)
theorem dX0_init_113 : decode cX0_init 113 = .ok (.aload_n 0, 1) := dk_42 (dk_at dksX0_init_4 18 rfl rfl)
theorem dX0_init_114 : decode cX0_init 114 = .ok (.bipush 18, 2) := dk_16 18 (dk_at dksX0_init_4 19 rfl rfl)
theorem dX0_init_116 : decode cX0_init 116 = .ok (.newarray .byte, 2) := dk_188_8 (dk_at dksX0_init_4 21 rfl rfl)
theorem dX0_init_118 : decode cX0_init 118 = .ok (.putfield 97, 3) := dk_181 0 97 (dk_at dksX0_init_5 0 rfl rfl)
theorem dX0_init_121 : decode cX0_init 121 = .ok (.aload_n 0, 1) := dk_42 (dk_at dksX0_init_5 3 rfl rfl)
theorem dX0_init_122 : decode cX0_init 122 = .ok (.sipush 160, 3) := dk_17 0 160 (dk_at dksX0_init_5 4 rfl rfl)
theorem dX0_init_125 : decode cX0_init 125 = .ok (.newarray .byte, 2) := dk_188_8 (dk_at dksX0_init_5 7 rfl rfl)
theorem dX0_init_127 : decode cX0_init 127 = .ok (.putfield 100, 3) := dk_181 0 100 (dk_at dksX0_init_5 9 rfl rfl)
theorem dX0_init_130 : decode cX0_init 130 = .ok (.aload_n 0, 1) := dk_42 (dk_at dksX0_init_5 12 rfl rfl)
theorem dX0_init_131 : decode cX0_init 131 = .ok (.iconst 2, 1) := dk_5 (dk_at dksX0_init_5 13 rfl rfl)
theorem dX0_init_132 : decode cX0_init 132 = .ok (.newarray .int, 2) := dk_188_10 (dk_at dksX0_init_5 14 rfl rfl)
theorem dX0_init_134 : decode cX0_init 134 = .ok (.putfield 103, 3) := dk_181 0 103 (dk_at dksX0_init_5 16 rfl rfl)
theorem dX0_init_137 : decode cX0_init 137 = .ok (.aload_n 0, 1) := dk_42 (dk_at dksX0_init_5 19 rfl rfl)
theorem dX0_init_138 : decode cX0_init 138 = .ok (.bipush 105, 2) := dk_16 105 (dk_at dksX0_init_5 20 rfl rfl)
theorem dX0_init_140 : decode cX0_init 140 = .ok (.newarray .byte, 2) := dk_188_8 (dk_at dksX0_init_5 22 rfl rfl)
theorem dX0_init_142 : decode cX0_init 142 = .ok (.putfield 107, 3) := dk_181 0 107 (dk_at dksX0_init_6 0 rfl rfl)
theorem dX0_init_145 : decode cX0_init 145 = .ok (.aload_n 0, 1) := dk_42 (dk_at dksX0_init_6 3 rfl rfl)
theorem dX0_init_146 : decode cX0_init 146 = .ok (.bipush 100, 2) := dk_16 100 (dk_at dksX0_init_6 4 rfl rfl)
theorem dX0_init_148 : decode cX0_init 148 = .ok (.newarray .byte, 2) := dk_188_8 (dk_at dksX0_init_6 6 rfl rfl)
theorem dX0_init_150 : decode cX0_init 150 = .ok (.putfield 110, 3) := dk_181 0 110 (dk_at dksX0_init_6 8 rfl rfl)
theorem dX0_init_153 : decode cX0_init 153 = .ok (.aload_n 0, 1) := dk_42 (dk_at dksX0_init_6 11 rfl rfl)
theorem dX0_init_154 : decode cX0_init 154 = .ok (.iconst 4, 1) := dk_7 (dk_at dksX0_init_6 12 rfl rfl)
theorem dX0_init_155 : decode cX0_init 155 = .ok (.anewarray 113, 3) := dk_189 0 113 (dk_at dksX0_init_6 13 rfl rfl)
theorem dX0_init_158 : decode cX0_init 158 = .ok (.putfield 115, 3) := dk_181 0 115 (dk_at dksX0_init_6 16 rfl rfl)
theorem dX0_init_161 : decode cX0_init 161 = .ok (.iconst 0, 1) := dk_3 (dk_at dksX0_init_6 19 rfl rfl)
theorem dX0_init_162 : decode cX0_init 162 = .ok (.istore_n 1, 1) := dk_60 (dk_at dksX0_init_6 20 rfl rfl)
theorem dX0_init_163 : decode cX0_init 163 = .ok (.iload_n 1, 1) := dk_27 (dk_at dksX0_init_6 21 rfl rfl)
theorem dX0_init_164 : decode cX0_init 164 = .ok (.iconst 4, 1) := dk_7 (dk_at dksX0_init_6 22 rfl rfl)
theorem dX0_init_165 : decode cX0_init 165 = .ok (.if_icmp .ge 22, 3) := dk_162 0 22 (dk_at dksX0_init_7 0 rfl rfl)
theorem dX0_init_168 : decode cX0_init 168 = .ok (.aload_n 0, 1) := dk_42 (dk_at dksX0_init_7 3 rfl rfl)
theorem dX0_init_169 : decode cX0_init 169 = .ok (.getfield 115, 3) := dk_180 0 115 (dk_at dksX0_init_7 4 rfl rfl)
theorem dX0_init_172 : decode cX0_init 172 = .ok (.iload_n 1, 1) := dk_27 (dk_at dksX0_init_7 7 rfl rfl)
theorem dX0_init_173 : decode cX0_init 173 = .ok (.new 113, 3) := dk_187 0 113 (dk_at dksX0_init_7 8 rfl rfl)
theorem dX0_init_176 : decode cX0_init 176 = .ok (.dup, 1) := dk_89 (dk_at dksX0_init_7 11 rfl rfl)
theorem dX0_init_177 : decode cX0_init 177 = .ok (.invokespecial 119, 3) := dk_183 0 119 (dk_at dksX0_init_7 12 rfl rfl)
theorem dX0_init_180 : decode cX0_init 180 = .ok (.aastore, 1) := dk_83 (dk_at dksX0_init_7 15 rfl rfl)
theorem dX0_init_181 : decode cX0_init 181 = .ok (.iinc 1 1, 3) := dk_132 1 1 (dk_at dksX0_init_7 16 rfl rfl)
theorem dX0_init_184 : decode cX0_init 184 = .ok (.goto (-21), 3) := dk_167 255 235 (dk_at dksX0_init_7 19 rfl rfl)
theorem dX0_init_187 : decode cX0_init 187 = .ok (.return_, 1) := dk_177 (dk_at dksX0_init_7 22 rfl rfl)
abbrev cX0_feed : ByteArray := prog_1_method_7_code
def yX0_feed : MethodName := ⟨RX0, "feed", "(I)I"⟩
def dkwX0_feed_2 : List UInt8 := [42, 180, 0, 126, 172]
abbrev dktX0_feed_2 : List UInt8 := dkwX0_feed_2 ++ []
def dkwX0_feed_1 : List UInt8 := [16, 253, 172, 42, 180, 0, 100, 42, 180, 0, 126, 27, 145, 84, 42, 89, 180, 0, 126, 4, 96, 181, 0, 126]
abbrev dktX0_feed_1 : List UInt8 := dkwX0_feed_1 ++ dktX0_feed_2
def dkwX0_feed_0 : List UInt8 := [27, 133, 9, 20, 0, 120, 184, 0, 122, 154, 0, 5, 2, 172, 42, 180, 0, 126, 17, 0, 160, 160, 0, 6]
abbrev dktX0_feed_0 : List UInt8 := dkwX0_feed_0 ++ dktX0_feed_1
theorem dksX0_feed_0 : cX0_feed.data.toList.drop 0 = dktX0_feed_0 := by decide +kernel
theorem dksX0_feed_1 : cX0_feed.data.toList.drop 24 = dktX0_feed_1 := dk_seg dksX0_feed_0 24 rfl rfl
theorem dksX0_feed_2 : cX0_feed.data.toList.drop 48 = dktX0_feed_2 := dk_seg dksX0_feed_1 24 rfl rfl
theorem dX0_feed_0 : decode cX0_feed 0 = .ok (.iload_n 1, 1) := dk_27 (dk_at dksX0_feed_0 0 rfl rfl)
theorem dX0_feed_1 : decode cX0_feed 1 = .ok (.i2l, 1) := dk_133 (dk_at dksX0_feed_0 1 rfl rfl)
theorem dX0_feed_2 : decode cX0_feed 2 = .ok (.lconst 0, 1) := dk_9 (dk_at dksX0_feed_0 2 rfl rfl)
theorem dX0_feed_3 : decode cX0_feed 3 = .ok (.ldc2_w 120, 3) := dk_20 0 120 (dk_at dksX0_feed_0 3 rfl rfl)
theorem dX0_feed_6 : decode cX0_feed 6 = .ok (.invokestatic 122, 3) := dk_184 0 122 (dk_at dksX0_feed_0 6 rfl rfl)
theorem dX0_feed_9 : decode cX0_feed 9 = .ok (.ifCond .ne 5, 3) := dk_154 0 5 (dk_at dksX0_feed_0 9 rfl rfl)
theorem dX0_feed_12 : decode cX0_feed 12 = .ok (.iconst (-1), 1) := dk_2 (dk_at dksX0_feed_0 12 rfl rfl)
theorem dX0_feed_13 : decode cX0_feed 13 = .ok (.ireturn, 1) := dk_172 (dk_at dksX0_feed_0 13 rfl rfl)
theorem dX0_feed_14 : decode cX0_feed 14 = .ok (.aload_n 0, 1) := dk_42 (dk_at dksX0_feed_0 14 rfl rfl)
theorem dX0_feed_15 : decode cX0_feed 15 = .ok (.getfield 126, 3) := dk_180 0 126 (dk_at dksX0_feed_0 15 rfl rfl)
theorem dX0_feed_18 : decode cX0_feed 18 = .ok (.sipush 160, 3) := dk_17 0 160 (dk_at dksX0_feed_0 18 rfl rfl)
theorem dX0_feed_21 : decode cX0_feed 21 = .ok (.if_icmp .ne 6, 3) := dk_160 0 6 (dk_at dksX0_feed_0 21 rfl rfl)
theorem dX0_feed_24 : decode cX0_feed 24 = .ok (.bipush (-3), 2) := dk_16 253 (dk_at dksX0_feed_1 0 rfl rfl)
theorem dX0_feed_26 : decode cX0_feed 26 = .ok (.ireturn, 1) := dk_172 (dk_at dksX0_feed_1 2 rfl rfl)
theorem dX0_feed_27 : decode cX0_feed 27 = .ok (.aload_n 0, 1) := dk_42 (dk_at dksX0_feed_1 3 rfl rfl)
theorem dX0_feed_28 : decode cX0_feed 28 = .ok (.getfield 100, 3) := dk_180 0 100 (dk_at dksX0_feed_1 4 rfl rfl)
theorem dX0_feed_31 : decode cX0_feed 31 = .ok (.aload_n 0, 1) := dk_42 (dk_at dksX0_feed_1 7 rfl rfl)
theorem dX0_feed_32 : decode cX0_feed 32 = .ok (.getfield 126, 3) := dk_180 0 126 (dk_at dksX0_feed_1 8 rfl rfl)
theorem dX0_feed_35 : decode cX0_feed 35 = .ok (.iload_n 1, 1) := dk_27 (dk_at dksX0_feed_1 11 rfl rfl)
theorem dX0_feed_36 : decode cX0_feed 36 = .ok (.i2b, 1) := dk_145 (dk_at dksX0_feed_1 12 rfl rfl)
theorem dX0_feed_37 : decode cX0_feed 37 = .ok (.bastore, 1) := dk_84 (dk_at dksX0_feed_1 13 rfl rfl)
theorem dX0_feed_38 : decode cX0_feed 38 = .ok (.aload_n 0, 1) := dk_42 (dk_at dksX0_feed_1 14 rfl rfl)
theorem dX0_feed_39 : decode cX0_feed 39 = .ok (.dup, 1) := dk_89 (dk_at dksX0_feed_1 15 rfl rfl)
theorem dX0_feed_40 : decode cX0_feed 40 = .ok (.getfield 126, 3) := dk_180 0 126 (dk_at dksX0_feed_1 16 rfl rfl)
theorem dX0_feed_43 : decode cX0_feed 43 = .ok (.iconst 1, 1) := dk_4 (dk_at dksX0_feed_1 19 rfl rfl)
theorem dX0_feed_44 : decode cX0_feed 44 = .ok (.iadd, 1) := dk_96 (dk_at dksX0_feed_1 20 rfl rfl)
theorem dX0_feed_45 : decode cX0_feed 45 = .ok (.putfield 126, 3) := dk_181 0 126 (dk_at dksX0_feed_1 21 rfl rfl)
theorem dX0_feed_48 : decode cX0_feed 48 = .ok (.aload_n 0, 1) := dk_42 (dk_at dksX0_feed_2 0 rfl rfl)
theorem dX0_feed_49 : decode cX0_feed 49 = .ok (.getfield 126, 3) := dk_180 0 126 (dk_at dksX0_feed_2 1 rfl rfl)
theorem dX0_feed_52 : decode cX0_feed 52 = .ok (.ireturn, 1) := dk_172 (dk_at dksX0_feed_2 4 rfl rfl)
abbrev cX0_in : ByteArray := prog_1_method_1_code
def yX0_in : MethodName := ⟨RX0, "in", "(JJJ)Z"⟩
def dkwX0_in_0 : List UInt8 := [30, 32, 148, 155, 0, 14, 30, 22, 4, 148, 157, 0, 7, 4, 167, 0, 4, 3, 172]
abbrev dktX0_in_0 : List UInt8 := dkwX0_in_0 ++ []
theorem dksX0_in_0 : cX0_in.data.toList.drop 0 = dktX0_in_0 := by decide +kernel
theorem dX0_in_0 : decode cX0_in 0 = .ok (.lload_n 0, 1) := dk_30 (dk_at dksX0_in_0 0 rfl rfl)
theorem dX0_in_1 : decode cX0_in 1 = .ok (.lload_n 2, 1) := dk_32 (dk_at dksX0_in_0 1 rfl rfl)
theorem dX0_in_2 : decode cX0_in 2 = .ok (.lcmp, 1) := dk_148 (dk_at dksX0_in_0 2 rfl rfl)
theorem dX0_in_3 : decode cX0_in 3 = .ok (.ifCond .lt 14, 3) := dk_155 0 14 (dk_at dksX0_in_0 3 rfl rfl)
theorem dX0_in_6 : decode cX0_in 6 = .ok (.lload_n 0, 1) := dk_30 (dk_at dksX0_in_0 6 rfl rfl)
theorem dX0_in_7 : decode cX0_in 7 = .ok (.lload 4, 2) := dk_22 4 (dk_at dksX0_in_0 7 rfl rfl)
theorem dX0_in_9 : decode cX0_in 9 = .ok (.lcmp, 1) := dk_148 (dk_at dksX0_in_0 9 rfl rfl)
theorem dX0_in_10 : decode cX0_in 10 = .ok (.ifCond .gt 7, 3) := dk_157 0 7 (dk_at dksX0_in_0 10 rfl rfl)
theorem dX0_in_13 : decode cX0_in 13 = .ok (.iconst 1, 1) := dk_4 (dk_at dksX0_in_0 13 rfl rfl)
theorem dX0_in_14 : decode cX0_in 14 = .ok (.goto 4, 3) := dk_167 0 4 (dk_at dksX0_in_0 14 rfl rfl)
theorem dX0_in_17 : decode cX0_in 17 = .ok (.iconst 0, 1) := dk_3 (dk_at dksX0_in_0 17 rfl rfl)
theorem dX0_in_18 : decode cX0_in 18 = .ok (.ireturn, 1) := dk_172 (dk_at dksX0_in_0 18 rfl rfl)
abbrev cX0_end : ByteArray := prog_1_method_8_code
def yX0_end : MethodName := ⟨RX0, "end", "(I)I"⟩
def dkwX0_end_1 : List UInt8 := [181, 0, 126, 28, 172]
abbrev dktX0_end_1 : List UInt8 := dkwX0_end_1 ++ []
def dkwX0_end_0 : List UInt8 := [27, 133, 9, 42, 180, 0, 126, 133, 184, 0, 122, 154, 0, 5, 2, 172, 42, 180, 0, 126, 61, 42, 27]
abbrev dktX0_end_0 : List UInt8 := dkwX0_end_0 ++ dktX0_end_1
theorem dksX0_end_0 : cX0_end.data.toList.drop 0 = dktX0_end_0 := by decide +kernel
theorem dksX0_end_1 : cX0_end.data.toList.drop 23 = dktX0_end_1 := dk_seg dksX0_end_0 23 rfl rfl
theorem dX0_end_0 : decode cX0_end 0 = .ok (.iload_n 1, 1) := dk_27 (dk_at dksX0_end_0 0 rfl rfl)
theorem dX0_end_1 : decode cX0_end 1 = .ok (.i2l, 1) := dk_133 (dk_at dksX0_end_0 1 rfl rfl)
theorem dX0_end_2 : decode cX0_end 2 = .ok (.lconst 0, 1) := dk_9 (dk_at dksX0_end_0 2 rfl rfl)
theorem dX0_end_3 : decode cX0_end 3 = .ok (.aload_n 0, 1) := dk_42 (dk_at dksX0_end_0 3 rfl rfl)
theorem dX0_end_4 : decode cX0_end 4 = .ok (.getfield 126, 3) := dk_180 0 126 (dk_at dksX0_end_0 4 rfl rfl)
theorem dX0_end_7 : decode cX0_end 7 = .ok (.i2l, 1) := dk_133 (dk_at dksX0_end_0 7 rfl rfl)
theorem dX0_end_8 : decode cX0_end 8 = .ok (.invokestatic 122, 3) := dk_184 0 122 (dk_at dksX0_end_0 8 rfl rfl)
theorem dX0_end_11 : decode cX0_end 11 = .ok (.ifCond .ne 5, 3) := dk_154 0 5 (dk_at dksX0_end_0 11 rfl rfl)
theorem dX0_end_14 : decode cX0_end 14 = .ok (.iconst (-1), 1) := dk_2 (dk_at dksX0_end_0 14 rfl rfl)
theorem dX0_end_15 : decode cX0_end 15 = .ok (.ireturn, 1) := dk_172 (dk_at dksX0_end_0 15 rfl rfl)
theorem dX0_end_16 : decode cX0_end 16 = .ok (.aload_n 0, 1) := dk_42 (dk_at dksX0_end_0 16 rfl rfl)
theorem dX0_end_17 : decode cX0_end 17 = .ok (.getfield 126, 3) := dk_180 0 126 (dk_at dksX0_end_0 17 rfl rfl)
theorem dX0_end_20 : decode cX0_end 20 = .ok (.istore_n 2, 1) := dk_61 (dk_at dksX0_end_0 20 rfl rfl)
theorem dX0_end_21 : decode cX0_end 21 = .ok (.aload_n 0, 1) := dk_42 (dk_at dksX0_end_0 21 rfl rfl)
theorem dX0_end_22 : decode cX0_end 22 = .ok (.iload_n 1, 1) := dk_27 (dk_at dksX0_end_0 22 rfl rfl)
theorem dX0_end_23 : decode cX0_end 23 = .ok (.putfield 126, 3) := dk_181 0 126 (dk_at dksX0_end_1 0 rfl rfl)
theorem dX0_end_26 : decode cX0_end 26 = .ok (.iload_n 2, 1) := dk_28 (dk_at dksX0_end_1 3 rfl rfl)
theorem dX0_end_27 : decode cX0_end 27 = .ok (.ireturn, 1) := dk_172 (dk_at dksX0_end_1 4 rfl rfl)
abbrev cX0_text : ByteArray := prog_1_method_9_code
def yX0_text : MethodName := ⟨RX0, "text", "()I"⟩
def dkwX0_text_2 : List UInt8 := [181, 0, 151, 29, 172, 77, 42, 44, 180, 0, 156, 181, 0, 129, 16, 246, 44, 180, 0, 159, 100, 172]
abbrev dktX0_text_2 : List UInt8 := dkwX0_text_2 ++ []
def dkwX0_text_1 : List UInt8 := [77, 44, 182, 0, 137, 62, 42, 180, 0, 83, 44, 180, 0, 141, 182, 0, 144, 42, 3, 181, 0, 148, 42, 3]
abbrev dktX0_text_1 : List UInt8 := dkwX0_text_1 ++ dktX0_text_2
def dkwX0_text_0 : List UInt8 := [42, 180, 0, 126, 60, 42, 3, 181, 0, 126, 42, 3, 181, 0, 129, 187, 0, 132, 89, 42, 27, 183, 0, 134]
abbrev dktX0_text_0 : List UInt8 := dkwX0_text_0 ++ dktX0_text_1
theorem dksX0_text_0 : cX0_text.data.toList.drop 0 = dktX0_text_0 := by decide +kernel
theorem dksX0_text_1 : cX0_text.data.toList.drop 24 = dktX0_text_1 := dk_seg dksX0_text_0 24 rfl rfl
theorem dksX0_text_2 : cX0_text.data.toList.drop 48 = dktX0_text_2 := dk_seg dksX0_text_1 24 rfl rfl
theorem dX0_text_0 : decode cX0_text 0 = .ok (.aload_n 0, 1) := dk_42 (dk_at dksX0_text_0 0 rfl rfl)
theorem dX0_text_1 : decode cX0_text 1 = .ok (.getfield 126, 3) := dk_180 0 126 (dk_at dksX0_text_0 1 rfl rfl)
theorem dX0_text_4 : decode cX0_text 4 = .ok (.istore_n 1, 1) := dk_60 (dk_at dksX0_text_0 4 rfl rfl)
theorem dX0_text_5 : decode cX0_text 5 = .ok (.aload_n 0, 1) := dk_42 (dk_at dksX0_text_0 5 rfl rfl)
theorem dX0_text_6 : decode cX0_text 6 = .ok (.iconst 0, 1) := dk_3 (dk_at dksX0_text_0 6 rfl rfl)
theorem dX0_text_7 : decode cX0_text 7 = .ok (.putfield 126, 3) := dk_181 0 126 (dk_at dksX0_text_0 7 rfl rfl)
theorem dX0_text_10 : decode cX0_text 10 = .ok (.aload_n 0, 1) := dk_42 (dk_at dksX0_text_0 10 rfl rfl)
theorem dX0_text_11 : decode cX0_text 11 = .ok (.iconst 0, 1) := dk_3 (dk_at dksX0_text_0 11 rfl rfl)
theorem dX0_text_12 : decode cX0_text 12 = .ok (.putfield 129, 3) := dk_181 0 129 (dk_at dksX0_text_0 12 rfl rfl)
theorem dX0_text_15 : decode cX0_text 15 = .ok (.new 132, 3) := dk_187 0 132 (dk_at dksX0_text_0 15 rfl rfl)
theorem dX0_text_18 : decode cX0_text 18 = .ok (.dup, 1) := dk_89 (dk_at dksX0_text_0 18 rfl rfl)
theorem dX0_text_19 : decode cX0_text 19 = .ok (.aload_n 0, 1) := dk_42 (dk_at dksX0_text_0 19 rfl rfl)
theorem dX0_text_20 : decode cX0_text 20 = .ok (.iload_n 1, 1) := dk_27 (dk_at dksX0_text_0 20 rfl rfl)
theorem dX0_text_21 : decode cX0_text 21 = .ok (.invokespecial 134, 3) := dk_183 0 134 (dk_at dksX0_text_0 21 rfl rfl)
theorem dX0_text_24 : decode cX0_text 24 = .ok (.astore_n 2, 1) := dk_77 (dk_at dksX0_text_1 0 rfl rfl)
theorem dX0_text_25 : decode cX0_text 25 = .ok (.aload_n 2, 1) := dk_44 (dk_at dksX0_text_1 1 rfl rfl)
theorem dX0_text_26 : decode cX0_text 26 = .ok (.invokevirtual 137, 3) := dk_182 0 137 (dk_at dksX0_text_1 2 rfl rfl)
theorem dX0_text_29 : decode cX0_text 29 = .ok (.istore_n 3, 1) := dk_62 (dk_at dksX0_text_1 5 rfl rfl)
theorem dX0_text_30 : decode cX0_text 30 = .ok (.aload_n 0, 1) := dk_42 (dk_at dksX0_text_1 6 rfl rfl)
theorem dX0_text_31 : decode cX0_text 31 = .ok (.getfield 83, 3) := dk_180 0 83 (dk_at dksX0_text_1 7 rfl rfl)
theorem dX0_text_34 : decode cX0_text 34 = .ok (.aload_n 2, 1) := dk_44 (dk_at dksX0_text_1 10 rfl rfl)
theorem dX0_text_35 : decode cX0_text 35 = .ok (.getfield 141, 3) := dk_180 0 141 (dk_at dksX0_text_1 11 rfl rfl)
theorem dX0_text_38 : decode cX0_text 38 = .ok (.invokevirtual 144, 3) := dk_182 0 144 (dk_at dksX0_text_1 14 rfl rfl)
theorem dX0_text_41 : decode cX0_text 41 = .ok (.aload_n 0, 1) := dk_42 (dk_at dksX0_text_1 17 rfl rfl)
theorem dX0_text_42 : decode cX0_text 42 = .ok (.iconst 0, 1) := dk_3 (dk_at dksX0_text_1 18 rfl rfl)
theorem dX0_text_43 : decode cX0_text 43 = .ok (.putfield 148, 3) := dk_181 0 148 (dk_at dksX0_text_1 19 rfl rfl)
theorem dX0_text_46 : decode cX0_text 46 = .ok (.aload_n 0, 1) := dk_42 (dk_at dksX0_text_1 22 rfl rfl)
theorem dX0_text_47 : decode cX0_text 47 = .ok (.iconst 0, 1) := dk_3 (dk_at dksX0_text_1 23 rfl rfl)
theorem dX0_text_48 : decode cX0_text 48 = .ok (.putfield 151, 3) := dk_181 0 151 (dk_at dksX0_text_2 0 rfl rfl)
theorem dX0_text_51 : decode cX0_text 51 = .ok (.iload_n 3, 1) := dk_29 (dk_at dksX0_text_2 3 rfl rfl)
theorem dX0_text_52 : decode cX0_text 52 = .ok (.ireturn, 1) := dk_172 (dk_at dksX0_text_2 4 rfl rfl)
theorem dX0_text_53 : decode cX0_text 53 = .ok (.astore_n 2, 1) := dk_77 (dk_at dksX0_text_2 5 rfl rfl)
theorem dX0_text_54 : decode cX0_text 54 = .ok (.aload_n 0, 1) := dk_42 (dk_at dksX0_text_2 6 rfl rfl)
theorem dX0_text_55 : decode cX0_text 55 = .ok (.aload_n 2, 1) := dk_44 (dk_at dksX0_text_2 7 rfl rfl)
theorem dX0_text_56 : decode cX0_text 56 = .ok (.getfield 156, 3) := dk_180 0 156 (dk_at dksX0_text_2 8 rfl rfl)
theorem dX0_text_59 : decode cX0_text 59 = .ok (.putfield 129, 3) := dk_181 0 129 (dk_at dksX0_text_2 11 rfl rfl)
theorem dX0_text_62 : decode cX0_text 62 = .ok (.bipush (-10), 2) := dk_16 246 (dk_at dksX0_text_2 14 rfl rfl)
theorem dX0_text_64 : decode cX0_text 64 = .ok (.aload_n 2, 1) := dk_44 (dk_at dksX0_text_2 16 rfl rfl)
theorem dX0_text_65 : decode cX0_text 65 = .ok (.getfield 159, 3) := dk_180 0 159 (dk_at dksX0_text_2 17 rfl rfl)
theorem dX0_text_68 : decode cX0_text 68 = .ok (.isub, 1) := dk_100 (dk_at dksX0_text_2 20 rfl rfl)
theorem dX0_text_69 : decode cX0_text 69 = .ok (.ireturn, 1) := dk_172 (dk_at dksX0_text_2 21 rfl rfl)
abbrev cX0_fault : ByteArray := prog_1_method_10_code
def yX0_fault : MethodName := ⟨RX0, "fault", "()I"⟩
theorem dX0_fault_0 : decode cX0_fault 0 = .ok (.aload_n 0, 1) := by decide +kernel
theorem dX0_fault_1 : decode cX0_fault 1 = .ok (.getfield 129, 3) := by decide +kernel
theorem dX0_fault_4 : decode cX0_fault 4 = .ok (.ireturn, 1) := by decide +kernel
abbrev cX0_rule : ByteArray := prog_1_method_15_code
def yX0_rule : MethodName := ⟨RX0, "rule", "(I)I"⟩
def dkwX0_rule_4 : List UInt8 := [42, 180, 0, 83, 180, 0, 179, 172, 2, 172]
abbrev dktX0_rule_4 : List UInt8 := dkwX0_rule_4 ++ []
def dkwX0_rule_3 : List UInt8 := [42, 180, 0, 83, 180, 0, 48, 172, 42, 180, 0, 83, 182, 0, 173, 172, 42, 180, 0, 83, 182, 0, 176, 172]
abbrev dktX0_rule_3 : List UInt8 := dkwX0_rule_3 ++ dktX0_rule_4
def dkwX0_rule_2 : List UInt8 := [42, 180, 0, 83, 180, 0, 27, 172, 42, 180, 0, 83, 180, 0, 170, 172, 42, 180, 0, 83, 180, 0, 39, 172]
abbrev dktX0_rule_2 : List UInt8 := dkwX0_rule_2 ++ dktX0_rule_3
def dkwX0_rule_1 : List UInt8 := [170, 0, 0, 0, 0, 0, 99, 0, 0, 0, 0, 0, 0, 0, 6, 0, 0, 0, 43, 0, 0, 0, 51, 0, 0, 0, 59, 0, 0, 0, 67, 0, 0, 0, 75, 0, 0, 0, 83, 0, 0, 0, 91]
abbrev dktX0_rule_1 : List UInt8 := dkwX0_rule_1 ++ dktX0_rule_2
def dkwX0_rule_0 : List UInt8 := [27]
abbrev dktX0_rule_0 : List UInt8 := dkwX0_rule_0 ++ dktX0_rule_1
theorem dksX0_rule_0 : cX0_rule.data.toList.drop 0 = dktX0_rule_0 := by decide +kernel
theorem dksX0_rule_1 : cX0_rule.data.toList.drop 1 = dktX0_rule_1 := dk_seg dksX0_rule_0 1 rfl rfl
theorem dksX0_rule_2 : cX0_rule.data.toList.drop 44 = dktX0_rule_2 := dk_seg dksX0_rule_1 43 rfl rfl
theorem dksX0_rule_3 : cX0_rule.data.toList.drop 68 = dktX0_rule_3 := dk_seg dksX0_rule_2 24 rfl rfl
theorem dksX0_rule_4 : cX0_rule.data.toList.drop 92 = dktX0_rule_4 := dk_seg dksX0_rule_3 24 rfl rfl
theorem dX0_rule_0 : decode cX0_rule 0 = .ok (.iload_n 1, 1) := dk_27 (dk_at dksX0_rule_0 0 rfl rfl)
theorem dX0_rule_1 : decode cX0_rule 1 = .ok (.tableswitch 99 0 6 #[43, 51, 59, 67, 75, 83, 91], 43) := by decide +kernel
theorem dX0_rule_44 : decode cX0_rule 44 = .ok (.aload_n 0, 1) := dk_42 (dk_at dksX0_rule_2 0 rfl rfl)
theorem dX0_rule_45 : decode cX0_rule 45 = .ok (.getfield 83, 3) := dk_180 0 83 (dk_at dksX0_rule_2 1 rfl rfl)
theorem dX0_rule_48 : decode cX0_rule 48 = .ok (.getfield 27, 3) := dk_180 0 27 (dk_at dksX0_rule_2 4 rfl rfl)
theorem dX0_rule_51 : decode cX0_rule 51 = .ok (.ireturn, 1) := dk_172 (dk_at dksX0_rule_2 7 rfl rfl)
theorem dX0_rule_52 : decode cX0_rule 52 = .ok (.aload_n 0, 1) := dk_42 (dk_at dksX0_rule_2 8 rfl rfl)
theorem dX0_rule_53 : decode cX0_rule 53 = .ok (.getfield 83, 3) := dk_180 0 83 (dk_at dksX0_rule_2 9 rfl rfl)
theorem dX0_rule_56 : decode cX0_rule 56 = .ok (.getfield 170, 3) := dk_180 0 170 (dk_at dksX0_rule_2 12 rfl rfl)
theorem dX0_rule_59 : decode cX0_rule 59 = .ok (.ireturn, 1) := dk_172 (dk_at dksX0_rule_2 15 rfl rfl)
theorem dX0_rule_60 : decode cX0_rule 60 = .ok (.aload_n 0, 1) := dk_42 (dk_at dksX0_rule_2 16 rfl rfl)
theorem dX0_rule_61 : decode cX0_rule 61 = .ok (.getfield 83, 3) := dk_180 0 83 (dk_at dksX0_rule_2 17 rfl rfl)
theorem dX0_rule_64 : decode cX0_rule 64 = .ok (.getfield 39, 3) := dk_180 0 39 (dk_at dksX0_rule_2 20 rfl rfl)
theorem dX0_rule_67 : decode cX0_rule 67 = .ok (.ireturn, 1) := dk_172 (dk_at dksX0_rule_2 23 rfl rfl)
theorem dX0_rule_68 : decode cX0_rule 68 = .ok (.aload_n 0, 1) := dk_42 (dk_at dksX0_rule_3 0 rfl rfl)
theorem dX0_rule_69 : decode cX0_rule 69 = .ok (.getfield 83, 3) := dk_180 0 83 (dk_at dksX0_rule_3 1 rfl rfl)
theorem dX0_rule_72 : decode cX0_rule 72 = .ok (.getfield 48, 3) := dk_180 0 48 (dk_at dksX0_rule_3 4 rfl rfl)
theorem dX0_rule_75 : decode cX0_rule 75 = .ok (.ireturn, 1) := dk_172 (dk_at dksX0_rule_3 7 rfl rfl)
theorem dX0_rule_76 : decode cX0_rule 76 = .ok (.aload_n 0, 1) := dk_42 (dk_at dksX0_rule_3 8 rfl rfl)
theorem dX0_rule_77 : decode cX0_rule 77 = .ok (.getfield 83, 3) := dk_180 0 83 (dk_at dksX0_rule_3 9 rfl rfl)
theorem dX0_rule_80 : decode cX0_rule 80 = .ok (.invokevirtual 173, 3) := dk_182 0 173 (dk_at dksX0_rule_3 12 rfl rfl)
theorem dX0_rule_83 : decode cX0_rule 83 = .ok (.ireturn, 1) := dk_172 (dk_at dksX0_rule_3 15 rfl rfl)
theorem dX0_rule_84 : decode cX0_rule 84 = .ok (.aload_n 0, 1) := dk_42 (dk_at dksX0_rule_3 16 rfl rfl)
theorem dX0_rule_85 : decode cX0_rule 85 = .ok (.getfield 83, 3) := dk_180 0 83 (dk_at dksX0_rule_3 17 rfl rfl)
theorem dX0_rule_88 : decode cX0_rule 88 = .ok (.invokevirtual 176, 3) := dk_182 0 176 (dk_at dksX0_rule_3 20 rfl rfl)
theorem dX0_rule_91 : decode cX0_rule 91 = .ok (.ireturn, 1) := dk_172 (dk_at dksX0_rule_3 23 rfl rfl)
theorem dX0_rule_92 : decode cX0_rule 92 = .ok (.aload_n 0, 1) := dk_42 (dk_at dksX0_rule_4 0 rfl rfl)
theorem dX0_rule_93 : decode cX0_rule 93 = .ok (.getfield 83, 3) := dk_180 0 83 (dk_at dksX0_rule_4 1 rfl rfl)
theorem dX0_rule_96 : decode cX0_rule 96 = .ok (.getfield 179, 3) := dk_180 0 179 (dk_at dksX0_rule_4 4 rfl rfl)
theorem dX0_rule_99 : decode cX0_rule 99 = .ok (.ireturn, 1) := dk_172 (dk_at dksX0_rule_4 7 rfl rfl)
theorem dX0_rule_100 : decode cX0_rule 100 = .ok (.iconst (-1), 1) := dk_2 (dk_at dksX0_rule_4 8 rfl rfl)
theorem dX0_rule_101 : decode cX0_rule 101 = .ok (.ireturn, 1) := dk_172 (dk_at dksX0_rule_4 9 rfl rfl)
abbrev cX0_clock : ByteArray := prog_1_method_16_code
def yX0_clock : MethodName := ⟨RX0, "clock", "(II)I"⟩
def dkwX0_clock_2 : List UInt8 := [172]
abbrev dktX0_clock_2 : List UInt8 := dkwX0_clock_2 ++ []
def dkwX0_clock_1 : List UInt8 := [162, 0, 15, 42, 180, 0, 83, 27, 28, 182, 0, 3, 167, 0, 12, 42, 42, 180, 0, 83, 27, 182, 0, 31]
abbrev dktX0_clock_1 : List UInt8 := dkwX0_clock_1 ++ dktX0_clock_2
def dkwX0_clock_0 : List UInt8 := [42, 27, 182, 0, 162, 153, 0, 15, 28, 133, 9, 20, 0, 182, 184, 0, 122, 154, 0, 5, 2, 172, 28, 7]
abbrev dktX0_clock_0 : List UInt8 := dkwX0_clock_0 ++ dktX0_clock_1
theorem dksX0_clock_0 : cX0_clock.data.toList.drop 0 = dktX0_clock_0 := by decide +kernel
theorem dksX0_clock_1 : cX0_clock.data.toList.drop 24 = dktX0_clock_1 := dk_seg dksX0_clock_0 24 rfl rfl
theorem dksX0_clock_2 : cX0_clock.data.toList.drop 48 = dktX0_clock_2 := dk_seg dksX0_clock_1 24 rfl rfl
theorem dX0_clock_0 : decode cX0_clock 0 = .ok (.aload_n 0, 1) := dk_42 (dk_at dksX0_clock_0 0 rfl rfl)
theorem dX0_clock_1 : decode cX0_clock 1 = .ok (.iload_n 1, 1) := dk_27 (dk_at dksX0_clock_0 1 rfl rfl)
theorem dX0_clock_2 : decode cX0_clock 2 = .ok (.invokevirtual 162, 3) := dk_182 0 162 (dk_at dksX0_clock_0 2 rfl rfl)
theorem dX0_clock_5 : decode cX0_clock 5 = .ok (.ifCond .eq 15, 3) := dk_153 0 15 (dk_at dksX0_clock_0 5 rfl rfl)
theorem dX0_clock_8 : decode cX0_clock 8 = .ok (.iload_n 2, 1) := dk_28 (dk_at dksX0_clock_0 8 rfl rfl)
theorem dX0_clock_9 : decode cX0_clock 9 = .ok (.i2l, 1) := dk_133 (dk_at dksX0_clock_0 9 rfl rfl)
theorem dX0_clock_10 : decode cX0_clock 10 = .ok (.lconst 0, 1) := dk_9 (dk_at dksX0_clock_0 10 rfl rfl)
theorem dX0_clock_11 : decode cX0_clock 11 = .ok (.ldc2_w 182, 3) := dk_20 0 182 (dk_at dksX0_clock_0 11 rfl rfl)
theorem dX0_clock_14 : decode cX0_clock 14 = .ok (.invokestatic 122, 3) := dk_184 0 122 (dk_at dksX0_clock_0 14 rfl rfl)
theorem dX0_clock_17 : decode cX0_clock 17 = .ok (.ifCond .ne 5, 3) := dk_154 0 5 (dk_at dksX0_clock_0 17 rfl rfl)
theorem dX0_clock_20 : decode cX0_clock 20 = .ok (.iconst (-1), 1) := dk_2 (dk_at dksX0_clock_0 20 rfl rfl)
theorem dX0_clock_21 : decode cX0_clock 21 = .ok (.ireturn, 1) := dk_172 (dk_at dksX0_clock_0 21 rfl rfl)
theorem dX0_clock_22 : decode cX0_clock 22 = .ok (.iload_n 2, 1) := dk_28 (dk_at dksX0_clock_0 22 rfl rfl)
theorem dX0_clock_23 : decode cX0_clock 23 = .ok (.iconst 4, 1) := dk_7 (dk_at dksX0_clock_0 23 rfl rfl)
theorem dX0_clock_24 : decode cX0_clock 24 = .ok (.if_icmp .ge 15, 3) := dk_162 0 15 (dk_at dksX0_clock_1 0 rfl rfl)
theorem dX0_clock_27 : decode cX0_clock 27 = .ok (.aload_n 0, 1) := dk_42 (dk_at dksX0_clock_1 3 rfl rfl)
theorem dX0_clock_28 : decode cX0_clock 28 = .ok (.getfield 83, 3) := dk_180 0 83 (dk_at dksX0_clock_1 4 rfl rfl)
theorem dX0_clock_31 : decode cX0_clock 31 = .ok (.iload_n 1, 1) := dk_27 (dk_at dksX0_clock_1 7 rfl rfl)
theorem dX0_clock_32 : decode cX0_clock 32 = .ok (.iload_n 2, 1) := dk_28 (dk_at dksX0_clock_1 8 rfl rfl)
theorem dX0_clock_33 : decode cX0_clock 33 = .ok (.invokevirtual 3, 3) := dk_182 0 3 (dk_at dksX0_clock_1 9 rfl rfl)
theorem dX0_clock_36 : decode cX0_clock 36 = .ok (.goto 12, 3) := dk_167 0 12 (dk_at dksX0_clock_1 12 rfl rfl)
theorem dX0_clock_39 : decode cX0_clock 39 = .ok (.aload_n 0, 1) := dk_42 (dk_at dksX0_clock_1 15 rfl rfl)
theorem dX0_clock_40 : decode cX0_clock 40 = .ok (.aload_n 0, 1) := dk_42 (dk_at dksX0_clock_1 16 rfl rfl)
theorem dX0_clock_41 : decode cX0_clock 41 = .ok (.getfield 83, 3) := dk_180 0 83 (dk_at dksX0_clock_1 17 rfl rfl)
theorem dX0_clock_44 : decode cX0_clock 44 = .ok (.iload_n 1, 1) := dk_27 (dk_at dksX0_clock_1 20 rfl rfl)
theorem dX0_clock_45 : decode cX0_clock 45 = .ok (.invokevirtual 31, 3) := dk_182 0 31 (dk_at dksX0_clock_1 21 rfl rfl)
theorem dX0_clock_48 : decode cX0_clock 48 = .ok (.ireturn, 1) := dk_172 (dk_at dksX0_clock_2 0 rfl rfl)
abbrev cX0_isClock : ByteArray := prog_1_method_11_code
def yX0_isClock : MethodName := ⟨RX0, "isClock", "(I)Z"⟩
def dkwX0_isClock_0 : List UInt8 := [27, 133, 9, 42, 180, 0, 83, 180, 0, 27, 4, 100, 133, 184, 0, 122, 172]
abbrev dktX0_isClock_0 : List UInt8 := dkwX0_isClock_0 ++ []
theorem dksX0_isClock_0 : cX0_isClock.data.toList.drop 0 = dktX0_isClock_0 := by decide +kernel
theorem dX0_isClock_0 : decode cX0_isClock 0 = .ok (.iload_n 1, 1) := dk_27 (dk_at dksX0_isClock_0 0 rfl rfl)
theorem dX0_isClock_1 : decode cX0_isClock 1 = .ok (.i2l, 1) := dk_133 (dk_at dksX0_isClock_0 1 rfl rfl)
theorem dX0_isClock_2 : decode cX0_isClock 2 = .ok (.lconst 0, 1) := dk_9 (dk_at dksX0_isClock_0 2 rfl rfl)
theorem dX0_isClock_3 : decode cX0_isClock 3 = .ok (.aload_n 0, 1) := dk_42 (dk_at dksX0_isClock_0 3 rfl rfl)
theorem dX0_isClock_4 : decode cX0_isClock 4 = .ok (.getfield 83, 3) := dk_180 0 83 (dk_at dksX0_isClock_0 4 rfl rfl)
theorem dX0_isClock_7 : decode cX0_isClock 7 = .ok (.getfield 27, 3) := dk_180 0 27 (dk_at dksX0_isClock_0 7 rfl rfl)
theorem dX0_isClock_10 : decode cX0_isClock 10 = .ok (.iconst 1, 1) := dk_4 (dk_at dksX0_isClock_0 10 rfl rfl)
theorem dX0_isClock_11 : decode cX0_isClock 11 = .ok (.isub, 1) := dk_100 (dk_at dksX0_isClock_0 11 rfl rfl)
theorem dX0_isClock_12 : decode cX0_isClock 12 = .ok (.i2l, 1) := dk_133 (dk_at dksX0_isClock_0 12 rfl rfl)
theorem dX0_isClock_13 : decode cX0_isClock 13 = .ok (.invokestatic 122, 3) := dk_184 0 122 (dk_at dksX0_isClock_0 13 rfl rfl)
theorem dX0_isClock_16 : decode cX0_isClock 16 = .ok (.ireturn, 1) := dk_172 (dk_at dksX0_isClock_0 16 rfl rfl)
abbrev cX0_timeThen : ByteArray := prog_1_method_3_code
def yX0_timeThen : MethodName := ⟨RX0, "timeThen", "(LClockWard$Ward;I)I"⟩
def dkwX0_timeThen_1 : List UInt8 := [182, 0, 3, 182, 0, 13, 96, 184, 0, 19, 184, 0, 24, 172]
abbrev dktX0_timeThen_1 : List UInt8 := dkwX0_timeThen_1 ++ []
def dkwX0_timeThen_0 : List UInt8 := [3, 16, 99, 43, 28, 6, 182, 0, 3, 42, 180, 0, 9, 43, 28, 3, 182, 0, 3, 50, 43, 28, 5]
abbrev dktX0_timeThen_0 : List UInt8 := dkwX0_timeThen_0 ++ dktX0_timeThen_1
theorem dksX0_timeThen_0 : cX0_timeThen.data.toList.drop 0 = dktX0_timeThen_0 := by decide +kernel
theorem dksX0_timeThen_1 : cX0_timeThen.data.toList.drop 23 = dktX0_timeThen_1 := dk_seg dksX0_timeThen_0 23 rfl rfl
theorem dX0_timeThen_0 : decode cX0_timeThen 0 = .ok (.iconst 0, 1) := dk_3 (dk_at dksX0_timeThen_0 0 rfl rfl)
theorem dX0_timeThen_1 : decode cX0_timeThen 1 = .ok (.bipush 99, 2) := dk_16 99 (dk_at dksX0_timeThen_0 1 rfl rfl)
theorem dX0_timeThen_3 : decode cX0_timeThen 3 = .ok (.aload_n 1, 1) := dk_43 (dk_at dksX0_timeThen_0 3 rfl rfl)
theorem dX0_timeThen_4 : decode cX0_timeThen 4 = .ok (.iload_n 2, 1) := dk_28 (dk_at dksX0_timeThen_0 4 rfl rfl)
theorem dX0_timeThen_5 : decode cX0_timeThen 5 = .ok (.iconst 3, 1) := dk_6 (dk_at dksX0_timeThen_0 5 rfl rfl)
theorem dX0_timeThen_6 : decode cX0_timeThen 6 = .ok (.invokevirtual 3, 3) := dk_182 0 3 (dk_at dksX0_timeThen_0 6 rfl rfl)
theorem dX0_timeThen_9 : decode cX0_timeThen 9 = .ok (.aload_n 0, 1) := dk_42 (dk_at dksX0_timeThen_0 9 rfl rfl)
theorem dX0_timeThen_10 : decode cX0_timeThen 10 = .ok (.getfield 9, 3) := dk_180 0 9 (dk_at dksX0_timeThen_0 10 rfl rfl)
theorem dX0_timeThen_13 : decode cX0_timeThen 13 = .ok (.aload_n 1, 1) := dk_43 (dk_at dksX0_timeThen_0 13 rfl rfl)
theorem dX0_timeThen_14 : decode cX0_timeThen 14 = .ok (.iload_n 2, 1) := dk_28 (dk_at dksX0_timeThen_0 14 rfl rfl)
theorem dX0_timeThen_15 : decode cX0_timeThen 15 = .ok (.iconst 0, 1) := dk_3 (dk_at dksX0_timeThen_0 15 rfl rfl)
theorem dX0_timeThen_16 : decode cX0_timeThen 16 = .ok (.invokevirtual 3, 3) := dk_182 0 3 (dk_at dksX0_timeThen_0 16 rfl rfl)
theorem dX0_timeThen_19 : decode cX0_timeThen 19 = .ok (.aaload, 1) := dk_50 (dk_at dksX0_timeThen_0 19 rfl rfl)
theorem dX0_timeThen_20 : decode cX0_timeThen 20 = .ok (.aload_n 1, 1) := dk_43 (dk_at dksX0_timeThen_0 20 rfl rfl)
theorem dX0_timeThen_21 : decode cX0_timeThen 21 = .ok (.iload_n 2, 1) := dk_28 (dk_at dksX0_timeThen_0 21 rfl rfl)
theorem dX0_timeThen_22 : decode cX0_timeThen 22 = .ok (.iconst 2, 1) := dk_5 (dk_at dksX0_timeThen_0 22 rfl rfl)
theorem dX0_timeThen_23 : decode cX0_timeThen 23 = .ok (.invokevirtual 3, 3) := dk_182 0 3 (dk_at dksX0_timeThen_1 0 rfl rfl)
theorem dX0_timeThen_26 : decode cX0_timeThen 26 = .ok (.invokevirtual 13, 3) := dk_182 0 13 (dk_at dksX0_timeThen_1 3 rfl rfl)
theorem dX0_timeThen_29 : decode cX0_timeThen 29 = .ok (.iadd, 1) := dk_96 (dk_at dksX0_timeThen_1 6 rfl rfl)
theorem dX0_timeThen_30 : decode cX0_timeThen 30 = .ok (.invokestatic 19, 3) := dk_184 0 19 (dk_at dksX0_timeThen_1 7 rfl rfl)
theorem dX0_timeThen_33 : decode cX0_timeThen 33 = .ok (.invokestatic 24, 3) := dk_184 0 24 (dk_at dksX0_timeThen_1 10 rfl rfl)
theorem dX0_timeThen_36 : decode cX0_timeThen 36 = .ok (.ireturn, 1) := dk_172 (dk_at dksX0_timeThen_1 13 rfl rfl)
abbrev cX0_got : ByteArray := prog_1_method_17_code
def yX0_got : MethodName := ⟨RX0, "got", "(II)I"⟩
def dkwX0_got_1 : List UInt8 := [167, 0, 4, 2, 172]
abbrev dktX0_got_1 : List UInt8 := dkwX0_got_1 ++ []
def dkwX0_got_0 : List UInt8 := [42, 27, 28, 182, 0, 184, 153, 0, 19, 42, 180, 0, 83, 180, 0, 187, 8, 27, 104, 28, 96, 46]
abbrev dktX0_got_0 : List UInt8 := dkwX0_got_0 ++ dktX0_got_1
theorem dksX0_got_0 : cX0_got.data.toList.drop 0 = dktX0_got_0 := by decide +kernel
theorem dksX0_got_1 : cX0_got.data.toList.drop 22 = dktX0_got_1 := dk_seg dksX0_got_0 22 rfl rfl
theorem dX0_got_0 : decode cX0_got 0 = .ok (.aload_n 0, 1) := dk_42 (dk_at dksX0_got_0 0 rfl rfl)
theorem dX0_got_1 : decode cX0_got 1 = .ok (.iload_n 1, 1) := dk_27 (dk_at dksX0_got_0 1 rfl rfl)
theorem dX0_got_2 : decode cX0_got 2 = .ok (.iload_n 2, 1) := dk_28 (dk_at dksX0_got_0 2 rfl rfl)
theorem dX0_got_3 : decode cX0_got 3 = .ok (.invokevirtual 184, 3) := dk_182 0 184 (dk_at dksX0_got_0 3 rfl rfl)
theorem dX0_got_6 : decode cX0_got 6 = .ok (.ifCond .eq 19, 3) := dk_153 0 19 (dk_at dksX0_got_0 6 rfl rfl)
theorem dX0_got_9 : decode cX0_got 9 = .ok (.aload_n 0, 1) := dk_42 (dk_at dksX0_got_0 9 rfl rfl)
theorem dX0_got_10 : decode cX0_got 10 = .ok (.getfield 83, 3) := dk_180 0 83 (dk_at dksX0_got_0 10 rfl rfl)
theorem dX0_got_13 : decode cX0_got 13 = .ok (.getfield 187, 3) := dk_180 0 187 (dk_at dksX0_got_0 13 rfl rfl)
theorem dX0_got_16 : decode cX0_got 16 = .ok (.iconst 5, 1) := dk_8 (dk_at dksX0_got_0 16 rfl rfl)
theorem dX0_got_17 : decode cX0_got 17 = .ok (.iload_n 1, 1) := dk_27 (dk_at dksX0_got_0 17 rfl rfl)
theorem dX0_got_18 : decode cX0_got 18 = .ok (.imul, 1) := dk_104 (dk_at dksX0_got_0 18 rfl rfl)
theorem dX0_got_19 : decode cX0_got 19 = .ok (.iload_n 2, 1) := dk_28 (dk_at dksX0_got_0 19 rfl rfl)
theorem dX0_got_20 : decode cX0_got 20 = .ok (.iadd, 1) := dk_96 (dk_at dksX0_got_0 20 rfl rfl)
theorem dX0_got_21 : decode cX0_got 21 = .ok (.iaload, 1) := dk_46 (dk_at dksX0_got_0 21 rfl rfl)
theorem dX0_got_22 : decode cX0_got 22 = .ok (.goto 4, 3) := dk_167 0 4 (dk_at dksX0_got_1 0 rfl rfl)
theorem dX0_got_25 : decode cX0_got 25 = .ok (.iconst (-1), 1) := dk_2 (dk_at dksX0_got_1 3 rfl rfl)
theorem dX0_got_26 : decode cX0_got 26 = .ok (.ireturn, 1) := dk_172 (dk_at dksX0_got_1 4 rfl rfl)
abbrev cX0_isPair : ByteArray := prog_1_method_12_code
def yX0_isPair : MethodName := ⟨RX0, "isPair", "(II)Z"⟩
def dkwX0_isPair_1 : List UInt8 := [167, 0, 4, 3, 172]
abbrev dktX0_isPair_1 : List UInt8 := dkwX0_isPair_1 ++ []
def dkwX0_isPair_0 : List UInt8 := [42, 27, 182, 0, 162, 153, 0, 20, 42, 28, 182, 0, 162, 153, 0, 12, 27, 28, 159, 0, 7, 4]
abbrev dktX0_isPair_0 : List UInt8 := dkwX0_isPair_0 ++ dktX0_isPair_1
theorem dksX0_isPair_0 : cX0_isPair.data.toList.drop 0 = dktX0_isPair_0 := by decide +kernel
theorem dksX0_isPair_1 : cX0_isPair.data.toList.drop 22 = dktX0_isPair_1 := dk_seg dksX0_isPair_0 22 rfl rfl
theorem dX0_isPair_0 : decode cX0_isPair 0 = .ok (.aload_n 0, 1) := dk_42 (dk_at dksX0_isPair_0 0 rfl rfl)
theorem dX0_isPair_1 : decode cX0_isPair 1 = .ok (.iload_n 1, 1) := dk_27 (dk_at dksX0_isPair_0 1 rfl rfl)
theorem dX0_isPair_2 : decode cX0_isPair 2 = .ok (.invokevirtual 162, 3) := dk_182 0 162 (dk_at dksX0_isPair_0 2 rfl rfl)
theorem dX0_isPair_5 : decode cX0_isPair 5 = .ok (.ifCond .eq 20, 3) := dk_153 0 20 (dk_at dksX0_isPair_0 5 rfl rfl)
theorem dX0_isPair_8 : decode cX0_isPair 8 = .ok (.aload_n 0, 1) := dk_42 (dk_at dksX0_isPair_0 8 rfl rfl)
theorem dX0_isPair_9 : decode cX0_isPair 9 = .ok (.iload_n 2, 1) := dk_28 (dk_at dksX0_isPair_0 9 rfl rfl)
theorem dX0_isPair_10 : decode cX0_isPair 10 = .ok (.invokevirtual 162, 3) := dk_182 0 162 (dk_at dksX0_isPair_0 10 rfl rfl)
theorem dX0_isPair_13 : decode cX0_isPair 13 = .ok (.ifCond .eq 12, 3) := dk_153 0 12 (dk_at dksX0_isPair_0 13 rfl rfl)
theorem dX0_isPair_16 : decode cX0_isPair 16 = .ok (.iload_n 1, 1) := dk_27 (dk_at dksX0_isPair_0 16 rfl rfl)
theorem dX0_isPair_17 : decode cX0_isPair 17 = .ok (.iload_n 2, 1) := dk_28 (dk_at dksX0_isPair_0 17 rfl rfl)
theorem dX0_isPair_18 : decode cX0_isPair 18 = .ok (.if_icmp .eq 7, 3) := dk_159 0 7 (dk_at dksX0_isPair_0 18 rfl rfl)
theorem dX0_isPair_21 : decode cX0_isPair 21 = .ok (.iconst 1, 1) := dk_4 (dk_at dksX0_isPair_0 21 rfl rfl)
theorem dX0_isPair_22 : decode cX0_isPair 22 = .ok (.goto 4, 3) := dk_167 0 4 (dk_at dksX0_isPair_1 0 rfl rfl)
theorem dX0_isPair_25 : decode cX0_isPair 25 = .ok (.iconst 0, 1) := dk_3 (dk_at dksX0_isPair_1 3 rfl rfl)
theorem dX0_isPair_26 : decode cX0_isPair 26 = .ok (.ireturn, 1) := dk_172 (dk_at dksX0_isPair_1 4 rfl rfl)
abbrev cX0_gift : ByteArray := prog_1_method_18_code
def yX0_gift : MethodName := ⟨RX0, "gift", "(II)I"⟩
def dkwX0_gift_2 : List UInt8 := [167, 0, 4, 2, 172]
abbrev dktX0_gift_2 : List UInt8 := dkwX0_gift_2 ++ []
def dkwX0_gift_1 : List UInt8 := [20, 0, 190, 184, 0, 122, 153, 0, 19, 42, 180, 0, 83, 180, 0, 51, 6, 27, 104, 28, 96, 51]
abbrev dktX0_gift_1 : List UInt8 := dkwX0_gift_1 ++ dktX0_gift_2
def dkwX0_gift_0 : List UInt8 := [27, 133, 9, 42, 180, 0, 83, 180, 0, 48, 4, 100, 133, 184, 0, 122, 153, 0, 31, 28, 133, 9]
abbrev dktX0_gift_0 : List UInt8 := dkwX0_gift_0 ++ dktX0_gift_1
theorem dksX0_gift_0 : cX0_gift.data.toList.drop 0 = dktX0_gift_0 := by decide +kernel
theorem dksX0_gift_1 : cX0_gift.data.toList.drop 22 = dktX0_gift_1 := dk_seg dksX0_gift_0 22 rfl rfl
theorem dksX0_gift_2 : cX0_gift.data.toList.drop 44 = dktX0_gift_2 := dk_seg dksX0_gift_1 22 rfl rfl
theorem dX0_gift_0 : decode cX0_gift 0 = .ok (.iload_n 1, 1) := dk_27 (dk_at dksX0_gift_0 0 rfl rfl)
theorem dX0_gift_1 : decode cX0_gift 1 = .ok (.i2l, 1) := dk_133 (dk_at dksX0_gift_0 1 rfl rfl)
theorem dX0_gift_2 : decode cX0_gift 2 = .ok (.lconst 0, 1) := dk_9 (dk_at dksX0_gift_0 2 rfl rfl)
theorem dX0_gift_3 : decode cX0_gift 3 = .ok (.aload_n 0, 1) := dk_42 (dk_at dksX0_gift_0 3 rfl rfl)
theorem dX0_gift_4 : decode cX0_gift 4 = .ok (.getfield 83, 3) := dk_180 0 83 (dk_at dksX0_gift_0 4 rfl rfl)
theorem dX0_gift_7 : decode cX0_gift 7 = .ok (.getfield 48, 3) := dk_180 0 48 (dk_at dksX0_gift_0 7 rfl rfl)
theorem dX0_gift_10 : decode cX0_gift 10 = .ok (.iconst 1, 1) := dk_4 (dk_at dksX0_gift_0 10 rfl rfl)
theorem dX0_gift_11 : decode cX0_gift 11 = .ok (.isub, 1) := dk_100 (dk_at dksX0_gift_0 11 rfl rfl)
theorem dX0_gift_12 : decode cX0_gift 12 = .ok (.i2l, 1) := dk_133 (dk_at dksX0_gift_0 12 rfl rfl)
theorem dX0_gift_13 : decode cX0_gift 13 = .ok (.invokestatic 122, 3) := dk_184 0 122 (dk_at dksX0_gift_0 13 rfl rfl)
theorem dX0_gift_16 : decode cX0_gift 16 = .ok (.ifCond .eq 31, 3) := dk_153 0 31 (dk_at dksX0_gift_0 16 rfl rfl)
theorem dX0_gift_19 : decode cX0_gift 19 = .ok (.iload_n 2, 1) := dk_28 (dk_at dksX0_gift_0 19 rfl rfl)
theorem dX0_gift_20 : decode cX0_gift 20 = .ok (.i2l, 1) := dk_133 (dk_at dksX0_gift_0 20 rfl rfl)
theorem dX0_gift_21 : decode cX0_gift 21 = .ok (.lconst 0, 1) := dk_9 (dk_at dksX0_gift_0 21 rfl rfl)
theorem dX0_gift_22 : decode cX0_gift 22 = .ok (.ldc2_w 190, 3) := dk_20 0 190 (dk_at dksX0_gift_1 0 rfl rfl)
theorem dX0_gift_25 : decode cX0_gift 25 = .ok (.invokestatic 122, 3) := dk_184 0 122 (dk_at dksX0_gift_1 3 rfl rfl)
theorem dX0_gift_28 : decode cX0_gift 28 = .ok (.ifCond .eq 19, 3) := dk_153 0 19 (dk_at dksX0_gift_1 6 rfl rfl)
theorem dX0_gift_31 : decode cX0_gift 31 = .ok (.aload_n 0, 1) := dk_42 (dk_at dksX0_gift_1 9 rfl rfl)
theorem dX0_gift_32 : decode cX0_gift 32 = .ok (.getfield 83, 3) := dk_180 0 83 (dk_at dksX0_gift_1 10 rfl rfl)
theorem dX0_gift_35 : decode cX0_gift 35 = .ok (.getfield 51, 3) := dk_180 0 51 (dk_at dksX0_gift_1 13 rfl rfl)
theorem dX0_gift_38 : decode cX0_gift 38 = .ok (.iconst 3, 1) := dk_6 (dk_at dksX0_gift_1 16 rfl rfl)
theorem dX0_gift_39 : decode cX0_gift 39 = .ok (.iload_n 1, 1) := dk_27 (dk_at dksX0_gift_1 17 rfl rfl)
theorem dX0_gift_40 : decode cX0_gift 40 = .ok (.imul, 1) := dk_104 (dk_at dksX0_gift_1 18 rfl rfl)
theorem dX0_gift_41 : decode cX0_gift 41 = .ok (.iload_n 2, 1) := dk_28 (dk_at dksX0_gift_1 19 rfl rfl)
theorem dX0_gift_42 : decode cX0_gift 42 = .ok (.iadd, 1) := dk_96 (dk_at dksX0_gift_1 20 rfl rfl)
theorem dX0_gift_43 : decode cX0_gift 43 = .ok (.baload, 1) := dk_51 (dk_at dksX0_gift_1 21 rfl rfl)
theorem dX0_gift_44 : decode cX0_gift 44 = .ok (.goto 4, 3) := dk_167 0 4 (dk_at dksX0_gift_2 0 rfl rfl)
theorem dX0_gift_47 : decode cX0_gift 47 = .ok (.iconst (-1), 1) := dk_2 (dk_at dksX0_gift_2 3 rfl rfl)
theorem dX0_gift_48 : decode cX0_gift 48 = .ok (.ireturn, 1) := dk_172 (dk_at dksX0_gift_2 4 rfl rfl)
abbrev cX0_alter : ByteArray := prog_1_method_20_code
def yX0_alter : MethodName := ⟨RX0, "alter", "(III)I"⟩
def dkwX0_alter_2 : List UInt8 := [180, 0, 83, 27, 28, 29, 182, 0, 35, 21, 4, 172]
abbrev dktX0_alter_2 : List UInt8 := dkwX0_alter_2 ++ []
def dkwX0_alter_1 : List UInt8 := [184, 0, 194, 133, 184, 0, 122, 154, 0, 5, 2, 172, 42, 180, 0, 83, 27, 28, 182, 0, 3, 54, 4, 42]
abbrev dktX0_alter_1 : List UInt8 := dkwX0_alter_1 ++ dktX0_alter_2
def dkwX0_alter_0 : List UInt8 := [42, 27, 182, 0, 162, 153, 0, 29, 28, 133, 9, 20, 0, 192, 184, 0, 122, 153, 0, 17, 29, 133, 9, 28]
abbrev dktX0_alter_0 : List UInt8 := dkwX0_alter_0 ++ dktX0_alter_1
theorem dksX0_alter_0 : cX0_alter.data.toList.drop 0 = dktX0_alter_0 := by decide +kernel
theorem dksX0_alter_1 : cX0_alter.data.toList.drop 24 = dktX0_alter_1 := dk_seg dksX0_alter_0 24 rfl rfl
theorem dksX0_alter_2 : cX0_alter.data.toList.drop 48 = dktX0_alter_2 := dk_seg dksX0_alter_1 24 rfl rfl
theorem dX0_alter_0 : decode cX0_alter 0 = .ok (.aload_n 0, 1) := dk_42 (dk_at dksX0_alter_0 0 rfl rfl)
theorem dX0_alter_1 : decode cX0_alter 1 = .ok (.iload_n 1, 1) := dk_27 (dk_at dksX0_alter_0 1 rfl rfl)
theorem dX0_alter_2 : decode cX0_alter 2 = .ok (.invokevirtual 162, 3) := dk_182 0 162 (dk_at dksX0_alter_0 2 rfl rfl)
theorem dX0_alter_5 : decode cX0_alter 5 = .ok (.ifCond .eq 29, 3) := dk_153 0 29 (dk_at dksX0_alter_0 5 rfl rfl)
theorem dX0_alter_8 : decode cX0_alter 8 = .ok (.iload_n 2, 1) := dk_28 (dk_at dksX0_alter_0 8 rfl rfl)
theorem dX0_alter_9 : decode cX0_alter 9 = .ok (.i2l, 1) := dk_133 (dk_at dksX0_alter_0 9 rfl rfl)
theorem dX0_alter_10 : decode cX0_alter 10 = .ok (.lconst 0, 1) := dk_9 (dk_at dksX0_alter_0 10 rfl rfl)
theorem dX0_alter_11 : decode cX0_alter 11 = .ok (.ldc2_w 192, 3) := dk_20 0 192 (dk_at dksX0_alter_0 11 rfl rfl)
theorem dX0_alter_14 : decode cX0_alter 14 = .ok (.invokestatic 122, 3) := dk_184 0 122 (dk_at dksX0_alter_0 14 rfl rfl)
theorem dX0_alter_17 : decode cX0_alter 17 = .ok (.ifCond .eq 17, 3) := dk_153 0 17 (dk_at dksX0_alter_0 17 rfl rfl)
theorem dX0_alter_20 : decode cX0_alter 20 = .ok (.iload_n 3, 1) := dk_29 (dk_at dksX0_alter_0 20 rfl rfl)
theorem dX0_alter_21 : decode cX0_alter 21 = .ok (.i2l, 1) := dk_133 (dk_at dksX0_alter_0 21 rfl rfl)
theorem dX0_alter_22 : decode cX0_alter 22 = .ok (.lconst 0, 1) := dk_9 (dk_at dksX0_alter_0 22 rfl rfl)
theorem dX0_alter_23 : decode cX0_alter 23 = .ok (.iload_n 2, 1) := dk_28 (dk_at dksX0_alter_0 23 rfl rfl)
theorem dX0_alter_24 : decode cX0_alter 24 = .ok (.invokestatic 194, 3) := dk_184 0 194 (dk_at dksX0_alter_1 0 rfl rfl)
theorem dX0_alter_27 : decode cX0_alter 27 = .ok (.i2l, 1) := dk_133 (dk_at dksX0_alter_1 3 rfl rfl)
theorem dX0_alter_28 : decode cX0_alter 28 = .ok (.invokestatic 122, 3) := dk_184 0 122 (dk_at dksX0_alter_1 4 rfl rfl)
theorem dX0_alter_31 : decode cX0_alter 31 = .ok (.ifCond .ne 5, 3) := dk_154 0 5 (dk_at dksX0_alter_1 7 rfl rfl)
theorem dX0_alter_34 : decode cX0_alter 34 = .ok (.iconst (-1), 1) := dk_2 (dk_at dksX0_alter_1 10 rfl rfl)
theorem dX0_alter_35 : decode cX0_alter 35 = .ok (.ireturn, 1) := dk_172 (dk_at dksX0_alter_1 11 rfl rfl)
theorem dX0_alter_36 : decode cX0_alter 36 = .ok (.aload_n 0, 1) := dk_42 (dk_at dksX0_alter_1 12 rfl rfl)
theorem dX0_alter_37 : decode cX0_alter 37 = .ok (.getfield 83, 3) := dk_180 0 83 (dk_at dksX0_alter_1 13 rfl rfl)
theorem dX0_alter_40 : decode cX0_alter 40 = .ok (.iload_n 1, 1) := dk_27 (dk_at dksX0_alter_1 16 rfl rfl)
theorem dX0_alter_41 : decode cX0_alter 41 = .ok (.iload_n 2, 1) := dk_28 (dk_at dksX0_alter_1 17 rfl rfl)
theorem dX0_alter_42 : decode cX0_alter 42 = .ok (.invokevirtual 3, 3) := dk_182 0 3 (dk_at dksX0_alter_1 18 rfl rfl)
theorem dX0_alter_45 : decode cX0_alter 45 = .ok (.istore 4, 2) := dk_54 4 (dk_at dksX0_alter_1 21 rfl rfl)
theorem dX0_alter_47 : decode cX0_alter 47 = .ok (.aload_n 0, 1) := dk_42 (dk_at dksX0_alter_1 23 rfl rfl)
theorem dX0_alter_48 : decode cX0_alter 48 = .ok (.getfield 83, 3) := dk_180 0 83 (dk_at dksX0_alter_2 0 rfl rfl)
theorem dX0_alter_51 : decode cX0_alter 51 = .ok (.iload_n 1, 1) := dk_27 (dk_at dksX0_alter_2 3 rfl rfl)
theorem dX0_alter_52 : decode cX0_alter 52 = .ok (.iload_n 2, 1) := dk_28 (dk_at dksX0_alter_2 4 rfl rfl)
theorem dX0_alter_53 : decode cX0_alter 53 = .ok (.iload_n 3, 1) := dk_29 (dk_at dksX0_alter_2 5 rfl rfl)
theorem dX0_alter_54 : decode cX0_alter 54 = .ok (.invokevirtual 35, 3) := dk_182 0 35 (dk_at dksX0_alter_2 6 rfl rfl)
theorem dX0_alter_57 : decode cX0_alter 57 = .ok (.iload 4, 2) := dk_21 4 (dk_at dksX0_alter_2 9 rfl rfl)
theorem dX0_alter_59 : decode cX0_alter 59 = .ok (.ireturn, 1) := dk_172 (dk_at dksX0_alter_2 11 rfl rfl)
abbrev cX0_mostOf : ByteArray := prog_1_method_19_code
def yX0_mostOf : MethodName := ⟨RX0, "mostOf", "(I)I"⟩
def dkwX0_mostOf_1 : List UInt8 := [167, 0, 5, 16, 99, 172]
abbrev dktX0_mostOf_1 : List UInt8 := dkwX0_mostOf_1 ++ []
def dkwX0_mostOf_0 : List UInt8 := [26, 154, 0, 7, 6, 167, 0, 24, 26, 4, 160, 0, 7, 6, 167, 0, 15, 26, 5, 160, 0, 8, 16, 6]
abbrev dktX0_mostOf_0 : List UInt8 := dkwX0_mostOf_0 ++ dktX0_mostOf_1
theorem dksX0_mostOf_0 : cX0_mostOf.data.toList.drop 0 = dktX0_mostOf_0 := by decide +kernel
theorem dksX0_mostOf_1 : cX0_mostOf.data.toList.drop 24 = dktX0_mostOf_1 := dk_seg dksX0_mostOf_0 24 rfl rfl
theorem dX0_mostOf_0 : decode cX0_mostOf 0 = .ok (.iload_n 0, 1) := dk_26 (dk_at dksX0_mostOf_0 0 rfl rfl)
theorem dX0_mostOf_1 : decode cX0_mostOf 1 = .ok (.ifCond .ne 7, 3) := dk_154 0 7 (dk_at dksX0_mostOf_0 1 rfl rfl)
theorem dX0_mostOf_4 : decode cX0_mostOf 4 = .ok (.iconst 3, 1) := dk_6 (dk_at dksX0_mostOf_0 4 rfl rfl)
theorem dX0_mostOf_5 : decode cX0_mostOf 5 = .ok (.goto 24, 3) := dk_167 0 24 (dk_at dksX0_mostOf_0 5 rfl rfl)
theorem dX0_mostOf_8 : decode cX0_mostOf 8 = .ok (.iload_n 0, 1) := dk_26 (dk_at dksX0_mostOf_0 8 rfl rfl)
theorem dX0_mostOf_9 : decode cX0_mostOf 9 = .ok (.iconst 1, 1) := dk_4 (dk_at dksX0_mostOf_0 9 rfl rfl)
theorem dX0_mostOf_10 : decode cX0_mostOf 10 = .ok (.if_icmp .ne 7, 3) := dk_160 0 7 (dk_at dksX0_mostOf_0 10 rfl rfl)
theorem dX0_mostOf_13 : decode cX0_mostOf 13 = .ok (.iconst 3, 1) := dk_6 (dk_at dksX0_mostOf_0 13 rfl rfl)
theorem dX0_mostOf_14 : decode cX0_mostOf 14 = .ok (.goto 15, 3) := dk_167 0 15 (dk_at dksX0_mostOf_0 14 rfl rfl)
theorem dX0_mostOf_17 : decode cX0_mostOf 17 = .ok (.iload_n 0, 1) := dk_26 (dk_at dksX0_mostOf_0 17 rfl rfl)
theorem dX0_mostOf_18 : decode cX0_mostOf 18 = .ok (.iconst 2, 1) := dk_5 (dk_at dksX0_mostOf_0 18 rfl rfl)
theorem dX0_mostOf_19 : decode cX0_mostOf 19 = .ok (.if_icmp .ne 8, 3) := dk_160 0 8 (dk_at dksX0_mostOf_0 19 rfl rfl)
theorem dX0_mostOf_22 : decode cX0_mostOf 22 = .ok (.bipush 6, 2) := dk_16 6 (dk_at dksX0_mostOf_0 22 rfl rfl)
theorem dX0_mostOf_24 : decode cX0_mostOf 24 = .ok (.goto 5, 3) := dk_167 0 5 (dk_at dksX0_mostOf_1 0 rfl rfl)
theorem dX0_mostOf_27 : decode cX0_mostOf 27 = .ok (.bipush 99, 2) := dk_16 99 (dk_at dksX0_mostOf_1 3 rfl rfl)
theorem dX0_mostOf_29 : decode cX0_mostOf 29 = .ok (.ireturn, 1) := dk_172 (dk_at dksX0_mostOf_1 5 rfl rfl)
abbrev cX0_floor : ByteArray := prog_1_method_21_code
def yX0_floor : MethodName := ⟨RX0, "floor", "(I)I"⟩
def dkwX0_floor_1 : List UInt8 := [180, 0, 83, 27, 181, 0, 170, 28, 172]
abbrev dktX0_floor_1 : List UInt8 := dkwX0_floor_1 ++ []
def dkwX0_floor_0 : List UInt8 := [27, 133, 9, 20, 0, 197, 184, 0, 122, 154, 0, 5, 2, 172, 42, 180, 0, 83, 180, 0, 170, 61, 42]
abbrev dktX0_floor_0 : List UInt8 := dkwX0_floor_0 ++ dktX0_floor_1
theorem dksX0_floor_0 : cX0_floor.data.toList.drop 0 = dktX0_floor_0 := by decide +kernel
theorem dksX0_floor_1 : cX0_floor.data.toList.drop 23 = dktX0_floor_1 := dk_seg dksX0_floor_0 23 rfl rfl
theorem dX0_floor_0 : decode cX0_floor 0 = .ok (.iload_n 1, 1) := dk_27 (dk_at dksX0_floor_0 0 rfl rfl)
theorem dX0_floor_1 : decode cX0_floor 1 = .ok (.i2l, 1) := dk_133 (dk_at dksX0_floor_0 1 rfl rfl)
theorem dX0_floor_2 : decode cX0_floor 2 = .ok (.lconst 0, 1) := dk_9 (dk_at dksX0_floor_0 2 rfl rfl)
theorem dX0_floor_3 : decode cX0_floor 3 = .ok (.ldc2_w 197, 3) := dk_20 0 197 (dk_at dksX0_floor_0 3 rfl rfl)
theorem dX0_floor_6 : decode cX0_floor 6 = .ok (.invokestatic 122, 3) := dk_184 0 122 (dk_at dksX0_floor_0 6 rfl rfl)
theorem dX0_floor_9 : decode cX0_floor 9 = .ok (.ifCond .ne 5, 3) := dk_154 0 5 (dk_at dksX0_floor_0 9 rfl rfl)
theorem dX0_floor_12 : decode cX0_floor 12 = .ok (.iconst (-1), 1) := dk_2 (dk_at dksX0_floor_0 12 rfl rfl)
theorem dX0_floor_13 : decode cX0_floor 13 = .ok (.ireturn, 1) := dk_172 (dk_at dksX0_floor_0 13 rfl rfl)
theorem dX0_floor_14 : decode cX0_floor 14 = .ok (.aload_n 0, 1) := dk_42 (dk_at dksX0_floor_0 14 rfl rfl)
theorem dX0_floor_15 : decode cX0_floor 15 = .ok (.getfield 83, 3) := dk_180 0 83 (dk_at dksX0_floor_0 15 rfl rfl)
theorem dX0_floor_18 : decode cX0_floor 18 = .ok (.getfield 170, 3) := dk_180 0 170 (dk_at dksX0_floor_0 18 rfl rfl)
theorem dX0_floor_21 : decode cX0_floor 21 = .ok (.istore_n 2, 1) := dk_61 (dk_at dksX0_floor_0 21 rfl rfl)
theorem dX0_floor_22 : decode cX0_floor 22 = .ok (.aload_n 0, 1) := dk_42 (dk_at dksX0_floor_0 22 rfl rfl)
theorem dX0_floor_23 : decode cX0_floor 23 = .ok (.getfield 83, 3) := dk_180 0 83 (dk_at dksX0_floor_1 0 rfl rfl)
theorem dX0_floor_26 : decode cX0_floor 26 = .ok (.iload_n 1, 1) := dk_27 (dk_at dksX0_floor_1 3 rfl rfl)
theorem dX0_floor_27 : decode cX0_floor 27 = .ok (.putfield 170, 3) := dk_181 0 170 (dk_at dksX0_floor_1 4 rfl rfl)
theorem dX0_floor_30 : decode cX0_floor 30 = .ok (.iload_n 2, 1) := dk_28 (dk_at dksX0_floor_1 7 rfl rfl)
theorem dX0_floor_31 : decode cX0_floor 31 = .ok (.ireturn, 1) := dk_172 (dk_at dksX0_floor_1 8 rfl rfl)
abbrev cX0_plan : ByteArray := prog_1_method_22_code
def yX0_plan : MethodName := ⟨RX0, "plan", "(III)I"⟩
def dkwX0_plan_5 : List UInt8 := [180, 0, 48, 172]
abbrev dktX0_plan_5 : List UInt8 := dkwX0_plan_5 ++ []
def dkwX0_plan_4 : List UInt8 := [104, 5, 96, 29, 145, 84, 42, 180, 0, 83, 89, 180, 0, 48, 4, 96, 181, 0, 48, 42, 180, 0, 83]
abbrev dktX0_plan_4 : List UInt8 := dkwX0_plan_4 ++ dktX0_plan_5
def dkwX0_plan_3 : List UInt8 := [180, 0, 48, 104, 4, 96, 28, 145, 84, 42, 180, 0, 83, 180, 0, 51, 6, 42, 180, 0, 83, 180, 0, 48]
abbrev dktX0_plan_3 : List UInt8 := dkwX0_plan_3 ++ dktX0_plan_4
def dkwX0_plan_2 : List UInt8 := [180, 0, 83, 180, 0, 48, 104, 27, 145, 84, 42, 180, 0, 83, 180, 0, 51, 6, 42, 180, 0, 83]
abbrev dktX0_plan_2 : List UInt8 := dkwX0_plan_2 ++ dktX0_plan_3
def dkwX0_plan_1 : List UInt8 := [180, 0, 83, 180, 0, 48, 16, 6, 160, 0, 6, 16, 253, 172, 42, 180, 0, 83, 180, 0, 51, 6, 42]
abbrev dktX0_plan_1 : List UInt8 := dkwX0_plan_1 ++ dktX0_plan_2
def dkwX0_plan_0 : List UInt8 := [42, 27, 28, 182, 0, 184, 153, 0, 15, 29, 133, 10, 20, 0, 199, 184, 0, 122, 154, 0, 5, 2, 172, 42]
abbrev dktX0_plan_0 : List UInt8 := dkwX0_plan_0 ++ dktX0_plan_1
theorem dksX0_plan_0 : cX0_plan.data.toList.drop 0 = dktX0_plan_0 := by decide +kernel
theorem dksX0_plan_1 : cX0_plan.data.toList.drop 24 = dktX0_plan_1 := dk_seg dksX0_plan_0 24 rfl rfl
theorem dksX0_plan_2 : cX0_plan.data.toList.drop 47 = dktX0_plan_2 := dk_seg dksX0_plan_1 23 rfl rfl
theorem dksX0_plan_3 : cX0_plan.data.toList.drop 69 = dktX0_plan_3 := dk_seg dksX0_plan_2 22 rfl rfl
theorem dksX0_plan_4 : cX0_plan.data.toList.drop 93 = dktX0_plan_4 := dk_seg dksX0_plan_3 24 rfl rfl
theorem dksX0_plan_5 : cX0_plan.data.toList.drop 116 = dktX0_plan_5 := dk_seg dksX0_plan_4 23 rfl rfl
theorem dX0_plan_0 : decode cX0_plan 0 = .ok (.aload_n 0, 1) := dk_42 (dk_at dksX0_plan_0 0 rfl rfl)
theorem dX0_plan_1 : decode cX0_plan 1 = .ok (.iload_n 1, 1) := dk_27 (dk_at dksX0_plan_0 1 rfl rfl)
theorem dX0_plan_2 : decode cX0_plan 2 = .ok (.iload_n 2, 1) := dk_28 (dk_at dksX0_plan_0 2 rfl rfl)
theorem dX0_plan_3 : decode cX0_plan 3 = .ok (.invokevirtual 184, 3) := dk_182 0 184 (dk_at dksX0_plan_0 3 rfl rfl)
theorem dX0_plan_6 : decode cX0_plan 6 = .ok (.ifCond .eq 15, 3) := dk_153 0 15 (dk_at dksX0_plan_0 6 rfl rfl)
theorem dX0_plan_9 : decode cX0_plan 9 = .ok (.iload_n 3, 1) := dk_29 (dk_at dksX0_plan_0 9 rfl rfl)
theorem dX0_plan_10 : decode cX0_plan 10 = .ok (.i2l, 1) := dk_133 (dk_at dksX0_plan_0 10 rfl rfl)
theorem dX0_plan_11 : decode cX0_plan 11 = .ok (.lconst 1, 1) := dk_10 (dk_at dksX0_plan_0 11 rfl rfl)
theorem dX0_plan_12 : decode cX0_plan 12 = .ok (.ldc2_w 199, 3) := dk_20 0 199 (dk_at dksX0_plan_0 12 rfl rfl)
theorem dX0_plan_15 : decode cX0_plan 15 = .ok (.invokestatic 122, 3) := dk_184 0 122 (dk_at dksX0_plan_0 15 rfl rfl)
theorem dX0_plan_18 : decode cX0_plan 18 = .ok (.ifCond .ne 5, 3) := dk_154 0 5 (dk_at dksX0_plan_0 18 rfl rfl)
theorem dX0_plan_21 : decode cX0_plan 21 = .ok (.iconst (-1), 1) := dk_2 (dk_at dksX0_plan_0 21 rfl rfl)
theorem dX0_plan_22 : decode cX0_plan 22 = .ok (.ireturn, 1) := dk_172 (dk_at dksX0_plan_0 22 rfl rfl)
theorem dX0_plan_23 : decode cX0_plan 23 = .ok (.aload_n 0, 1) := dk_42 (dk_at dksX0_plan_0 23 rfl rfl)
theorem dX0_plan_24 : decode cX0_plan 24 = .ok (.getfield 83, 3) := dk_180 0 83 (dk_at dksX0_plan_1 0 rfl rfl)
theorem dX0_plan_27 : decode cX0_plan 27 = .ok (.getfield 48, 3) := dk_180 0 48 (dk_at dksX0_plan_1 3 rfl rfl)
theorem dX0_plan_30 : decode cX0_plan 30 = .ok (.bipush 6, 2) := dk_16 6 (dk_at dksX0_plan_1 6 rfl rfl)
theorem dX0_plan_32 : decode cX0_plan 32 = .ok (.if_icmp .ne 6, 3) := dk_160 0 6 (dk_at dksX0_plan_1 8 rfl rfl)
theorem dX0_plan_35 : decode cX0_plan 35 = .ok (.bipush (-3), 2) := dk_16 253 (dk_at dksX0_plan_1 11 rfl rfl)
theorem dX0_plan_37 : decode cX0_plan 37 = .ok (.ireturn, 1) := dk_172 (dk_at dksX0_plan_1 13 rfl rfl)
theorem dX0_plan_38 : decode cX0_plan 38 = .ok (.aload_n 0, 1) := dk_42 (dk_at dksX0_plan_1 14 rfl rfl)
theorem dX0_plan_39 : decode cX0_plan 39 = .ok (.getfield 83, 3) := dk_180 0 83 (dk_at dksX0_plan_1 15 rfl rfl)
theorem dX0_plan_42 : decode cX0_plan 42 = .ok (.getfield 51, 3) := dk_180 0 51 (dk_at dksX0_plan_1 18 rfl rfl)
theorem dX0_plan_45 : decode cX0_plan 45 = .ok (.iconst 3, 1) := dk_6 (dk_at dksX0_plan_1 21 rfl rfl)
theorem dX0_plan_46 : decode cX0_plan 46 = .ok (.aload_n 0, 1) := dk_42 (dk_at dksX0_plan_1 22 rfl rfl)
theorem dX0_plan_47 : decode cX0_plan 47 = .ok (.getfield 83, 3) := dk_180 0 83 (dk_at dksX0_plan_2 0 rfl rfl)
theorem dX0_plan_50 : decode cX0_plan 50 = .ok (.getfield 48, 3) := dk_180 0 48 (dk_at dksX0_plan_2 3 rfl rfl)
theorem dX0_plan_53 : decode cX0_plan 53 = .ok (.imul, 1) := dk_104 (dk_at dksX0_plan_2 6 rfl rfl)
theorem dX0_plan_54 : decode cX0_plan 54 = .ok (.iload_n 1, 1) := dk_27 (dk_at dksX0_plan_2 7 rfl rfl)
theorem dX0_plan_55 : decode cX0_plan 55 = .ok (.i2b, 1) := dk_145 (dk_at dksX0_plan_2 8 rfl rfl)
theorem dX0_plan_56 : decode cX0_plan 56 = .ok (.bastore, 1) := dk_84 (dk_at dksX0_plan_2 9 rfl rfl)
theorem dX0_plan_57 : decode cX0_plan 57 = .ok (.aload_n 0, 1) := dk_42 (dk_at dksX0_plan_2 10 rfl rfl)
theorem dX0_plan_58 : decode cX0_plan 58 = .ok (.getfield 83, 3) := dk_180 0 83 (dk_at dksX0_plan_2 11 rfl rfl)
theorem dX0_plan_61 : decode cX0_plan 61 = .ok (.getfield 51, 3) := dk_180 0 51 (dk_at dksX0_plan_2 14 rfl rfl)
theorem dX0_plan_64 : decode cX0_plan 64 = .ok (.iconst 3, 1) := dk_6 (dk_at dksX0_plan_2 17 rfl rfl)
theorem dX0_plan_65 : decode cX0_plan 65 = .ok (.aload_n 0, 1) := dk_42 (dk_at dksX0_plan_2 18 rfl rfl)
theorem dX0_plan_66 : decode cX0_plan 66 = .ok (.getfield 83, 3) := dk_180 0 83 (dk_at dksX0_plan_2 19 rfl rfl)
theorem dX0_plan_69 : decode cX0_plan 69 = .ok (.getfield 48, 3) := dk_180 0 48 (dk_at dksX0_plan_3 0 rfl rfl)
theorem dX0_plan_72 : decode cX0_plan 72 = .ok (.imul, 1) := dk_104 (dk_at dksX0_plan_3 3 rfl rfl)
theorem dX0_plan_73 : decode cX0_plan 73 = .ok (.iconst 1, 1) := dk_4 (dk_at dksX0_plan_3 4 rfl rfl)
theorem dX0_plan_74 : decode cX0_plan 74 = .ok (.iadd, 1) := dk_96 (dk_at dksX0_plan_3 5 rfl rfl)
theorem dX0_plan_75 : decode cX0_plan 75 = .ok (.iload_n 2, 1) := dk_28 (dk_at dksX0_plan_3 6 rfl rfl)
theorem dX0_plan_76 : decode cX0_plan 76 = .ok (.i2b, 1) := dk_145 (dk_at dksX0_plan_3 7 rfl rfl)
theorem dX0_plan_77 : decode cX0_plan 77 = .ok (.bastore, 1) := dk_84 (dk_at dksX0_plan_3 8 rfl rfl)
theorem dX0_plan_78 : decode cX0_plan 78 = .ok (.aload_n 0, 1) := dk_42 (dk_at dksX0_plan_3 9 rfl rfl)
theorem dX0_plan_79 : decode cX0_plan 79 = .ok (.getfield 83, 3) := dk_180 0 83 (dk_at dksX0_plan_3 10 rfl rfl)
theorem dX0_plan_82 : decode cX0_plan 82 = .ok (.getfield 51, 3) := dk_180 0 51 (dk_at dksX0_plan_3 13 rfl rfl)
theorem dX0_plan_85 : decode cX0_plan 85 = .ok (.iconst 3, 1) := dk_6 (dk_at dksX0_plan_3 16 rfl rfl)
theorem dX0_plan_86 : decode cX0_plan 86 = .ok (.aload_n 0, 1) := dk_42 (dk_at dksX0_plan_3 17 rfl rfl)
theorem dX0_plan_87 : decode cX0_plan 87 = .ok (.getfield 83, 3) := dk_180 0 83 (dk_at dksX0_plan_3 18 rfl rfl)
theorem dX0_plan_90 : decode cX0_plan 90 = .ok (.getfield 48, 3) := dk_180 0 48 (dk_at dksX0_plan_3 21 rfl rfl)
theorem dX0_plan_93 : decode cX0_plan 93 = .ok (.imul, 1) := dk_104 (dk_at dksX0_plan_4 0 rfl rfl)
theorem dX0_plan_94 : decode cX0_plan 94 = .ok (.iconst 2, 1) := dk_5 (dk_at dksX0_plan_4 1 rfl rfl)
theorem dX0_plan_95 : decode cX0_plan 95 = .ok (.iadd, 1) := dk_96 (dk_at dksX0_plan_4 2 rfl rfl)
theorem dX0_plan_96 : decode cX0_plan 96 = .ok (.iload_n 3, 1) := dk_29 (dk_at dksX0_plan_4 3 rfl rfl)
theorem dX0_plan_97 : decode cX0_plan 97 = .ok (.i2b, 1) := dk_145 (dk_at dksX0_plan_4 4 rfl rfl)
theorem dX0_plan_98 : decode cX0_plan 98 = .ok (.bastore, 1) := dk_84 (dk_at dksX0_plan_4 5 rfl rfl)
theorem dX0_plan_99 : decode cX0_plan 99 = .ok (.aload_n 0, 1) := dk_42 (dk_at dksX0_plan_4 6 rfl rfl)
theorem dX0_plan_100 : decode cX0_plan 100 = .ok (.getfield 83, 3) := dk_180 0 83 (dk_at dksX0_plan_4 7 rfl rfl)
theorem dX0_plan_103 : decode cX0_plan 103 = .ok (.dup, 1) := dk_89 (dk_at dksX0_plan_4 10 rfl rfl)
theorem dX0_plan_104 : decode cX0_plan 104 = .ok (.getfield 48, 3) := dk_180 0 48 (dk_at dksX0_plan_4 11 rfl rfl)
theorem dX0_plan_107 : decode cX0_plan 107 = .ok (.iconst 1, 1) := dk_4 (dk_at dksX0_plan_4 14 rfl rfl)
theorem dX0_plan_108 : decode cX0_plan 108 = .ok (.iadd, 1) := dk_96 (dk_at dksX0_plan_4 15 rfl rfl)
theorem dX0_plan_109 : decode cX0_plan 109 = .ok (.putfield 48, 3) := dk_181 0 48 (dk_at dksX0_plan_4 16 rfl rfl)
theorem dX0_plan_112 : decode cX0_plan 112 = .ok (.aload_n 0, 1) := dk_42 (dk_at dksX0_plan_4 19 rfl rfl)
theorem dX0_plan_113 : decode cX0_plan 113 = .ok (.getfield 83, 3) := dk_180 0 83 (dk_at dksX0_plan_4 20 rfl rfl)
theorem dX0_plan_116 : decode cX0_plan 116 = .ok (.getfield 48, 3) := dk_180 0 48 (dk_at dksX0_plan_5 0 rfl rfl)
theorem dX0_plan_119 : decode cX0_plan 119 = .ok (.ireturn, 1) := dk_172 (dk_at dksX0_plan_5 3 rfl rfl)
abbrev cX0_cut : ByteArray := prog_1_method_23_code
def yX0_cut : MethodName := ⟨RX0, "cut", "(I)I"⟩
def dkwX0_cut_1 : List UInt8 := [180, 0, 48, 61, 42, 180, 0, 83, 27, 181, 0, 48, 28, 172]
abbrev dktX0_cut_1 : List UInt8 := dkwX0_cut_1 ++ []
def dkwX0_cut_0 : List UInt8 := [27, 133, 9, 42, 180, 0, 83, 180, 0, 48, 133, 184, 0, 122, 154, 0, 5, 2, 172, 42, 180, 0, 83]
abbrev dktX0_cut_0 : List UInt8 := dkwX0_cut_0 ++ dktX0_cut_1
theorem dksX0_cut_0 : cX0_cut.data.toList.drop 0 = dktX0_cut_0 := by decide +kernel
theorem dksX0_cut_1 : cX0_cut.data.toList.drop 23 = dktX0_cut_1 := dk_seg dksX0_cut_0 23 rfl rfl
theorem dX0_cut_0 : decode cX0_cut 0 = .ok (.iload_n 1, 1) := dk_27 (dk_at dksX0_cut_0 0 rfl rfl)
theorem dX0_cut_1 : decode cX0_cut 1 = .ok (.i2l, 1) := dk_133 (dk_at dksX0_cut_0 1 rfl rfl)
theorem dX0_cut_2 : decode cX0_cut 2 = .ok (.lconst 0, 1) := dk_9 (dk_at dksX0_cut_0 2 rfl rfl)
theorem dX0_cut_3 : decode cX0_cut 3 = .ok (.aload_n 0, 1) := dk_42 (dk_at dksX0_cut_0 3 rfl rfl)
theorem dX0_cut_4 : decode cX0_cut 4 = .ok (.getfield 83, 3) := dk_180 0 83 (dk_at dksX0_cut_0 4 rfl rfl)
theorem dX0_cut_7 : decode cX0_cut 7 = .ok (.getfield 48, 3) := dk_180 0 48 (dk_at dksX0_cut_0 7 rfl rfl)
theorem dX0_cut_10 : decode cX0_cut 10 = .ok (.i2l, 1) := dk_133 (dk_at dksX0_cut_0 10 rfl rfl)
theorem dX0_cut_11 : decode cX0_cut 11 = .ok (.invokestatic 122, 3) := dk_184 0 122 (dk_at dksX0_cut_0 11 rfl rfl)
theorem dX0_cut_14 : decode cX0_cut 14 = .ok (.ifCond .ne 5, 3) := dk_154 0 5 (dk_at dksX0_cut_0 14 rfl rfl)
theorem dX0_cut_17 : decode cX0_cut 17 = .ok (.iconst (-1), 1) := dk_2 (dk_at dksX0_cut_0 17 rfl rfl)
theorem dX0_cut_18 : decode cX0_cut 18 = .ok (.ireturn, 1) := dk_172 (dk_at dksX0_cut_0 18 rfl rfl)
theorem dX0_cut_19 : decode cX0_cut 19 = .ok (.aload_n 0, 1) := dk_42 (dk_at dksX0_cut_0 19 rfl rfl)
theorem dX0_cut_20 : decode cX0_cut 20 = .ok (.getfield 83, 3) := dk_180 0 83 (dk_at dksX0_cut_0 20 rfl rfl)
theorem dX0_cut_23 : decode cX0_cut 23 = .ok (.getfield 48, 3) := dk_180 0 48 (dk_at dksX0_cut_1 0 rfl rfl)
theorem dX0_cut_26 : decode cX0_cut 26 = .ok (.istore_n 2, 1) := dk_61 (dk_at dksX0_cut_1 3 rfl rfl)
theorem dX0_cut_27 : decode cX0_cut 27 = .ok (.aload_n 0, 1) := dk_42 (dk_at dksX0_cut_1 4 rfl rfl)
theorem dX0_cut_28 : decode cX0_cut 28 = .ok (.getfield 83, 3) := dk_180 0 83 (dk_at dksX0_cut_1 5 rfl rfl)
theorem dX0_cut_31 : decode cX0_cut 31 = .ok (.iload_n 1, 1) := dk_27 (dk_at dksX0_cut_1 8 rfl rfl)
theorem dX0_cut_32 : decode cX0_cut 32 = .ok (.putfield 48, 3) := dk_181 0 48 (dk_at dksX0_cut_1 9 rfl rfl)
theorem dX0_cut_35 : decode cX0_cut 35 = .ok (.iload_n 2, 1) := dk_28 (dk_at dksX0_cut_1 12 rfl rfl)
theorem dX0_cut_36 : decode cX0_cut 36 = .ok (.ireturn, 1) := dk_172 (dk_at dksX0_cut_1 13 rfl rfl)
abbrev cX0_most : ByteArray := prog_1_method_25_code
def yX0_most : MethodName := ⟨RX0, "most", "(II)I"⟩
def dkwX0_most_0 : List UInt8 := [42, 27, 28, 182, 0, 184, 153, 0, 12, 42, 27, 28, 182, 0, 201, 167, 0, 4, 2, 172]
abbrev dktX0_most_0 : List UInt8 := dkwX0_most_0 ++ []
theorem dksX0_most_0 : cX0_most.data.toList.drop 0 = dktX0_most_0 := by decide +kernel
theorem dX0_most_0 : decode cX0_most 0 = .ok (.aload_n 0, 1) := dk_42 (dk_at dksX0_most_0 0 rfl rfl)
theorem dX0_most_1 : decode cX0_most 1 = .ok (.iload_n 1, 1) := dk_27 (dk_at dksX0_most_0 1 rfl rfl)
theorem dX0_most_2 : decode cX0_most 2 = .ok (.iload_n 2, 1) := dk_28 (dk_at dksX0_most_0 2 rfl rfl)
theorem dX0_most_3 : decode cX0_most 3 = .ok (.invokevirtual 184, 3) := dk_182 0 184 (dk_at dksX0_most_0 3 rfl rfl)
theorem dX0_most_6 : decode cX0_most 6 = .ok (.ifCond .eq 12, 3) := dk_153 0 12 (dk_at dksX0_most_0 6 rfl rfl)
theorem dX0_most_9 : decode cX0_most 9 = .ok (.aload_n 0, 1) := dk_42 (dk_at dksX0_most_0 9 rfl rfl)
theorem dX0_most_10 : decode cX0_most 10 = .ok (.iload_n 1, 1) := dk_27 (dk_at dksX0_most_0 10 rfl rfl)
theorem dX0_most_11 : decode cX0_most 11 = .ok (.iload_n 2, 1) := dk_28 (dk_at dksX0_most_0 11 rfl rfl)
theorem dX0_most_12 : decode cX0_most 12 = .ok (.invokevirtual 201, 3) := dk_182 0 201 (dk_at dksX0_most_0 12 rfl rfl)
theorem dX0_most_15 : decode cX0_most 15 = .ok (.goto 4, 3) := dk_167 0 4 (dk_at dksX0_most_0 15 rfl rfl)
theorem dX0_most_18 : decode cX0_most 18 = .ok (.iconst (-1), 1) := dk_2 (dk_at dksX0_most_0 18 rfl rfl)
theorem dX0_most_19 : decode cX0_most 19 = .ok (.ireturn, 1) := dk_172 (dk_at dksX0_most_0 19 rfl rfl)
abbrev cX0_mostNow : ByteArray := prog_1_method_24_code
def yX0_mostNow : MethodName := ⟨RX0, "mostNow", "(II)I"⟩
def dkwX0_mostNow_1 : List UInt8 := [153, 0, 8, 21, 4, 167, 0, 4, 29, 62, 132, 4, 1, 167, 255, 225, 29, 172]
abbrev dktX0_mostNow_1 : List UInt8 := dkwX0_mostNow_1 ++ []
def dkwX0_mostNow_0 : List UInt8 := [3, 62, 4, 54, 4, 21, 4, 16, 9, 163, 0, 30, 42, 180, 0, 83, 27, 28, 21, 4, 182, 0, 55]
abbrev dktX0_mostNow_0 : List UInt8 := dkwX0_mostNow_0 ++ dktX0_mostNow_1
theorem dksX0_mostNow_0 : cX0_mostNow.data.toList.drop 0 = dktX0_mostNow_0 := by decide +kernel
theorem dksX0_mostNow_1 : cX0_mostNow.data.toList.drop 23 = dktX0_mostNow_1 := dk_seg dksX0_mostNow_0 23 rfl rfl
theorem dX0_mostNow_0 : decode cX0_mostNow 0 = .ok (.iconst 0, 1) := dk_3 (dk_at dksX0_mostNow_0 0 rfl rfl)
theorem dX0_mostNow_1 : decode cX0_mostNow 1 = .ok (.istore_n 3, 1) := dk_62 (dk_at dksX0_mostNow_0 1 rfl rfl)
theorem dX0_mostNow_2 : decode cX0_mostNow 2 = .ok (.iconst 1, 1) := dk_4 (dk_at dksX0_mostNow_0 2 rfl rfl)
theorem dX0_mostNow_3 : decode cX0_mostNow 3 = .ok (.istore 4, 2) := dk_54 4 (dk_at dksX0_mostNow_0 3 rfl rfl)
theorem dX0_mostNow_5 : decode cX0_mostNow 5 = .ok (.iload 4, 2) := dk_21 4 (dk_at dksX0_mostNow_0 5 rfl rfl)
theorem dX0_mostNow_7 : decode cX0_mostNow 7 = .ok (.bipush 9, 2) := dk_16 9 (dk_at dksX0_mostNow_0 7 rfl rfl)
theorem dX0_mostNow_9 : decode cX0_mostNow 9 = .ok (.if_icmp .gt 30, 3) := dk_163 0 30 (dk_at dksX0_mostNow_0 9 rfl rfl)
theorem dX0_mostNow_12 : decode cX0_mostNow 12 = .ok (.aload_n 0, 1) := dk_42 (dk_at dksX0_mostNow_0 12 rfl rfl)
theorem dX0_mostNow_13 : decode cX0_mostNow 13 = .ok (.getfield 83, 3) := dk_180 0 83 (dk_at dksX0_mostNow_0 13 rfl rfl)
theorem dX0_mostNow_16 : decode cX0_mostNow 16 = .ok (.iload_n 1, 1) := dk_27 (dk_at dksX0_mostNow_0 16 rfl rfl)
theorem dX0_mostNow_17 : decode cX0_mostNow 17 = .ok (.iload_n 2, 1) := dk_28 (dk_at dksX0_mostNow_0 17 rfl rfl)
theorem dX0_mostNow_18 : decode cX0_mostNow 18 = .ok (.iload 4, 2) := dk_21 4 (dk_at dksX0_mostNow_0 18 rfl rfl)
theorem dX0_mostNow_20 : decode cX0_mostNow 20 = .ok (.invokevirtual 55, 3) := dk_182 0 55 (dk_at dksX0_mostNow_0 20 rfl rfl)
theorem dX0_mostNow_23 : decode cX0_mostNow 23 = .ok (.ifCond .eq 8, 3) := dk_153 0 8 (dk_at dksX0_mostNow_1 0 rfl rfl)
theorem dX0_mostNow_26 : decode cX0_mostNow 26 = .ok (.iload 4, 2) := dk_21 4 (dk_at dksX0_mostNow_1 3 rfl rfl)
theorem dX0_mostNow_28 : decode cX0_mostNow 28 = .ok (.goto 4, 3) := dk_167 0 4 (dk_at dksX0_mostNow_1 5 rfl rfl)
theorem dX0_mostNow_31 : decode cX0_mostNow 31 = .ok (.iload_n 3, 1) := dk_29 (dk_at dksX0_mostNow_1 8 rfl rfl)
theorem dX0_mostNow_32 : decode cX0_mostNow 32 = .ok (.istore_n 3, 1) := dk_62 (dk_at dksX0_mostNow_1 9 rfl rfl)
theorem dX0_mostNow_33 : decode cX0_mostNow 33 = .ok (.iinc 4 1, 3) := dk_132 4 1 (dk_at dksX0_mostNow_1 10 rfl rfl)
theorem dX0_mostNow_36 : decode cX0_mostNow 36 = .ok (.goto (-31), 3) := dk_167 255 225 (dk_at dksX0_mostNow_1 13 rfl rfl)
theorem dX0_mostNow_39 : decode cX0_mostNow 39 = .ok (.iload_n 3, 1) := dk_29 (dk_at dksX0_mostNow_1 16 rfl rfl)
theorem dX0_mostNow_40 : decode cX0_mostNow 40 = .ok (.ireturn, 1) := dk_172 (dk_at dksX0_mostNow_1 17 rfl rfl)
abbrev cX0_give : ByteArray := prog_1_method_26_code
def yX0_give : MethodName := ⟨RX0, "give", "(III)I"⟩
def dkwX0_give_2 : List UInt8 := [182, 0, 63, 42, 180, 0, 83, 28, 6, 182, 0, 3, 172]
abbrev dktX0_give_2 : List UInt8 := dkwX0_give_2 ++ []
def dkwX0_give_1 : List UInt8 := [180, 0, 83, 27, 28, 29, 182, 0, 55, 154, 0, 6, 16, 254, 172, 42, 180, 0, 83, 27, 28, 29]
abbrev dktX0_give_1 : List UInt8 := dkwX0_give_1 ++ dktX0_give_2
def dkwX0_give_0 : List UInt8 := [42, 27, 28, 182, 0, 184, 153, 0, 15, 29, 133, 10, 20, 0, 199, 184, 0, 122, 154, 0, 5, 2, 172, 42]
abbrev dktX0_give_0 : List UInt8 := dkwX0_give_0 ++ dktX0_give_1
theorem dksX0_give_0 : cX0_give.data.toList.drop 0 = dktX0_give_0 := by decide +kernel
theorem dksX0_give_1 : cX0_give.data.toList.drop 24 = dktX0_give_1 := dk_seg dksX0_give_0 24 rfl rfl
theorem dksX0_give_2 : cX0_give.data.toList.drop 46 = dktX0_give_2 := dk_seg dksX0_give_1 22 rfl rfl
theorem dX0_give_0 : decode cX0_give 0 = .ok (.aload_n 0, 1) := dk_42 (dk_at dksX0_give_0 0 rfl rfl)
theorem dX0_give_1 : decode cX0_give 1 = .ok (.iload_n 1, 1) := dk_27 (dk_at dksX0_give_0 1 rfl rfl)
theorem dX0_give_2 : decode cX0_give 2 = .ok (.iload_n 2, 1) := dk_28 (dk_at dksX0_give_0 2 rfl rfl)
theorem dX0_give_3 : decode cX0_give 3 = .ok (.invokevirtual 184, 3) := dk_182 0 184 (dk_at dksX0_give_0 3 rfl rfl)
theorem dX0_give_6 : decode cX0_give 6 = .ok (.ifCond .eq 15, 3) := dk_153 0 15 (dk_at dksX0_give_0 6 rfl rfl)
theorem dX0_give_9 : decode cX0_give 9 = .ok (.iload_n 3, 1) := dk_29 (dk_at dksX0_give_0 9 rfl rfl)
theorem dX0_give_10 : decode cX0_give 10 = .ok (.i2l, 1) := dk_133 (dk_at dksX0_give_0 10 rfl rfl)
theorem dX0_give_11 : decode cX0_give 11 = .ok (.lconst 1, 1) := dk_10 (dk_at dksX0_give_0 11 rfl rfl)
theorem dX0_give_12 : decode cX0_give 12 = .ok (.ldc2_w 199, 3) := dk_20 0 199 (dk_at dksX0_give_0 12 rfl rfl)
theorem dX0_give_15 : decode cX0_give 15 = .ok (.invokestatic 122, 3) := dk_184 0 122 (dk_at dksX0_give_0 15 rfl rfl)
theorem dX0_give_18 : decode cX0_give 18 = .ok (.ifCond .ne 5, 3) := dk_154 0 5 (dk_at dksX0_give_0 18 rfl rfl)
theorem dX0_give_21 : decode cX0_give 21 = .ok (.iconst (-1), 1) := dk_2 (dk_at dksX0_give_0 21 rfl rfl)
theorem dX0_give_22 : decode cX0_give 22 = .ok (.ireturn, 1) := dk_172 (dk_at dksX0_give_0 22 rfl rfl)
theorem dX0_give_23 : decode cX0_give 23 = .ok (.aload_n 0, 1) := dk_42 (dk_at dksX0_give_0 23 rfl rfl)
theorem dX0_give_24 : decode cX0_give 24 = .ok (.getfield 83, 3) := dk_180 0 83 (dk_at dksX0_give_1 0 rfl rfl)
theorem dX0_give_27 : decode cX0_give 27 = .ok (.iload_n 1, 1) := dk_27 (dk_at dksX0_give_1 3 rfl rfl)
theorem dX0_give_28 : decode cX0_give 28 = .ok (.iload_n 2, 1) := dk_28 (dk_at dksX0_give_1 4 rfl rfl)
theorem dX0_give_29 : decode cX0_give 29 = .ok (.iload_n 3, 1) := dk_29 (dk_at dksX0_give_1 5 rfl rfl)
theorem dX0_give_30 : decode cX0_give 30 = .ok (.invokevirtual 55, 3) := dk_182 0 55 (dk_at dksX0_give_1 6 rfl rfl)
theorem dX0_give_33 : decode cX0_give 33 = .ok (.ifCond .ne 6, 3) := dk_154 0 6 (dk_at dksX0_give_1 9 rfl rfl)
theorem dX0_give_36 : decode cX0_give 36 = .ok (.bipush (-2), 2) := dk_16 254 (dk_at dksX0_give_1 12 rfl rfl)
theorem dX0_give_38 : decode cX0_give 38 = .ok (.ireturn, 1) := dk_172 (dk_at dksX0_give_1 14 rfl rfl)
theorem dX0_give_39 : decode cX0_give 39 = .ok (.aload_n 0, 1) := dk_42 (dk_at dksX0_give_1 15 rfl rfl)
theorem dX0_give_40 : decode cX0_give 40 = .ok (.getfield 83, 3) := dk_180 0 83 (dk_at dksX0_give_1 16 rfl rfl)
theorem dX0_give_43 : decode cX0_give 43 = .ok (.iload_n 1, 1) := dk_27 (dk_at dksX0_give_1 19 rfl rfl)
theorem dX0_give_44 : decode cX0_give 44 = .ok (.iload_n 2, 1) := dk_28 (dk_at dksX0_give_1 20 rfl rfl)
theorem dX0_give_45 : decode cX0_give 45 = .ok (.iload_n 3, 1) := dk_29 (dk_at dksX0_give_1 21 rfl rfl)
theorem dX0_give_46 : decode cX0_give 46 = .ok (.invokevirtual 63, 3) := dk_182 0 63 (dk_at dksX0_give_2 0 rfl rfl)
theorem dX0_give_49 : decode cX0_give 49 = .ok (.aload_n 0, 1) := dk_42 (dk_at dksX0_give_2 3 rfl rfl)
theorem dX0_give_50 : decode cX0_give 50 = .ok (.getfield 83, 3) := dk_180 0 83 (dk_at dksX0_give_2 4 rfl rfl)
theorem dX0_give_53 : decode cX0_give 53 = .ok (.iload_n 2, 1) := dk_28 (dk_at dksX0_give_2 7 rfl rfl)
theorem dX0_give_54 : decode cX0_give 54 = .ok (.iconst 3, 1) := dk_6 (dk_at dksX0_give_2 8 rfl rfl)
theorem dX0_give_55 : decode cX0_give 55 = .ok (.invokevirtual 3, 3) := dk_182 0 3 (dk_at dksX0_give_2 9 rfl rfl)
theorem dX0_give_58 : decode cX0_give 58 = .ok (.ireturn, 1) := dk_172 (dk_at dksX0_give_2 12 rfl rfl)
abbrev cX0_nights : ByteArray := prog_1_method_27_code
def yX0_nights : MethodName := ⟨RX0, "nights", "(I)I"⟩
def dkwX0_nights_2 : List UInt8 := [132, 2, 1, 167, 255, 240, 42, 180, 0, 83, 182, 0, 173, 172]
abbrev dktX0_nights_2 : List UInt8 := dkwX0_nights_2 ++ []
def dkwX0_nights_1 : List UInt8 := [17, 3, 231, 164, 0, 6, 16, 253, 172, 3, 61, 28, 27, 162, 0, 17, 42, 42, 180, 0, 83, 182, 0, 206]
abbrev dktX0_nights_1 : List UInt8 := dkwX0_nights_1 ++ dktX0_nights_2
def dkwX0_nights_0 : List UInt8 := [27, 133, 9, 20, 0, 204, 184, 0, 122, 154, 0, 5, 2, 172, 42, 180, 0, 83, 180, 0, 39, 27, 96]
abbrev dktX0_nights_0 : List UInt8 := dkwX0_nights_0 ++ dktX0_nights_1
theorem dksX0_nights_0 : cX0_nights.data.toList.drop 0 = dktX0_nights_0 := by decide +kernel
theorem dksX0_nights_1 : cX0_nights.data.toList.drop 23 = dktX0_nights_1 := dk_seg dksX0_nights_0 23 rfl rfl
theorem dksX0_nights_2 : cX0_nights.data.toList.drop 47 = dktX0_nights_2 := dk_seg dksX0_nights_1 24 rfl rfl
theorem dX0_nights_0 : decode cX0_nights 0 = .ok (.iload_n 1, 1) := dk_27 (dk_at dksX0_nights_0 0 rfl rfl)
theorem dX0_nights_1 : decode cX0_nights 1 = .ok (.i2l, 1) := dk_133 (dk_at dksX0_nights_0 1 rfl rfl)
theorem dX0_nights_2 : decode cX0_nights 2 = .ok (.lconst 0, 1) := dk_9 (dk_at dksX0_nights_0 2 rfl rfl)
theorem dX0_nights_3 : decode cX0_nights 3 = .ok (.ldc2_w 204, 3) := dk_20 0 204 (dk_at dksX0_nights_0 3 rfl rfl)
theorem dX0_nights_6 : decode cX0_nights 6 = .ok (.invokestatic 122, 3) := dk_184 0 122 (dk_at dksX0_nights_0 6 rfl rfl)
theorem dX0_nights_9 : decode cX0_nights 9 = .ok (.ifCond .ne 5, 3) := dk_154 0 5 (dk_at dksX0_nights_0 9 rfl rfl)
theorem dX0_nights_12 : decode cX0_nights 12 = .ok (.iconst (-1), 1) := dk_2 (dk_at dksX0_nights_0 12 rfl rfl)
theorem dX0_nights_13 : decode cX0_nights 13 = .ok (.ireturn, 1) := dk_172 (dk_at dksX0_nights_0 13 rfl rfl)
theorem dX0_nights_14 : decode cX0_nights 14 = .ok (.aload_n 0, 1) := dk_42 (dk_at dksX0_nights_0 14 rfl rfl)
theorem dX0_nights_15 : decode cX0_nights 15 = .ok (.getfield 83, 3) := dk_180 0 83 (dk_at dksX0_nights_0 15 rfl rfl)
theorem dX0_nights_18 : decode cX0_nights 18 = .ok (.getfield 39, 3) := dk_180 0 39 (dk_at dksX0_nights_0 18 rfl rfl)
theorem dX0_nights_21 : decode cX0_nights 21 = .ok (.iload_n 1, 1) := dk_27 (dk_at dksX0_nights_0 21 rfl rfl)
theorem dX0_nights_22 : decode cX0_nights 22 = .ok (.iadd, 1) := dk_96 (dk_at dksX0_nights_0 22 rfl rfl)
theorem dX0_nights_23 : decode cX0_nights 23 = .ok (.sipush 999, 3) := dk_17 3 231 (dk_at dksX0_nights_1 0 rfl rfl)
theorem dX0_nights_26 : decode cX0_nights 26 = .ok (.if_icmp .le 6, 3) := dk_164 0 6 (dk_at dksX0_nights_1 3 rfl rfl)
theorem dX0_nights_29 : decode cX0_nights 29 = .ok (.bipush (-3), 2) := dk_16 253 (dk_at dksX0_nights_1 6 rfl rfl)
theorem dX0_nights_31 : decode cX0_nights 31 = .ok (.ireturn, 1) := dk_172 (dk_at dksX0_nights_1 8 rfl rfl)
theorem dX0_nights_32 : decode cX0_nights 32 = .ok (.iconst 0, 1) := dk_3 (dk_at dksX0_nights_1 9 rfl rfl)
theorem dX0_nights_33 : decode cX0_nights 33 = .ok (.istore_n 2, 1) := dk_61 (dk_at dksX0_nights_1 10 rfl rfl)
theorem dX0_nights_34 : decode cX0_nights 34 = .ok (.iload_n 2, 1) := dk_28 (dk_at dksX0_nights_1 11 rfl rfl)
theorem dX0_nights_35 : decode cX0_nights 35 = .ok (.iload_n 1, 1) := dk_27 (dk_at dksX0_nights_1 12 rfl rfl)
theorem dX0_nights_36 : decode cX0_nights 36 = .ok (.if_icmp .ge 17, 3) := dk_162 0 17 (dk_at dksX0_nights_1 13 rfl rfl)
theorem dX0_nights_39 : decode cX0_nights 39 = .ok (.aload_n 0, 1) := dk_42 (dk_at dksX0_nights_1 16 rfl rfl)
theorem dX0_nights_40 : decode cX0_nights 40 = .ok (.aload_n 0, 1) := dk_42 (dk_at dksX0_nights_1 17 rfl rfl)
theorem dX0_nights_41 : decode cX0_nights 41 = .ok (.getfield 83, 3) := dk_180 0 83 (dk_at dksX0_nights_1 18 rfl rfl)
theorem dX0_nights_44 : decode cX0_nights 44 = .ok (.invokevirtual 206, 3) := dk_182 0 206 (dk_at dksX0_nights_1 21 rfl rfl)
theorem dX0_nights_47 : decode cX0_nights 47 = .ok (.iinc 2 1, 3) := dk_132 2 1 (dk_at dksX0_nights_2 0 rfl rfl)
theorem dX0_nights_50 : decode cX0_nights 50 = .ok (.goto (-16), 3) := dk_167 255 240 (dk_at dksX0_nights_2 3 rfl rfl)
theorem dX0_nights_53 : decode cX0_nights 53 = .ok (.aload_n 0, 1) := dk_42 (dk_at dksX0_nights_2 6 rfl rfl)
theorem dX0_nights_54 : decode cX0_nights 54 = .ok (.getfield 83, 3) := dk_180 0 83 (dk_at dksX0_nights_2 7 rfl rfl)
theorem dX0_nights_57 : decode cX0_nights 57 = .ok (.invokevirtual 173, 3) := dk_182 0 173 (dk_at dksX0_nights_2 10 rfl rfl)
theorem dX0_nights_60 : decode cX0_nights 60 = .ok (.ireturn, 1) := dk_172 (dk_at dksX0_nights_2 13 rfl rfl)
abbrev cX0_nightGoes : ByteArray := prog_1_method_4_code
def yX0_nightGoes : MethodName := ⟨RX0, "nightGoes", "(LClockWard$Ward;)V"⟩
def dkwX0_nightGoes_1 : List UInt8 := [132, 2, 1, 167, 255, 233, 43, 89, 180, 0, 39, 4, 96, 181, 0, 39, 177]
abbrev dktX0_nightGoes_1 : List UInt8 := dkwX0_nightGoes_1 ++ []
def dkwX0_nightGoes_0 : List UInt8 := [3, 61, 28, 43, 180, 0, 27, 162, 0, 21, 43, 28, 6, 42, 43, 28, 182, 0, 31, 182, 0, 35]
abbrev dktX0_nightGoes_0 : List UInt8 := dkwX0_nightGoes_0 ++ dktX0_nightGoes_1
theorem dksX0_nightGoes_0 : cX0_nightGoes.data.toList.drop 0 = dktX0_nightGoes_0 := by decide +kernel
theorem dksX0_nightGoes_1 : cX0_nightGoes.data.toList.drop 22 = dktX0_nightGoes_1 := dk_seg dksX0_nightGoes_0 22 rfl rfl
theorem dX0_nightGoes_0 : decode cX0_nightGoes 0 = .ok (.iconst 0, 1) := dk_3 (dk_at dksX0_nightGoes_0 0 rfl rfl)
theorem dX0_nightGoes_1 : decode cX0_nightGoes 1 = .ok (.istore_n 2, 1) := dk_61 (dk_at dksX0_nightGoes_0 1 rfl rfl)
theorem dX0_nightGoes_2 : decode cX0_nightGoes 2 = .ok (.iload_n 2, 1) := dk_28 (dk_at dksX0_nightGoes_0 2 rfl rfl)
theorem dX0_nightGoes_3 : decode cX0_nightGoes 3 = .ok (.aload_n 1, 1) := dk_43 (dk_at dksX0_nightGoes_0 3 rfl rfl)
theorem dX0_nightGoes_4 : decode cX0_nightGoes 4 = .ok (.getfield 27, 3) := dk_180 0 27 (dk_at dksX0_nightGoes_0 4 rfl rfl)
theorem dX0_nightGoes_7 : decode cX0_nightGoes 7 = .ok (.if_icmp .ge 21, 3) := dk_162 0 21 (dk_at dksX0_nightGoes_0 7 rfl rfl)
theorem dX0_nightGoes_10 : decode cX0_nightGoes 10 = .ok (.aload_n 1, 1) := dk_43 (dk_at dksX0_nightGoes_0 10 rfl rfl)
theorem dX0_nightGoes_11 : decode cX0_nightGoes 11 = .ok (.iload_n 2, 1) := dk_28 (dk_at dksX0_nightGoes_0 11 rfl rfl)
theorem dX0_nightGoes_12 : decode cX0_nightGoes 12 = .ok (.iconst 3, 1) := dk_6 (dk_at dksX0_nightGoes_0 12 rfl rfl)
theorem dX0_nightGoes_13 : decode cX0_nightGoes 13 = .ok (.aload_n 0, 1) := dk_42 (dk_at dksX0_nightGoes_0 13 rfl rfl)
theorem dX0_nightGoes_14 : decode cX0_nightGoes 14 = .ok (.aload_n 1, 1) := dk_43 (dk_at dksX0_nightGoes_0 14 rfl rfl)
theorem dX0_nightGoes_15 : decode cX0_nightGoes 15 = .ok (.iload_n 2, 1) := dk_28 (dk_at dksX0_nightGoes_0 15 rfl rfl)
theorem dX0_nightGoes_16 : decode cX0_nightGoes 16 = .ok (.invokevirtual 31, 3) := dk_182 0 31 (dk_at dksX0_nightGoes_0 16 rfl rfl)
theorem dX0_nightGoes_19 : decode cX0_nightGoes 19 = .ok (.invokevirtual 35, 3) := dk_182 0 35 (dk_at dksX0_nightGoes_0 19 rfl rfl)
theorem dX0_nightGoes_22 : decode cX0_nightGoes 22 = .ok (.iinc 2 1, 3) := dk_132 2 1 (dk_at dksX0_nightGoes_1 0 rfl rfl)
theorem dX0_nightGoes_25 : decode cX0_nightGoes 25 = .ok (.goto (-23), 3) := dk_167 255 233 (dk_at dksX0_nightGoes_1 3 rfl rfl)
theorem dX0_nightGoes_28 : decode cX0_nightGoes 28 = .ok (.aload_n 1, 1) := dk_43 (dk_at dksX0_nightGoes_1 6 rfl rfl)
theorem dX0_nightGoes_29 : decode cX0_nightGoes 29 = .ok (.dup, 1) := dk_89 (dk_at dksX0_nightGoes_1 7 rfl rfl)
theorem dX0_nightGoes_30 : decode cX0_nightGoes 30 = .ok (.getfield 39, 3) := dk_180 0 39 (dk_at dksX0_nightGoes_1 8 rfl rfl)
theorem dX0_nightGoes_33 : decode cX0_nightGoes 33 = .ok (.iconst 1, 1) := dk_4 (dk_at dksX0_nightGoes_1 11 rfl rfl)
theorem dX0_nightGoes_34 : decode cX0_nightGoes 34 = .ok (.iadd, 1) := dk_96 (dk_at dksX0_nightGoes_1 12 rfl rfl)
theorem dX0_nightGoes_35 : decode cX0_nightGoes 35 = .ok (.putfield 39, 3) := dk_181 0 39 (dk_at dksX0_nightGoes_1 13 rfl rfl)
theorem dX0_nightGoes_38 : decode cX0_nightGoes 38 = .ok (.return_, 1) := dk_177 (dk_at dksX0_nightGoes_1 16 rfl rfl)
abbrev cX0_runs : ByteArray := prog_1_method_28_code
def yX0_runs : MethodName := ⟨RX0, "runs", "(I)I"⟩
def dkwX0_runs_3 : List UInt8 := [167, 0, 18, 42, 180, 0, 87, 180, 0, 179, 42, 180, 0, 83, 180, 0, 179, 100, 172]
abbrev dktX0_runs_3 : List UInt8 := dkwX0_runs_3 ++ []
def dkwX0_runs_2 : List UInt8 := [167, 0, 42, 27, 4, 160, 0, 10, 42, 180, 0, 42, 167, 0, 30, 27, 5, 160, 0, 10, 42, 180, 0, 45]
abbrev dktX0_runs_2 : List UInt8 := dkwX0_runs_2 ++ dktX0_runs_3
def dkwX0_runs_1 : List UInt8 := [182, 0, 144, 42, 42, 180, 0, 87, 3, 182, 0, 209, 27, 154, 0, 13, 42, 180, 0, 87, 182, 0, 173]
abbrev dktX0_runs_1 : List UInt8 := dkwX0_runs_1 ++ dktX0_runs_2
def dkwX0_runs_0 : List UInt8 := [27, 133, 9, 20, 0, 192, 184, 0, 122, 154, 0, 5, 2, 172, 42, 180, 0, 87, 42, 180, 0, 83]
abbrev dktX0_runs_0 : List UInt8 := dkwX0_runs_0 ++ dktX0_runs_1
theorem dksX0_runs_0 : cX0_runs.data.toList.drop 0 = dktX0_runs_0 := by decide +kernel
theorem dksX0_runs_1 : cX0_runs.data.toList.drop 22 = dktX0_runs_1 := dk_seg dksX0_runs_0 22 rfl rfl
theorem dksX0_runs_2 : cX0_runs.data.toList.drop 45 = dktX0_runs_2 := dk_seg dksX0_runs_1 23 rfl rfl
theorem dksX0_runs_3 : cX0_runs.data.toList.drop 69 = dktX0_runs_3 := dk_seg dksX0_runs_2 24 rfl rfl
theorem dX0_runs_0 : decode cX0_runs 0 = .ok (.iload_n 1, 1) := dk_27 (dk_at dksX0_runs_0 0 rfl rfl)
theorem dX0_runs_1 : decode cX0_runs 1 = .ok (.i2l, 1) := dk_133 (dk_at dksX0_runs_0 1 rfl rfl)
theorem dX0_runs_2 : decode cX0_runs 2 = .ok (.lconst 0, 1) := dk_9 (dk_at dksX0_runs_0 2 rfl rfl)
theorem dX0_runs_3 : decode cX0_runs 3 = .ok (.ldc2_w 192, 3) := dk_20 0 192 (dk_at dksX0_runs_0 3 rfl rfl)
theorem dX0_runs_6 : decode cX0_runs 6 = .ok (.invokestatic 122, 3) := dk_184 0 122 (dk_at dksX0_runs_0 6 rfl rfl)
theorem dX0_runs_9 : decode cX0_runs 9 = .ok (.ifCond .ne 5, 3) := dk_154 0 5 (dk_at dksX0_runs_0 9 rfl rfl)
theorem dX0_runs_12 : decode cX0_runs 12 = .ok (.iconst (-1), 1) := dk_2 (dk_at dksX0_runs_0 12 rfl rfl)
theorem dX0_runs_13 : decode cX0_runs 13 = .ok (.ireturn, 1) := dk_172 (dk_at dksX0_runs_0 13 rfl rfl)
theorem dX0_runs_14 : decode cX0_runs 14 = .ok (.aload_n 0, 1) := dk_42 (dk_at dksX0_runs_0 14 rfl rfl)
theorem dX0_runs_15 : decode cX0_runs 15 = .ok (.getfield 87, 3) := dk_180 0 87 (dk_at dksX0_runs_0 15 rfl rfl)
theorem dX0_runs_18 : decode cX0_runs 18 = .ok (.aload_n 0, 1) := dk_42 (dk_at dksX0_runs_0 18 rfl rfl)
theorem dX0_runs_19 : decode cX0_runs 19 = .ok (.getfield 83, 3) := dk_180 0 83 (dk_at dksX0_runs_0 19 rfl rfl)
theorem dX0_runs_22 : decode cX0_runs 22 = .ok (.invokevirtual 144, 3) := dk_182 0 144 (dk_at dksX0_runs_1 0 rfl rfl)
theorem dX0_runs_25 : decode cX0_runs 25 = .ok (.aload_n 0, 1) := dk_42 (dk_at dksX0_runs_1 3 rfl rfl)
theorem dX0_runs_26 : decode cX0_runs 26 = .ok (.aload_n 0, 1) := dk_42 (dk_at dksX0_runs_1 4 rfl rfl)
theorem dX0_runs_27 : decode cX0_runs 27 = .ok (.getfield 87, 3) := dk_180 0 87 (dk_at dksX0_runs_1 5 rfl rfl)
theorem dX0_runs_30 : decode cX0_runs 30 = .ok (.iconst 0, 1) := dk_3 (dk_at dksX0_runs_1 8 rfl rfl)
theorem dX0_runs_31 : decode cX0_runs 31 = .ok (.invokevirtual 209, 3) := dk_182 0 209 (dk_at dksX0_runs_1 9 rfl rfl)
theorem dX0_runs_34 : decode cX0_runs 34 = .ok (.iload_n 1, 1) := dk_27 (dk_at dksX0_runs_1 12 rfl rfl)
theorem dX0_runs_35 : decode cX0_runs 35 = .ok (.ifCond .ne 13, 3) := dk_154 0 13 (dk_at dksX0_runs_1 13 rfl rfl)
theorem dX0_runs_38 : decode cX0_runs 38 = .ok (.aload_n 0, 1) := dk_42 (dk_at dksX0_runs_1 16 rfl rfl)
theorem dX0_runs_39 : decode cX0_runs 39 = .ok (.getfield 87, 3) := dk_180 0 87 (dk_at dksX0_runs_1 17 rfl rfl)
theorem dX0_runs_42 : decode cX0_runs 42 = .ok (.invokevirtual 173, 3) := dk_182 0 173 (dk_at dksX0_runs_1 20 rfl rfl)
theorem dX0_runs_45 : decode cX0_runs 45 = .ok (.goto 42, 3) := dk_167 0 42 (dk_at dksX0_runs_2 0 rfl rfl)
theorem dX0_runs_48 : decode cX0_runs 48 = .ok (.iload_n 1, 1) := dk_27 (dk_at dksX0_runs_2 3 rfl rfl)
theorem dX0_runs_49 : decode cX0_runs 49 = .ok (.iconst 1, 1) := dk_4 (dk_at dksX0_runs_2 4 rfl rfl)
theorem dX0_runs_50 : decode cX0_runs 50 = .ok (.if_icmp .ne 10, 3) := dk_160 0 10 (dk_at dksX0_runs_2 5 rfl rfl)
theorem dX0_runs_53 : decode cX0_runs 53 = .ok (.aload_n 0, 1) := dk_42 (dk_at dksX0_runs_2 8 rfl rfl)
theorem dX0_runs_54 : decode cX0_runs 54 = .ok (.getfield 42, 3) := dk_180 0 42 (dk_at dksX0_runs_2 9 rfl rfl)
theorem dX0_runs_57 : decode cX0_runs 57 = .ok (.goto 30, 3) := dk_167 0 30 (dk_at dksX0_runs_2 12 rfl rfl)
theorem dX0_runs_60 : decode cX0_runs 60 = .ok (.iload_n 1, 1) := dk_27 (dk_at dksX0_runs_2 15 rfl rfl)
theorem dX0_runs_61 : decode cX0_runs 61 = .ok (.iconst 2, 1) := dk_5 (dk_at dksX0_runs_2 16 rfl rfl)
theorem dX0_runs_62 : decode cX0_runs 62 = .ok (.if_icmp .ne 10, 3) := dk_160 0 10 (dk_at dksX0_runs_2 17 rfl rfl)
theorem dX0_runs_65 : decode cX0_runs 65 = .ok (.aload_n 0, 1) := dk_42 (dk_at dksX0_runs_2 20 rfl rfl)
theorem dX0_runs_66 : decode cX0_runs 66 = .ok (.getfield 45, 3) := dk_180 0 45 (dk_at dksX0_runs_2 21 rfl rfl)
theorem dX0_runs_69 : decode cX0_runs 69 = .ok (.goto 18, 3) := dk_167 0 18 (dk_at dksX0_runs_3 0 rfl rfl)
theorem dX0_runs_72 : decode cX0_runs 72 = .ok (.aload_n 0, 1) := dk_42 (dk_at dksX0_runs_3 3 rfl rfl)
theorem dX0_runs_73 : decode cX0_runs 73 = .ok (.getfield 87, 3) := dk_180 0 87 (dk_at dksX0_runs_3 4 rfl rfl)
theorem dX0_runs_76 : decode cX0_runs 76 = .ok (.getfield 179, 3) := dk_180 0 179 (dk_at dksX0_runs_3 7 rfl rfl)
theorem dX0_runs_79 : decode cX0_runs 79 = .ok (.aload_n 0, 1) := dk_42 (dk_at dksX0_runs_3 10 rfl rfl)
theorem dX0_runs_80 : decode cX0_runs 80 = .ok (.getfield 83, 3) := dk_180 0 83 (dk_at dksX0_runs_3 11 rfl rfl)
theorem dX0_runs_83 : decode cX0_runs 83 = .ok (.getfield 179, 3) := dk_180 0 179 (dk_at dksX0_runs_3 14 rfl rfl)
theorem dX0_runs_86 : decode cX0_runs 86 = .ok (.isub, 1) := dk_100 (dk_at dksX0_runs_3 17 rfl rfl)
theorem dX0_runs_87 : decode cX0_runs 87 = .ok (.ireturn, 1) := dk_172 (dk_at dksX0_runs_3 18 rfl rfl)
abbrev cX0_goes : ByteArray := prog_1_method_5_code
def yX0_goes : MethodName := ⟨RX0, "goes", "(LClockWard$Ward;I)V"⟩
def dkwX0_goes_5 : List UInt8 := [182, 0, 63, 42, 89, 180, 0, 42, 4, 96, 181, 0, 42, 132, 3, 1, 167, 255, 140, 177]
abbrev dktX0_goes_5 : List UInt8 := dkwX0_goes_5 ++ []
def dkwX0_goes_4 : List UInt8 := [181, 0, 45, 21, 7, 153, 0, 31, 28, 29, 184, 0, 59, 154, 0, 23, 43, 21, 4, 21, 5, 21, 6]
abbrev dktX0_goes_4 : List UInt8 := dkwX0_goes_4 ++ dktX0_goes_5
def dkwX0_goes_3 : List UInt8 := [21, 7, 154, 0, 16, 42, 180, 0, 45, 16, 252, 160, 0, 7, 29, 167, 0, 7, 42, 180, 0, 45]
abbrev dktX0_goes_3 : List UInt8 := dkwX0_goes_3 ++ dktX0_goes_4
def dkwX0_goes_2 : List UInt8 := [180, 0, 51, 6, 29, 104, 5, 96, 51, 54, 6, 43, 21, 4, 21, 5, 21, 6, 182, 0, 55, 54, 7, 42]
abbrev dktX0_goes_2 : List UInt8 := dkwX0_goes_2 ++ dktX0_goes_3
def dkwX0_goes_1 : List UInt8 := [180, 0, 51, 6, 29, 104, 51, 54, 4, 43, 180, 0, 51, 6, 29, 104, 4, 96, 51, 54, 5, 43]
abbrev dktX0_goes_1 : List UInt8 := dkwX0_goes_1 ++ dktX0_goes_2
def dkwX0_goes_0 : List UInt8 := [42, 3, 181, 0, 42, 42, 16, 252, 181, 0, 45, 3, 62, 29, 43, 180, 0, 48, 162, 0, 114, 43]
abbrev dktX0_goes_0 : List UInt8 := dkwX0_goes_0 ++ dktX0_goes_1
theorem dksX0_goes_0 : cX0_goes.data.toList.drop 0 = dktX0_goes_0 := by decide +kernel
theorem dksX0_goes_1 : cX0_goes.data.toList.drop 22 = dktX0_goes_1 := dk_seg dksX0_goes_0 22 rfl rfl
theorem dksX0_goes_2 : cX0_goes.data.toList.drop 44 = dktX0_goes_2 := dk_seg dksX0_goes_1 22 rfl rfl
theorem dksX0_goes_3 : cX0_goes.data.toList.drop 68 = dktX0_goes_3 := dk_seg dksX0_goes_2 24 rfl rfl
theorem dksX0_goes_4 : cX0_goes.data.toList.drop 90 = dktX0_goes_4 := dk_seg dksX0_goes_3 22 rfl rfl
theorem dksX0_goes_5 : cX0_goes.data.toList.drop 113 = dktX0_goes_5 := dk_seg dksX0_goes_4 23 rfl rfl
theorem dX0_goes_0 : decode cX0_goes 0 = .ok (.aload_n 0, 1) := dk_42 (dk_at dksX0_goes_0 0 rfl rfl)
theorem dX0_goes_1 : decode cX0_goes 1 = .ok (.iconst 0, 1) := dk_3 (dk_at dksX0_goes_0 1 rfl rfl)
theorem dX0_goes_2 : decode cX0_goes 2 = .ok (.putfield 42, 3) := dk_181 0 42 (dk_at dksX0_goes_0 2 rfl rfl)
theorem dX0_goes_5 : decode cX0_goes 5 = .ok (.aload_n 0, 1) := dk_42 (dk_at dksX0_goes_0 5 rfl rfl)
theorem dX0_goes_6 : decode cX0_goes 6 = .ok (.bipush (-4), 2) := dk_16 252 (dk_at dksX0_goes_0 6 rfl rfl)
theorem dX0_goes_8 : decode cX0_goes 8 = .ok (.putfield 45, 3) := dk_181 0 45 (dk_at dksX0_goes_0 8 rfl rfl)
theorem dX0_goes_11 : decode cX0_goes 11 = .ok (.iconst 0, 1) := dk_3 (dk_at dksX0_goes_0 11 rfl rfl)
theorem dX0_goes_12 : decode cX0_goes 12 = .ok (.istore_n 3, 1) := dk_62 (dk_at dksX0_goes_0 12 rfl rfl)
theorem dX0_goes_13 : decode cX0_goes 13 = .ok (.iload_n 3, 1) := dk_29 (dk_at dksX0_goes_0 13 rfl rfl)
theorem dX0_goes_14 : decode cX0_goes 14 = .ok (.aload_n 1, 1) := dk_43 (dk_at dksX0_goes_0 14 rfl rfl)
theorem dX0_goes_15 : decode cX0_goes 15 = .ok (.getfield 48, 3) := dk_180 0 48 (dk_at dksX0_goes_0 15 rfl rfl)
theorem dX0_goes_18 : decode cX0_goes 18 = .ok (.if_icmp .ge 114, 3) := dk_162 0 114 (dk_at dksX0_goes_0 18 rfl rfl)
theorem dX0_goes_21 : decode cX0_goes 21 = .ok (.aload_n 1, 1) := dk_43 (dk_at dksX0_goes_0 21 rfl rfl)
theorem dX0_goes_22 : decode cX0_goes 22 = .ok (.getfield 51, 3) := dk_180 0 51 (dk_at dksX0_goes_1 0 rfl rfl)
theorem dX0_goes_25 : decode cX0_goes 25 = .ok (.iconst 3, 1) := dk_6 (dk_at dksX0_goes_1 3 rfl rfl)
theorem dX0_goes_26 : decode cX0_goes 26 = .ok (.iload_n 3, 1) := dk_29 (dk_at dksX0_goes_1 4 rfl rfl)
theorem dX0_goes_27 : decode cX0_goes 27 = .ok (.imul, 1) := dk_104 (dk_at dksX0_goes_1 5 rfl rfl)
theorem dX0_goes_28 : decode cX0_goes 28 = .ok (.baload, 1) := dk_51 (dk_at dksX0_goes_1 6 rfl rfl)
theorem dX0_goes_29 : decode cX0_goes 29 = .ok (.istore 4, 2) := dk_54 4 (dk_at dksX0_goes_1 7 rfl rfl)
theorem dX0_goes_31 : decode cX0_goes 31 = .ok (.aload_n 1, 1) := dk_43 (dk_at dksX0_goes_1 9 rfl rfl)
theorem dX0_goes_32 : decode cX0_goes 32 = .ok (.getfield 51, 3) := dk_180 0 51 (dk_at dksX0_goes_1 10 rfl rfl)
theorem dX0_goes_35 : decode cX0_goes 35 = .ok (.iconst 3, 1) := dk_6 (dk_at dksX0_goes_1 13 rfl rfl)
theorem dX0_goes_36 : decode cX0_goes 36 = .ok (.iload_n 3, 1) := dk_29 (dk_at dksX0_goes_1 14 rfl rfl)
theorem dX0_goes_37 : decode cX0_goes 37 = .ok (.imul, 1) := dk_104 (dk_at dksX0_goes_1 15 rfl rfl)
theorem dX0_goes_38 : decode cX0_goes 38 = .ok (.iconst 1, 1) := dk_4 (dk_at dksX0_goes_1 16 rfl rfl)
theorem dX0_goes_39 : decode cX0_goes 39 = .ok (.iadd, 1) := dk_96 (dk_at dksX0_goes_1 17 rfl rfl)
theorem dX0_goes_40 : decode cX0_goes 40 = .ok (.baload, 1) := dk_51 (dk_at dksX0_goes_1 18 rfl rfl)
theorem dX0_goes_41 : decode cX0_goes 41 = .ok (.istore 5, 2) := dk_54 5 (dk_at dksX0_goes_1 19 rfl rfl)
theorem dX0_goes_43 : decode cX0_goes 43 = .ok (.aload_n 1, 1) := dk_43 (dk_at dksX0_goes_1 21 rfl rfl)
theorem dX0_goes_44 : decode cX0_goes 44 = .ok (.getfield 51, 3) := dk_180 0 51 (dk_at dksX0_goes_2 0 rfl rfl)
theorem dX0_goes_47 : decode cX0_goes 47 = .ok (.iconst 3, 1) := dk_6 (dk_at dksX0_goes_2 3 rfl rfl)
theorem dX0_goes_48 : decode cX0_goes 48 = .ok (.iload_n 3, 1) := dk_29 (dk_at dksX0_goes_2 4 rfl rfl)
theorem dX0_goes_49 : decode cX0_goes 49 = .ok (.imul, 1) := dk_104 (dk_at dksX0_goes_2 5 rfl rfl)
theorem dX0_goes_50 : decode cX0_goes 50 = .ok (.iconst 2, 1) := dk_5 (dk_at dksX0_goes_2 6 rfl rfl)
theorem dX0_goes_51 : decode cX0_goes 51 = .ok (.iadd, 1) := dk_96 (dk_at dksX0_goes_2 7 rfl rfl)
theorem dX0_goes_52 : decode cX0_goes 52 = .ok (.baload, 1) := dk_51 (dk_at dksX0_goes_2 8 rfl rfl)
theorem dX0_goes_53 : decode cX0_goes 53 = .ok (.istore 6, 2) := dk_54 6 (dk_at dksX0_goes_2 9 rfl rfl)
theorem dX0_goes_55 : decode cX0_goes 55 = .ok (.aload_n 1, 1) := dk_43 (dk_at dksX0_goes_2 11 rfl rfl)
theorem dX0_goes_56 : decode cX0_goes 56 = .ok (.iload 4, 2) := dk_21 4 (dk_at dksX0_goes_2 12 rfl rfl)
theorem dX0_goes_58 : decode cX0_goes 58 = .ok (.iload 5, 2) := dk_21 5 (dk_at dksX0_goes_2 14 rfl rfl)
theorem dX0_goes_60 : decode cX0_goes 60 = .ok (.iload 6, 2) := dk_21 6 (dk_at dksX0_goes_2 16 rfl rfl)
theorem dX0_goes_62 : decode cX0_goes 62 = .ok (.invokevirtual 55, 3) := dk_182 0 55 (dk_at dksX0_goes_2 18 rfl rfl)
theorem dX0_goes_65 : decode cX0_goes 65 = .ok (.istore 7, 2) := dk_54 7 (dk_at dksX0_goes_2 21 rfl rfl)
theorem dX0_goes_67 : decode cX0_goes 67 = .ok (.aload_n 0, 1) := dk_42 (dk_at dksX0_goes_2 23 rfl rfl)
theorem dX0_goes_68 : decode cX0_goes 68 = .ok (.iload 7, 2) := dk_21 7 (dk_at dksX0_goes_3 0 rfl rfl)
theorem dX0_goes_70 : decode cX0_goes 70 = .ok (.ifCond .ne 16, 3) := dk_154 0 16 (dk_at dksX0_goes_3 2 rfl rfl)
theorem dX0_goes_73 : decode cX0_goes 73 = .ok (.aload_n 0, 1) := dk_42 (dk_at dksX0_goes_3 5 rfl rfl)
theorem dX0_goes_74 : decode cX0_goes 74 = .ok (.getfield 45, 3) := dk_180 0 45 (dk_at dksX0_goes_3 6 rfl rfl)
theorem dX0_goes_77 : decode cX0_goes 77 = .ok (.bipush (-4), 2) := dk_16 252 (dk_at dksX0_goes_3 9 rfl rfl)
theorem dX0_goes_79 : decode cX0_goes 79 = .ok (.if_icmp .ne 7, 3) := dk_160 0 7 (dk_at dksX0_goes_3 11 rfl rfl)
theorem dX0_goes_82 : decode cX0_goes 82 = .ok (.iload_n 3, 1) := dk_29 (dk_at dksX0_goes_3 14 rfl rfl)
theorem dX0_goes_83 : decode cX0_goes 83 = .ok (.goto 7, 3) := dk_167 0 7 (dk_at dksX0_goes_3 15 rfl rfl)
theorem dX0_goes_86 : decode cX0_goes 86 = .ok (.aload_n 0, 1) := dk_42 (dk_at dksX0_goes_3 18 rfl rfl)
theorem dX0_goes_87 : decode cX0_goes 87 = .ok (.getfield 45, 3) := dk_180 0 45 (dk_at dksX0_goes_3 19 rfl rfl)
theorem dX0_goes_90 : decode cX0_goes 90 = .ok (.putfield 45, 3) := dk_181 0 45 (dk_at dksX0_goes_4 0 rfl rfl)
theorem dX0_goes_93 : decode cX0_goes 93 = .ok (.iload 7, 2) := dk_21 7 (dk_at dksX0_goes_4 3 rfl rfl)
theorem dX0_goes_95 : decode cX0_goes 95 = .ok (.ifCond .eq 31, 3) := dk_153 0 31 (dk_at dksX0_goes_4 5 rfl rfl)
theorem dX0_goes_98 : decode cX0_goes 98 = .ok (.iload_n 2, 1) := dk_28 (dk_at dksX0_goes_4 8 rfl rfl)
theorem dX0_goes_99 : decode cX0_goes 99 = .ok (.iload_n 3, 1) := dk_29 (dk_at dksX0_goes_4 9 rfl rfl)
theorem dX0_goes_100 : decode cX0_goes 100 = .ok (.invokestatic 59, 3) := dk_184 0 59 (dk_at dksX0_goes_4 10 rfl rfl)
theorem dX0_goes_103 : decode cX0_goes 103 = .ok (.ifCond .ne 23, 3) := dk_154 0 23 (dk_at dksX0_goes_4 13 rfl rfl)
theorem dX0_goes_106 : decode cX0_goes 106 = .ok (.aload_n 1, 1) := dk_43 (dk_at dksX0_goes_4 16 rfl rfl)
theorem dX0_goes_107 : decode cX0_goes 107 = .ok (.iload 4, 2) := dk_21 4 (dk_at dksX0_goes_4 17 rfl rfl)
theorem dX0_goes_109 : decode cX0_goes 109 = .ok (.iload 5, 2) := dk_21 5 (dk_at dksX0_goes_4 19 rfl rfl)
theorem dX0_goes_111 : decode cX0_goes 111 = .ok (.iload 6, 2) := dk_21 6 (dk_at dksX0_goes_4 21 rfl rfl)
theorem dX0_goes_113 : decode cX0_goes 113 = .ok (.invokevirtual 63, 3) := dk_182 0 63 (dk_at dksX0_goes_5 0 rfl rfl)
theorem dX0_goes_116 : decode cX0_goes 116 = .ok (.aload_n 0, 1) := dk_42 (dk_at dksX0_goes_5 3 rfl rfl)
theorem dX0_goes_117 : decode cX0_goes 117 = .ok (.dup, 1) := dk_89 (dk_at dksX0_goes_5 4 rfl rfl)
theorem dX0_goes_118 : decode cX0_goes 118 = .ok (.getfield 42, 3) := dk_180 0 42 (dk_at dksX0_goes_5 5 rfl rfl)
theorem dX0_goes_121 : decode cX0_goes 121 = .ok (.iconst 1, 1) := dk_4 (dk_at dksX0_goes_5 8 rfl rfl)
theorem dX0_goes_122 : decode cX0_goes 122 = .ok (.iadd, 1) := dk_96 (dk_at dksX0_goes_5 9 rfl rfl)
theorem dX0_goes_123 : decode cX0_goes 123 = .ok (.putfield 42, 3) := dk_181 0 42 (dk_at dksX0_goes_5 10 rfl rfl)
theorem dX0_goes_126 : decode cX0_goes 126 = .ok (.iinc 3 1, 3) := dk_132 3 1 (dk_at dksX0_goes_5 13 rfl rfl)
theorem dX0_goes_129 : decode cX0_goes 129 = .ok (.goto (-116), 3) := dk_167 255 140 (dk_at dksX0_goes_5 16 rfl rfl)
theorem dX0_goes_132 : decode cX0_goes 132 = .ok (.return_, 1) := dk_177 (dk_at dksX0_goes_5 19 rfl rfl)
abbrev cX0_has : ByteArray := prog_1_method_2_code
def yX0_has : MethodName := ⟨RX0, "has", "(II)Z"⟩
def dkwX0_has_0 : List UInt8 := [26, 27, 122, 4, 126, 4, 160, 0, 7, 4, 167, 0, 4, 3, 172]
abbrev dktX0_has_0 : List UInt8 := dkwX0_has_0 ++ []
theorem dksX0_has_0 : cX0_has.data.toList.drop 0 = dktX0_has_0 := by decide +kernel
theorem dX0_has_0 : decode cX0_has 0 = .ok (.iload_n 0, 1) := dk_26 (dk_at dksX0_has_0 0 rfl rfl)
theorem dX0_has_1 : decode cX0_has 1 = .ok (.iload_n 1, 1) := dk_27 (dk_at dksX0_has_0 1 rfl rfl)
theorem dX0_has_2 : decode cX0_has 2 = .ok (.ishr, 1) := dk_122 (dk_at dksX0_has_0 2 rfl rfl)
theorem dX0_has_3 : decode cX0_has 3 = .ok (.iconst 1, 1) := dk_4 (dk_at dksX0_has_0 3 rfl rfl)
theorem dX0_has_4 : decode cX0_has 4 = .ok (.iand, 1) := dk_126 (dk_at dksX0_has_0 4 rfl rfl)
theorem dX0_has_5 : decode cX0_has 5 = .ok (.iconst 1, 1) := dk_4 (dk_at dksX0_has_0 5 rfl rfl)
theorem dX0_has_6 : decode cX0_has 6 = .ok (.if_icmp .ne 7, 3) := dk_160 0 7 (dk_at dksX0_has_0 6 rfl rfl)
theorem dX0_has_9 : decode cX0_has 9 = .ok (.iconst 1, 1) := dk_4 (dk_at dksX0_has_0 9 rfl rfl)
theorem dX0_has_10 : decode cX0_has 10 = .ok (.goto 4, 3) := dk_167 0 4 (dk_at dksX0_has_0 10 rfl rfl)
theorem dX0_has_13 : decode cX0_has 13 = .ok (.iconst 0, 1) := dk_3 (dk_at dksX0_has_0 13 rfl rfl)
theorem dX0_has_14 : decode cX0_has 14 = .ok (.ireturn, 1) := dk_172 (dk_at dksX0_has_0 14 rfl rfl)
abbrev cX0_ahead : ByteArray := prog_1_method_29_code
def yX0_ahead : MethodName := ⟨RX0, "ahead", "(I)I"⟩
def dkwX0_ahead_1 : List UInt8 := [180, 0, 87, 3, 182, 0, 209, 42, 180, 0, 87, 27, 6, 182, 0, 3, 172]
abbrev dktX0_ahead_1 : List UInt8 := dkwX0_ahead_1 ++ []
def dkwX0_ahead_0 : List UInt8 := [42, 27, 182, 0, 162, 154, 0, 5, 2, 172, 42, 180, 0, 87, 42, 180, 0, 83, 182, 0, 144, 42, 42]
abbrev dktX0_ahead_0 : List UInt8 := dkwX0_ahead_0 ++ dktX0_ahead_1
theorem dksX0_ahead_0 : cX0_ahead.data.toList.drop 0 = dktX0_ahead_0 := by decide +kernel
theorem dksX0_ahead_1 : cX0_ahead.data.toList.drop 23 = dktX0_ahead_1 := dk_seg dksX0_ahead_0 23 rfl rfl
theorem dX0_ahead_0 : decode cX0_ahead 0 = .ok (.aload_n 0, 1) := dk_42 (dk_at dksX0_ahead_0 0 rfl rfl)
theorem dX0_ahead_1 : decode cX0_ahead 1 = .ok (.iload_n 1, 1) := dk_27 (dk_at dksX0_ahead_0 1 rfl rfl)
theorem dX0_ahead_2 : decode cX0_ahead 2 = .ok (.invokevirtual 162, 3) := dk_182 0 162 (dk_at dksX0_ahead_0 2 rfl rfl)
theorem dX0_ahead_5 : decode cX0_ahead 5 = .ok (.ifCond .ne 5, 3) := dk_154 0 5 (dk_at dksX0_ahead_0 5 rfl rfl)
theorem dX0_ahead_8 : decode cX0_ahead 8 = .ok (.iconst (-1), 1) := dk_2 (dk_at dksX0_ahead_0 8 rfl rfl)
theorem dX0_ahead_9 : decode cX0_ahead 9 = .ok (.ireturn, 1) := dk_172 (dk_at dksX0_ahead_0 9 rfl rfl)
theorem dX0_ahead_10 : decode cX0_ahead 10 = .ok (.aload_n 0, 1) := dk_42 (dk_at dksX0_ahead_0 10 rfl rfl)
theorem dX0_ahead_11 : decode cX0_ahead 11 = .ok (.getfield 87, 3) := dk_180 0 87 (dk_at dksX0_ahead_0 11 rfl rfl)
theorem dX0_ahead_14 : decode cX0_ahead 14 = .ok (.aload_n 0, 1) := dk_42 (dk_at dksX0_ahead_0 14 rfl rfl)
theorem dX0_ahead_15 : decode cX0_ahead 15 = .ok (.getfield 83, 3) := dk_180 0 83 (dk_at dksX0_ahead_0 15 rfl rfl)
theorem dX0_ahead_18 : decode cX0_ahead 18 = .ok (.invokevirtual 144, 3) := dk_182 0 144 (dk_at dksX0_ahead_0 18 rfl rfl)
theorem dX0_ahead_21 : decode cX0_ahead 21 = .ok (.aload_n 0, 1) := dk_42 (dk_at dksX0_ahead_0 21 rfl rfl)
theorem dX0_ahead_22 : decode cX0_ahead 22 = .ok (.aload_n 0, 1) := dk_42 (dk_at dksX0_ahead_0 22 rfl rfl)
theorem dX0_ahead_23 : decode cX0_ahead 23 = .ok (.getfield 87, 3) := dk_180 0 87 (dk_at dksX0_ahead_1 0 rfl rfl)
theorem dX0_ahead_26 : decode cX0_ahead 26 = .ok (.iconst 0, 1) := dk_3 (dk_at dksX0_ahead_1 3 rfl rfl)
theorem dX0_ahead_27 : decode cX0_ahead 27 = .ok (.invokevirtual 209, 3) := dk_182 0 209 (dk_at dksX0_ahead_1 4 rfl rfl)
theorem dX0_ahead_30 : decode cX0_ahead 30 = .ok (.aload_n 0, 1) := dk_42 (dk_at dksX0_ahead_1 7 rfl rfl)
theorem dX0_ahead_31 : decode cX0_ahead 31 = .ok (.getfield 87, 3) := dk_180 0 87 (dk_at dksX0_ahead_1 8 rfl rfl)
theorem dX0_ahead_34 : decode cX0_ahead 34 = .ok (.iload_n 1, 1) := dk_27 (dk_at dksX0_ahead_1 11 rfl rfl)
theorem dX0_ahead_35 : decode cX0_ahead 35 = .ok (.iconst 3, 1) := dk_6 (dk_at dksX0_ahead_1 12 rfl rfl)
theorem dX0_ahead_36 : decode cX0_ahead 36 = .ok (.invokevirtual 3, 3) := dk_182 0 3 (dk_at dksX0_ahead_1 13 rfl rfl)
theorem dX0_ahead_39 : decode cX0_ahead 39 = .ok (.ireturn, 1) := dk_172 (dk_at dksX0_ahead_1 16 rfl rfl)
abbrev cX0_later : ByteArray := prog_1_method_30_code
def yX0_later : MethodName := ⟨RX0, "later", "(II)I"⟩
def dkwX0_later_2 : List UInt8 := [182, 0, 206, 132, 3, 1, 167, 255, 240, 42, 180, 0, 87, 27, 6, 182, 0, 3, 172]
abbrev dktX0_later_2 : List UInt8 := dkwX0_later_2 ++ []
def dkwX0_later_1 : List UInt8 := [180, 0, 87, 42, 180, 0, 83, 182, 0, 144, 3, 62, 29, 28, 162, 0, 17, 42, 42, 180, 0, 87]
abbrev dktX0_later_1 : List UInt8 := dkwX0_later_1 ++ dktX0_later_2
def dkwX0_later_0 : List UInt8 := [42, 27, 182, 0, 162, 153, 0, 15, 28, 133, 9, 20, 0, 213, 184, 0, 122, 154, 0, 5, 2, 172, 42]
abbrev dktX0_later_0 : List UInt8 := dkwX0_later_0 ++ dktX0_later_1
theorem dksX0_later_0 : cX0_later.data.toList.drop 0 = dktX0_later_0 := by decide +kernel
theorem dksX0_later_1 : cX0_later.data.toList.drop 23 = dktX0_later_1 := dk_seg dksX0_later_0 23 rfl rfl
theorem dksX0_later_2 : cX0_later.data.toList.drop 45 = dktX0_later_2 := dk_seg dksX0_later_1 22 rfl rfl
theorem dX0_later_0 : decode cX0_later 0 = .ok (.aload_n 0, 1) := dk_42 (dk_at dksX0_later_0 0 rfl rfl)
theorem dX0_later_1 : decode cX0_later 1 = .ok (.iload_n 1, 1) := dk_27 (dk_at dksX0_later_0 1 rfl rfl)
theorem dX0_later_2 : decode cX0_later 2 = .ok (.invokevirtual 162, 3) := dk_182 0 162 (dk_at dksX0_later_0 2 rfl rfl)
theorem dX0_later_5 : decode cX0_later 5 = .ok (.ifCond .eq 15, 3) := dk_153 0 15 (dk_at dksX0_later_0 5 rfl rfl)
theorem dX0_later_8 : decode cX0_later 8 = .ok (.iload_n 2, 1) := dk_28 (dk_at dksX0_later_0 8 rfl rfl)
theorem dX0_later_9 : decode cX0_later 9 = .ok (.i2l, 1) := dk_133 (dk_at dksX0_later_0 9 rfl rfl)
theorem dX0_later_10 : decode cX0_later 10 = .ok (.lconst 0, 1) := dk_9 (dk_at dksX0_later_0 10 rfl rfl)
theorem dX0_later_11 : decode cX0_later 11 = .ok (.ldc2_w 213, 3) := dk_20 0 213 (dk_at dksX0_later_0 11 rfl rfl)
theorem dX0_later_14 : decode cX0_later 14 = .ok (.invokestatic 122, 3) := dk_184 0 122 (dk_at dksX0_later_0 14 rfl rfl)
theorem dX0_later_17 : decode cX0_later 17 = .ok (.ifCond .ne 5, 3) := dk_154 0 5 (dk_at dksX0_later_0 17 rfl rfl)
theorem dX0_later_20 : decode cX0_later 20 = .ok (.iconst (-1), 1) := dk_2 (dk_at dksX0_later_0 20 rfl rfl)
theorem dX0_later_21 : decode cX0_later 21 = .ok (.ireturn, 1) := dk_172 (dk_at dksX0_later_0 21 rfl rfl)
theorem dX0_later_22 : decode cX0_later 22 = .ok (.aload_n 0, 1) := dk_42 (dk_at dksX0_later_0 22 rfl rfl)
theorem dX0_later_23 : decode cX0_later 23 = .ok (.getfield 87, 3) := dk_180 0 87 (dk_at dksX0_later_1 0 rfl rfl)
theorem dX0_later_26 : decode cX0_later 26 = .ok (.aload_n 0, 1) := dk_42 (dk_at dksX0_later_1 3 rfl rfl)
theorem dX0_later_27 : decode cX0_later 27 = .ok (.getfield 83, 3) := dk_180 0 83 (dk_at dksX0_later_1 4 rfl rfl)
theorem dX0_later_30 : decode cX0_later 30 = .ok (.invokevirtual 144, 3) := dk_182 0 144 (dk_at dksX0_later_1 7 rfl rfl)
theorem dX0_later_33 : decode cX0_later 33 = .ok (.iconst 0, 1) := dk_3 (dk_at dksX0_later_1 10 rfl rfl)
theorem dX0_later_34 : decode cX0_later 34 = .ok (.istore_n 3, 1) := dk_62 (dk_at dksX0_later_1 11 rfl rfl)
theorem dX0_later_35 : decode cX0_later 35 = .ok (.iload_n 3, 1) := dk_29 (dk_at dksX0_later_1 12 rfl rfl)
theorem dX0_later_36 : decode cX0_later 36 = .ok (.iload_n 2, 1) := dk_28 (dk_at dksX0_later_1 13 rfl rfl)
theorem dX0_later_37 : decode cX0_later 37 = .ok (.if_icmp .ge 17, 3) := dk_162 0 17 (dk_at dksX0_later_1 14 rfl rfl)
theorem dX0_later_40 : decode cX0_later 40 = .ok (.aload_n 0, 1) := dk_42 (dk_at dksX0_later_1 17 rfl rfl)
theorem dX0_later_41 : decode cX0_later 41 = .ok (.aload_n 0, 1) := dk_42 (dk_at dksX0_later_1 18 rfl rfl)
theorem dX0_later_42 : decode cX0_later 42 = .ok (.getfield 87, 3) := dk_180 0 87 (dk_at dksX0_later_1 19 rfl rfl)
theorem dX0_later_45 : decode cX0_later 45 = .ok (.invokevirtual 206, 3) := dk_182 0 206 (dk_at dksX0_later_2 0 rfl rfl)
theorem dX0_later_48 : decode cX0_later 48 = .ok (.iinc 3 1, 3) := dk_132 3 1 (dk_at dksX0_later_2 3 rfl rfl)
theorem dX0_later_51 : decode cX0_later 51 = .ok (.goto (-16), 3) := dk_167 255 240 (dk_at dksX0_later_2 6 rfl rfl)
theorem dX0_later_54 : decode cX0_later 54 = .ok (.aload_n 0, 1) := dk_42 (dk_at dksX0_later_2 9 rfl rfl)
theorem dX0_later_55 : decode cX0_later 55 = .ok (.getfield 87, 3) := dk_180 0 87 (dk_at dksX0_later_2 10 rfl rfl)
theorem dX0_later_58 : decode cX0_later 58 = .ok (.iload_n 1, 1) := dk_27 (dk_at dksX0_later_2 13 rfl rfl)
theorem dX0_later_59 : decode cX0_later 59 = .ok (.iconst 3, 1) := dk_6 (dk_at dksX0_later_2 14 rfl rfl)
theorem dX0_later_60 : decode cX0_later 60 = .ok (.invokevirtual 3, 3) := dk_182 0 3 (dk_at dksX0_later_2 15 rfl rfl)
theorem dX0_later_63 : decode cX0_later 63 = .ok (.ireturn, 1) := dk_172 (dk_at dksX0_later_2 18 rfl rfl)
abbrev cX0_when : ByteArray := prog_1_method_31_code
def yX0_when : MethodName := ⟨RX0, "when", "(I)I"⟩
def dkwX0_when_2 : List UInt8 := [180, 0, 87, 182, 0, 206, 132, 2, 1, 167, 255, 223, 16, 252, 172]
abbrev dktX0_when_2 : List UInt8 := dkwX0_when_2 ++ []
def dkwX0_when_1 : List UInt8 := [16, 60, 163, 0, 33, 42, 180, 0, 87, 27, 6, 182, 0, 3, 16, 50, 160, 0, 5, 28, 172, 42, 42]
abbrev dktX0_when_1 : List UInt8 := dkwX0_when_1 ++ dktX0_when_2
def dkwX0_when_0 : List UInt8 := [42, 27, 182, 0, 162, 154, 0, 5, 2, 172, 42, 180, 0, 87, 42, 180, 0, 83, 182, 0, 144, 3, 61, 28]
abbrev dktX0_when_0 : List UInt8 := dkwX0_when_0 ++ dktX0_when_1
theorem dksX0_when_0 : cX0_when.data.toList.drop 0 = dktX0_when_0 := by decide +kernel
theorem dksX0_when_1 : cX0_when.data.toList.drop 24 = dktX0_when_1 := dk_seg dksX0_when_0 24 rfl rfl
theorem dksX0_when_2 : cX0_when.data.toList.drop 47 = dktX0_when_2 := dk_seg dksX0_when_1 23 rfl rfl
theorem dX0_when_0 : decode cX0_when 0 = .ok (.aload_n 0, 1) := dk_42 (dk_at dksX0_when_0 0 rfl rfl)
theorem dX0_when_1 : decode cX0_when 1 = .ok (.iload_n 1, 1) := dk_27 (dk_at dksX0_when_0 1 rfl rfl)
theorem dX0_when_2 : decode cX0_when 2 = .ok (.invokevirtual 162, 3) := dk_182 0 162 (dk_at dksX0_when_0 2 rfl rfl)
theorem dX0_when_5 : decode cX0_when 5 = .ok (.ifCond .ne 5, 3) := dk_154 0 5 (dk_at dksX0_when_0 5 rfl rfl)
theorem dX0_when_8 : decode cX0_when 8 = .ok (.iconst (-1), 1) := dk_2 (dk_at dksX0_when_0 8 rfl rfl)
theorem dX0_when_9 : decode cX0_when 9 = .ok (.ireturn, 1) := dk_172 (dk_at dksX0_when_0 9 rfl rfl)
theorem dX0_when_10 : decode cX0_when 10 = .ok (.aload_n 0, 1) := dk_42 (dk_at dksX0_when_0 10 rfl rfl)
theorem dX0_when_11 : decode cX0_when 11 = .ok (.getfield 87, 3) := dk_180 0 87 (dk_at dksX0_when_0 11 rfl rfl)
theorem dX0_when_14 : decode cX0_when 14 = .ok (.aload_n 0, 1) := dk_42 (dk_at dksX0_when_0 14 rfl rfl)
theorem dX0_when_15 : decode cX0_when 15 = .ok (.getfield 83, 3) := dk_180 0 83 (dk_at dksX0_when_0 15 rfl rfl)
theorem dX0_when_18 : decode cX0_when 18 = .ok (.invokevirtual 144, 3) := dk_182 0 144 (dk_at dksX0_when_0 18 rfl rfl)
theorem dX0_when_21 : decode cX0_when 21 = .ok (.iconst 0, 1) := dk_3 (dk_at dksX0_when_0 21 rfl rfl)
theorem dX0_when_22 : decode cX0_when 22 = .ok (.istore_n 2, 1) := dk_61 (dk_at dksX0_when_0 22 rfl rfl)
theorem dX0_when_23 : decode cX0_when 23 = .ok (.iload_n 2, 1) := dk_28 (dk_at dksX0_when_0 23 rfl rfl)
theorem dX0_when_24 : decode cX0_when 24 = .ok (.bipush 60, 2) := dk_16 60 (dk_at dksX0_when_1 0 rfl rfl)
theorem dX0_when_26 : decode cX0_when 26 = .ok (.if_icmp .gt 33, 3) := dk_163 0 33 (dk_at dksX0_when_1 2 rfl rfl)
theorem dX0_when_29 : decode cX0_when 29 = .ok (.aload_n 0, 1) := dk_42 (dk_at dksX0_when_1 5 rfl rfl)
theorem dX0_when_30 : decode cX0_when 30 = .ok (.getfield 87, 3) := dk_180 0 87 (dk_at dksX0_when_1 6 rfl rfl)
theorem dX0_when_33 : decode cX0_when 33 = .ok (.iload_n 1, 1) := dk_27 (dk_at dksX0_when_1 9 rfl rfl)
theorem dX0_when_34 : decode cX0_when 34 = .ok (.iconst 3, 1) := dk_6 (dk_at dksX0_when_1 10 rfl rfl)
theorem dX0_when_35 : decode cX0_when 35 = .ok (.invokevirtual 3, 3) := dk_182 0 3 (dk_at dksX0_when_1 11 rfl rfl)
theorem dX0_when_38 : decode cX0_when 38 = .ok (.bipush 50, 2) := dk_16 50 (dk_at dksX0_when_1 14 rfl rfl)
theorem dX0_when_40 : decode cX0_when 40 = .ok (.if_icmp .ne 5, 3) := dk_160 0 5 (dk_at dksX0_when_1 16 rfl rfl)
theorem dX0_when_43 : decode cX0_when 43 = .ok (.iload_n 2, 1) := dk_28 (dk_at dksX0_when_1 19 rfl rfl)
theorem dX0_when_44 : decode cX0_when 44 = .ok (.ireturn, 1) := dk_172 (dk_at dksX0_when_1 20 rfl rfl)
theorem dX0_when_45 : decode cX0_when 45 = .ok (.aload_n 0, 1) := dk_42 (dk_at dksX0_when_1 21 rfl rfl)
theorem dX0_when_46 : decode cX0_when 46 = .ok (.aload_n 0, 1) := dk_42 (dk_at dksX0_when_1 22 rfl rfl)
theorem dX0_when_47 : decode cX0_when 47 = .ok (.getfield 87, 3) := dk_180 0 87 (dk_at dksX0_when_2 0 rfl rfl)
theorem dX0_when_50 : decode cX0_when 50 = .ok (.invokevirtual 206, 3) := dk_182 0 206 (dk_at dksX0_when_2 3 rfl rfl)
theorem dX0_when_53 : decode cX0_when 53 = .ok (.iinc 2 1, 3) := dk_132 2 1 (dk_at dksX0_when_2 6 rfl rfl)
theorem dX0_when_56 : decode cX0_when 56 = .ok (.goto (-33), 3) := dk_167 255 223 (dk_at dksX0_when_2 9 rfl rfl)
theorem dX0_when_59 : decode cX0_when 59 = .ok (.bipush (-4), 2) := dk_16 252 (dk_at dksX0_when_2 12 rfl rfl)
theorem dX0_when_61 : decode cX0_when 61 = .ok (.ireturn, 1) := dk_172 (dk_at dksX0_when_2 14 rfl rfl)
abbrev cX0_together : ByteArray := prog_1_method_32_code
def yX0_together : MethodName := ⟨RX0, "together", "(I)I"⟩
def dkwX0_together_3 : List UInt8 := [182, 0, 206, 132, 4, 1, 167, 255, 206, 27, 154, 0, 7, 29, 167, 0, 4, 28, 172]
abbrev dktX0_together_3 : List UInt8 := dkwX0_together_3 ++ []
def dkwX0_together_2 : List UInt8 := [28, 164, 0, 8, 21, 4, 167, 0, 4, 29, 62, 28, 21, 5, 184, 0, 24, 61, 42, 42, 180, 0, 87]
abbrev dktX0_together_2 : List UInt8 := dkwX0_together_2 ++ dktX0_together_3
def dkwX0_together_1 : List UInt8 := [3, 54, 4, 21, 4, 16, 60, 163, 0, 49, 42, 180, 0, 87, 182, 0, 173, 184, 0, 218, 54, 5, 21, 5]
abbrev dktX0_together_1 : List UInt8 := dkwX0_together_1 ++ dktX0_together_2
def dkwX0_together_0 : List UInt8 := [27, 184, 0, 215, 154, 0, 5, 2, 172, 2, 61, 3, 62, 42, 180, 0, 87, 42, 180, 0, 83, 182, 0, 144]
abbrev dktX0_together_0 : List UInt8 := dkwX0_together_0 ++ dktX0_together_1
theorem dksX0_together_0 : cX0_together.data.toList.drop 0 = dktX0_together_0 := by decide +kernel
theorem dksX0_together_1 : cX0_together.data.toList.drop 24 = dktX0_together_1 := dk_seg dksX0_together_0 24 rfl rfl
theorem dksX0_together_2 : cX0_together.data.toList.drop 48 = dktX0_together_2 := dk_seg dksX0_together_1 24 rfl rfl
theorem dksX0_together_3 : cX0_together.data.toList.drop 71 = dktX0_together_3 := dk_seg dksX0_together_2 23 rfl rfl
theorem dX0_together_0 : decode cX0_together 0 = .ok (.iload_n 1, 1) := dk_27 (dk_at dksX0_together_0 0 rfl rfl)
theorem dX0_together_1 : decode cX0_together 1 = .ok (.invokestatic 215, 3) := dk_184 0 215 (dk_at dksX0_together_0 1 rfl rfl)
theorem dX0_together_4 : decode cX0_together 4 = .ok (.ifCond .ne 5, 3) := dk_154 0 5 (dk_at dksX0_together_0 4 rfl rfl)
theorem dX0_together_7 : decode cX0_together 7 = .ok (.iconst (-1), 1) := dk_2 (dk_at dksX0_together_0 7 rfl rfl)
theorem dX0_together_8 : decode cX0_together 8 = .ok (.ireturn, 1) := dk_172 (dk_at dksX0_together_0 8 rfl rfl)
theorem dX0_together_9 : decode cX0_together 9 = .ok (.iconst (-1), 1) := dk_2 (dk_at dksX0_together_0 9 rfl rfl)
theorem dX0_together_10 : decode cX0_together 10 = .ok (.istore_n 2, 1) := dk_61 (dk_at dksX0_together_0 10 rfl rfl)
theorem dX0_together_11 : decode cX0_together 11 = .ok (.iconst 0, 1) := dk_3 (dk_at dksX0_together_0 11 rfl rfl)
theorem dX0_together_12 : decode cX0_together 12 = .ok (.istore_n 3, 1) := dk_62 (dk_at dksX0_together_0 12 rfl rfl)
theorem dX0_together_13 : decode cX0_together 13 = .ok (.aload_n 0, 1) := dk_42 (dk_at dksX0_together_0 13 rfl rfl)
theorem dX0_together_14 : decode cX0_together 14 = .ok (.getfield 87, 3) := dk_180 0 87 (dk_at dksX0_together_0 14 rfl rfl)
theorem dX0_together_17 : decode cX0_together 17 = .ok (.aload_n 0, 1) := dk_42 (dk_at dksX0_together_0 17 rfl rfl)
theorem dX0_together_18 : decode cX0_together 18 = .ok (.getfield 83, 3) := dk_180 0 83 (dk_at dksX0_together_0 18 rfl rfl)
theorem dX0_together_21 : decode cX0_together 21 = .ok (.invokevirtual 144, 3) := dk_182 0 144 (dk_at dksX0_together_0 21 rfl rfl)
theorem dX0_together_24 : decode cX0_together 24 = .ok (.iconst 0, 1) := dk_3 (dk_at dksX0_together_1 0 rfl rfl)
theorem dX0_together_25 : decode cX0_together 25 = .ok (.istore 4, 2) := dk_54 4 (dk_at dksX0_together_1 1 rfl rfl)
theorem dX0_together_27 : decode cX0_together 27 = .ok (.iload 4, 2) := dk_21 4 (dk_at dksX0_together_1 3 rfl rfl)
theorem dX0_together_29 : decode cX0_together 29 = .ok (.bipush 60, 2) := dk_16 60 (dk_at dksX0_together_1 5 rfl rfl)
theorem dX0_together_31 : decode cX0_together 31 = .ok (.if_icmp .gt 49, 3) := dk_163 0 49 (dk_at dksX0_together_1 7 rfl rfl)
theorem dX0_together_34 : decode cX0_together 34 = .ok (.aload_n 0, 1) := dk_42 (dk_at dksX0_together_1 10 rfl rfl)
theorem dX0_together_35 : decode cX0_together 35 = .ok (.getfield 87, 3) := dk_180 0 87 (dk_at dksX0_together_1 11 rfl rfl)
theorem dX0_together_38 : decode cX0_together 38 = .ok (.invokevirtual 173, 3) := dk_182 0 173 (dk_at dksX0_together_1 14 rfl rfl)
theorem dX0_together_41 : decode cX0_together 41 = .ok (.invokestatic 218, 3) := dk_184 0 218 (dk_at dksX0_together_1 17 rfl rfl)
theorem dX0_together_44 : decode cX0_together 44 = .ok (.istore 5, 2) := dk_54 5 (dk_at dksX0_together_1 20 rfl rfl)
theorem dX0_together_46 : decode cX0_together 46 = .ok (.iload 5, 2) := dk_21 5 (dk_at dksX0_together_1 22 rfl rfl)
theorem dX0_together_48 : decode cX0_together 48 = .ok (.iload_n 2, 1) := dk_28 (dk_at dksX0_together_2 0 rfl rfl)
theorem dX0_together_49 : decode cX0_together 49 = .ok (.if_icmp .le 8, 3) := dk_164 0 8 (dk_at dksX0_together_2 1 rfl rfl)
theorem dX0_together_52 : decode cX0_together 52 = .ok (.iload 4, 2) := dk_21 4 (dk_at dksX0_together_2 4 rfl rfl)
theorem dX0_together_54 : decode cX0_together 54 = .ok (.goto 4, 3) := dk_167 0 4 (dk_at dksX0_together_2 6 rfl rfl)
theorem dX0_together_57 : decode cX0_together 57 = .ok (.iload_n 3, 1) := dk_29 (dk_at dksX0_together_2 9 rfl rfl)
theorem dX0_together_58 : decode cX0_together 58 = .ok (.istore_n 3, 1) := dk_62 (dk_at dksX0_together_2 10 rfl rfl)
theorem dX0_together_59 : decode cX0_together 59 = .ok (.iload_n 2, 1) := dk_28 (dk_at dksX0_together_2 11 rfl rfl)
theorem dX0_together_60 : decode cX0_together 60 = .ok (.iload 5, 2) := dk_21 5 (dk_at dksX0_together_2 12 rfl rfl)
theorem dX0_together_62 : decode cX0_together 62 = .ok (.invokestatic 24, 3) := dk_184 0 24 (dk_at dksX0_together_2 14 rfl rfl)
theorem dX0_together_65 : decode cX0_together 65 = .ok (.istore_n 2, 1) := dk_61 (dk_at dksX0_together_2 17 rfl rfl)
theorem dX0_together_66 : decode cX0_together 66 = .ok (.aload_n 0, 1) := dk_42 (dk_at dksX0_together_2 18 rfl rfl)
theorem dX0_together_67 : decode cX0_together 67 = .ok (.aload_n 0, 1) := dk_42 (dk_at dksX0_together_2 19 rfl rfl)
theorem dX0_together_68 : decode cX0_together 68 = .ok (.getfield 87, 3) := dk_180 0 87 (dk_at dksX0_together_2 20 rfl rfl)
theorem dX0_together_71 : decode cX0_together 71 = .ok (.invokevirtual 206, 3) := dk_182 0 206 (dk_at dksX0_together_3 0 rfl rfl)
theorem dX0_together_74 : decode cX0_together 74 = .ok (.iinc 4 1, 3) := dk_132 4 1 (dk_at dksX0_together_3 3 rfl rfl)
theorem dX0_together_77 : decode cX0_together 77 = .ok (.goto (-50), 3) := dk_167 255 206 (dk_at dksX0_together_3 6 rfl rfl)
theorem dX0_together_80 : decode cX0_together 80 = .ok (.iload_n 1, 1) := dk_27 (dk_at dksX0_together_3 9 rfl rfl)
theorem dX0_together_81 : decode cX0_together 81 = .ok (.ifCond .ne 7, 3) := dk_154 0 7 (dk_at dksX0_together_3 10 rfl rfl)
theorem dX0_together_84 : decode cX0_together 84 = .ok (.iload_n 3, 1) := dk_29 (dk_at dksX0_together_3 13 rfl rfl)
theorem dX0_together_85 : decode cX0_together 85 = .ok (.goto 4, 3) := dk_167 0 4 (dk_at dksX0_together_3 14 rfl rfl)
theorem dX0_together_88 : decode cX0_together 88 = .ok (.iload_n 2, 1) := dk_28 (dk_at dksX0_together_3 17 rfl rfl)
theorem dX0_together_89 : decode cX0_together 89 = .ok (.ireturn, 1) := dk_172 (dk_at dksX0_together_3 18 rfl rfl)
abbrev cX0_isPart : ByteArray := prog_1_method_13_code
def yX0_isPart : MethodName := ⟨RX0, "isPart", "(I)Z"⟩
def dkwX0_isPart_0 : List UInt8 := [26, 133, 9, 10, 184, 0, 122, 172]
abbrev dktX0_isPart_0 : List UInt8 := dkwX0_isPart_0 ++ []
theorem dksX0_isPart_0 : cX0_isPart.data.toList.drop 0 = dktX0_isPart_0 := by decide +kernel
theorem dX0_isPart_0 : decode cX0_isPart 0 = .ok (.iload_n 0, 1) := dk_26 (dk_at dksX0_isPart_0 0 rfl rfl)
theorem dX0_isPart_1 : decode cX0_isPart 1 = .ok (.i2l, 1) := dk_133 (dk_at dksX0_isPart_0 1 rfl rfl)
theorem dX0_isPart_2 : decode cX0_isPart 2 = .ok (.lconst 0, 1) := dk_9 (dk_at dksX0_isPart_0 2 rfl rfl)
theorem dX0_isPart_3 : decode cX0_isPart 3 = .ok (.lconst 1, 1) := dk_10 (dk_at dksX0_isPart_0 3 rfl rfl)
theorem dX0_isPart_4 : decode cX0_isPart 4 = .ok (.invokestatic 122, 3) := dk_184 0 122 (dk_at dksX0_isPart_0 4 rfl rfl)
theorem dX0_isPart_7 : decode cX0_isPart 7 = .ok (.ireturn, 1) := dk_172 (dk_at dksX0_isPart_0 7 rfl rfl)
abbrev cX0_donor : ByteArray := prog_1_method_33_code
def yX0_donor : MethodName := ⟨RX0, "donor", "(II)I"⟩
def dkwX0_donor_5 : List UInt8 := [167, 0, 4, 29, 172]
abbrev dktX0_donor_5 : List UInt8 := dkwX0_donor_5 ++ []
def dkwX0_donor_4 : List UInt8 := [132, 5, 1, 167, 255, 186, 21, 4, 16, 252, 160, 0, 8, 16, 252, 167, 0, 13, 28, 154, 0, 8, 21, 4]
abbrev dktX0_donor_4 : List UInt8 := dkwX0_donor_4 ++ dktX0_donor_5
def dkwX0_donor_3 : List UInt8 := [21, 7, 29, 164, 0, 8, 21, 5, 167, 0, 5, 21, 4, 54, 4, 29, 21, 7, 184, 0, 24, 62]
abbrev dktX0_donor_3 : List UInt8 := dkwX0_donor_3 ++ dktX0_donor_4
def dkwX0_donor_2 : List UInt8 := [42, 21, 5, 27, 182, 0, 201, 54, 6, 42, 180, 0, 83, 21, 5, 27, 21, 6, 182, 0, 223, 54, 7]
abbrev dktX0_donor_2 : List UInt8 := dkwX0_donor_2 ++ dktX0_donor_3
def dkwX0_donor_1 : List UInt8 := [54, 5, 21, 5, 42, 180, 0, 83, 180, 0, 27, 162, 0, 64, 21, 5, 27, 160, 0, 7, 3, 167, 0, 10]
abbrev dktX0_donor_1 : List UInt8 := dkwX0_donor_1 ++ dktX0_donor_2
def dkwX0_donor_0 : List UInt8 := [42, 27, 182, 0, 162, 153, 0, 10, 28, 184, 0, 215, 154, 0, 5, 2, 172, 3, 62, 16, 252, 54, 4, 3]
abbrev dktX0_donor_0 : List UInt8 := dkwX0_donor_0 ++ dktX0_donor_1
theorem dksX0_donor_0 : cX0_donor.data.toList.drop 0 = dktX0_donor_0 := by decide +kernel
theorem dksX0_donor_1 : cX0_donor.data.toList.drop 24 = dktX0_donor_1 := dk_seg dksX0_donor_0 24 rfl rfl
theorem dksX0_donor_2 : cX0_donor.data.toList.drop 48 = dktX0_donor_2 := dk_seg dksX0_donor_1 24 rfl rfl
theorem dksX0_donor_3 : cX0_donor.data.toList.drop 71 = dktX0_donor_3 := dk_seg dksX0_donor_2 23 rfl rfl
theorem dksX0_donor_4 : cX0_donor.data.toList.drop 93 = dktX0_donor_4 := dk_seg dksX0_donor_3 22 rfl rfl
theorem dksX0_donor_5 : cX0_donor.data.toList.drop 117 = dktX0_donor_5 := dk_seg dksX0_donor_4 24 rfl rfl
theorem dX0_donor_0 : decode cX0_donor 0 = .ok (.aload_n 0, 1) := dk_42 (dk_at dksX0_donor_0 0 rfl rfl)
theorem dX0_donor_1 : decode cX0_donor 1 = .ok (.iload_n 1, 1) := dk_27 (dk_at dksX0_donor_0 1 rfl rfl)
theorem dX0_donor_2 : decode cX0_donor 2 = .ok (.invokevirtual 162, 3) := dk_182 0 162 (dk_at dksX0_donor_0 2 rfl rfl)
theorem dX0_donor_5 : decode cX0_donor 5 = .ok (.ifCond .eq 10, 3) := dk_153 0 10 (dk_at dksX0_donor_0 5 rfl rfl)
theorem dX0_donor_8 : decode cX0_donor 8 = .ok (.iload_n 2, 1) := dk_28 (dk_at dksX0_donor_0 8 rfl rfl)
theorem dX0_donor_9 : decode cX0_donor 9 = .ok (.invokestatic 215, 3) := dk_184 0 215 (dk_at dksX0_donor_0 9 rfl rfl)
theorem dX0_donor_12 : decode cX0_donor 12 = .ok (.ifCond .ne 5, 3) := dk_154 0 5 (dk_at dksX0_donor_0 12 rfl rfl)
theorem dX0_donor_15 : decode cX0_donor 15 = .ok (.iconst (-1), 1) := dk_2 (dk_at dksX0_donor_0 15 rfl rfl)
theorem dX0_donor_16 : decode cX0_donor 16 = .ok (.ireturn, 1) := dk_172 (dk_at dksX0_donor_0 16 rfl rfl)
theorem dX0_donor_17 : decode cX0_donor 17 = .ok (.iconst 0, 1) := dk_3 (dk_at dksX0_donor_0 17 rfl rfl)
theorem dX0_donor_18 : decode cX0_donor 18 = .ok (.istore_n 3, 1) := dk_62 (dk_at dksX0_donor_0 18 rfl rfl)
theorem dX0_donor_19 : decode cX0_donor 19 = .ok (.bipush (-4), 2) := dk_16 252 (dk_at dksX0_donor_0 19 rfl rfl)
theorem dX0_donor_21 : decode cX0_donor 21 = .ok (.istore 4, 2) := dk_54 4 (dk_at dksX0_donor_0 21 rfl rfl)
theorem dX0_donor_23 : decode cX0_donor 23 = .ok (.iconst 0, 1) := dk_3 (dk_at dksX0_donor_0 23 rfl rfl)
theorem dX0_donor_24 : decode cX0_donor 24 = .ok (.istore 5, 2) := dk_54 5 (dk_at dksX0_donor_1 0 rfl rfl)
theorem dX0_donor_26 : decode cX0_donor 26 = .ok (.iload 5, 2) := dk_21 5 (dk_at dksX0_donor_1 2 rfl rfl)
theorem dX0_donor_28 : decode cX0_donor 28 = .ok (.aload_n 0, 1) := dk_42 (dk_at dksX0_donor_1 4 rfl rfl)
theorem dX0_donor_29 : decode cX0_donor 29 = .ok (.getfield 83, 3) := dk_180 0 83 (dk_at dksX0_donor_1 5 rfl rfl)
theorem dX0_donor_32 : decode cX0_donor 32 = .ok (.getfield 27, 3) := dk_180 0 27 (dk_at dksX0_donor_1 8 rfl rfl)
theorem dX0_donor_35 : decode cX0_donor 35 = .ok (.if_icmp .ge 64, 3) := dk_162 0 64 (dk_at dksX0_donor_1 11 rfl rfl)
theorem dX0_donor_38 : decode cX0_donor 38 = .ok (.iload 5, 2) := dk_21 5 (dk_at dksX0_donor_1 14 rfl rfl)
theorem dX0_donor_40 : decode cX0_donor 40 = .ok (.iload_n 1, 1) := dk_27 (dk_at dksX0_donor_1 16 rfl rfl)
theorem dX0_donor_41 : decode cX0_donor 41 = .ok (.if_icmp .ne 7, 3) := dk_160 0 7 (dk_at dksX0_donor_1 17 rfl rfl)
theorem dX0_donor_44 : decode cX0_donor 44 = .ok (.iconst 0, 1) := dk_3 (dk_at dksX0_donor_1 20 rfl rfl)
theorem dX0_donor_45 : decode cX0_donor 45 = .ok (.goto 10, 3) := dk_167 0 10 (dk_at dksX0_donor_1 21 rfl rfl)
theorem dX0_donor_48 : decode cX0_donor 48 = .ok (.aload_n 0, 1) := dk_42 (dk_at dksX0_donor_2 0 rfl rfl)
theorem dX0_donor_49 : decode cX0_donor 49 = .ok (.iload 5, 2) := dk_21 5 (dk_at dksX0_donor_2 1 rfl rfl)
theorem dX0_donor_51 : decode cX0_donor 51 = .ok (.iload_n 1, 1) := dk_27 (dk_at dksX0_donor_2 3 rfl rfl)
theorem dX0_donor_52 : decode cX0_donor 52 = .ok (.invokevirtual 201, 3) := dk_182 0 201 (dk_at dksX0_donor_2 4 rfl rfl)
theorem dX0_donor_55 : decode cX0_donor 55 = .ok (.istore 6, 2) := dk_54 6 (dk_at dksX0_donor_2 7 rfl rfl)
theorem dX0_donor_57 : decode cX0_donor 57 = .ok (.aload_n 0, 1) := dk_42 (dk_at dksX0_donor_2 9 rfl rfl)
theorem dX0_donor_58 : decode cX0_donor 58 = .ok (.getfield 83, 3) := dk_180 0 83 (dk_at dksX0_donor_2 10 rfl rfl)
theorem dX0_donor_61 : decode cX0_donor 61 = .ok (.iload 5, 2) := dk_21 5 (dk_at dksX0_donor_2 13 rfl rfl)
theorem dX0_donor_63 : decode cX0_donor 63 = .ok (.iload_n 1, 1) := dk_27 (dk_at dksX0_donor_2 15 rfl rfl)
theorem dX0_donor_64 : decode cX0_donor 64 = .ok (.iload 6, 2) := dk_21 6 (dk_at dksX0_donor_2 16 rfl rfl)
theorem dX0_donor_66 : decode cX0_donor 66 = .ok (.invokevirtual 223, 3) := dk_182 0 223 (dk_at dksX0_donor_2 18 rfl rfl)
theorem dX0_donor_69 : decode cX0_donor 69 = .ok (.istore 7, 2) := dk_54 7 (dk_at dksX0_donor_2 21 rfl rfl)
theorem dX0_donor_71 : decode cX0_donor 71 = .ok (.iload 7, 2) := dk_21 7 (dk_at dksX0_donor_3 0 rfl rfl)
theorem dX0_donor_73 : decode cX0_donor 73 = .ok (.iload_n 3, 1) := dk_29 (dk_at dksX0_donor_3 2 rfl rfl)
theorem dX0_donor_74 : decode cX0_donor 74 = .ok (.if_icmp .le 8, 3) := dk_164 0 8 (dk_at dksX0_donor_3 3 rfl rfl)
theorem dX0_donor_77 : decode cX0_donor 77 = .ok (.iload 5, 2) := dk_21 5 (dk_at dksX0_donor_3 6 rfl rfl)
theorem dX0_donor_79 : decode cX0_donor 79 = .ok (.goto 5, 3) := dk_167 0 5 (dk_at dksX0_donor_3 8 rfl rfl)
theorem dX0_donor_82 : decode cX0_donor 82 = .ok (.iload 4, 2) := dk_21 4 (dk_at dksX0_donor_3 11 rfl rfl)
theorem dX0_donor_84 : decode cX0_donor 84 = .ok (.istore 4, 2) := dk_54 4 (dk_at dksX0_donor_3 13 rfl rfl)
theorem dX0_donor_86 : decode cX0_donor 86 = .ok (.iload_n 3, 1) := dk_29 (dk_at dksX0_donor_3 15 rfl rfl)
theorem dX0_donor_87 : decode cX0_donor 87 = .ok (.iload 7, 2) := dk_21 7 (dk_at dksX0_donor_3 16 rfl rfl)
theorem dX0_donor_89 : decode cX0_donor 89 = .ok (.invokestatic 24, 3) := dk_184 0 24 (dk_at dksX0_donor_3 18 rfl rfl)
theorem dX0_donor_92 : decode cX0_donor 92 = .ok (.istore_n 3, 1) := dk_62 (dk_at dksX0_donor_3 21 rfl rfl)
theorem dX0_donor_93 : decode cX0_donor 93 = .ok (.iinc 5 1, 3) := dk_132 5 1 (dk_at dksX0_donor_4 0 rfl rfl)
theorem dX0_donor_96 : decode cX0_donor 96 = .ok (.goto (-70), 3) := dk_167 255 186 (dk_at dksX0_donor_4 3 rfl rfl)
theorem dX0_donor_99 : decode cX0_donor 99 = .ok (.iload 4, 2) := dk_21 4 (dk_at dksX0_donor_4 6 rfl rfl)
theorem dX0_donor_101 : decode cX0_donor 101 = .ok (.bipush (-4), 2) := dk_16 252 (dk_at dksX0_donor_4 8 rfl rfl)
theorem dX0_donor_103 : decode cX0_donor 103 = .ok (.if_icmp .ne 8, 3) := dk_160 0 8 (dk_at dksX0_donor_4 10 rfl rfl)
theorem dX0_donor_106 : decode cX0_donor 106 = .ok (.bipush (-4), 2) := dk_16 252 (dk_at dksX0_donor_4 13 rfl rfl)
theorem dX0_donor_108 : decode cX0_donor 108 = .ok (.goto 13, 3) := dk_167 0 13 (dk_at dksX0_donor_4 15 rfl rfl)
theorem dX0_donor_111 : decode cX0_donor 111 = .ok (.iload_n 2, 1) := dk_28 (dk_at dksX0_donor_4 18 rfl rfl)
theorem dX0_donor_112 : decode cX0_donor 112 = .ok (.ifCond .ne 8, 3) := dk_154 0 8 (dk_at dksX0_donor_4 19 rfl rfl)
theorem dX0_donor_115 : decode cX0_donor 115 = .ok (.iload 4, 2) := dk_21 4 (dk_at dksX0_donor_4 22 rfl rfl)
theorem dX0_donor_117 : decode cX0_donor 117 = .ok (.goto 4, 3) := dk_167 0 4 (dk_at dksX0_donor_5 0 rfl rfl)
theorem dX0_donor_120 : decode cX0_donor 120 = .ok (.iload_n 3, 1) := dk_29 (dk_at dksX0_donor_5 3 rfl rfl)
theorem dX0_donor_121 : decode cX0_donor 121 = .ok (.ireturn, 1) := dk_172 (dk_at dksX0_donor_5 4 rfl rfl)
abbrev cX0_best : ByteArray := prog_1_method_42_code
def yX0_best : MethodName := ⟨RX0, "best", "(II)I"⟩
def dkwX0_best_4 : List UInt8 := [162, 0, 19, 42, 42, 180, 0, 103, 28, 16, 10, 100, 46, 182, 1, 7, 167, 0, 5, 16, 252, 172]
abbrev dktX0_best_4 : List UInt8 := dkwX0_best_4 ++ []
def dkwX0_best_3 : List UInt8 := [42, 180, 0, 236, 172, 42, 180, 0, 239, 172, 42, 180, 0, 242, 172, 28, 16, 10, 100, 42, 180, 0, 239]
abbrev dktX0_best_3 : List UInt8 := dkwX0_best_3 ++ dktX0_best_4
def dkwX0_best_2 : List UInt8 := [170, 0, 0, 0, 40, 0, 0, 0, 0, 0, 0, 0, 2, 0, 0, 0, 25, 0, 0, 0, 30, 0, 0, 0, 35]
abbrev dktX0_best_2 : List UInt8 := dkwX0_best_2 ++ dktX0_best_3
def dkwX0_best_1 : List UInt8 := [28, 184, 1, 0, 154, 0, 5, 2, 172, 42, 27, 182, 1, 3, 28]
abbrev dktX0_best_1 : List UInt8 := dkwX0_best_1 ++ dktX0_best_2
def dkwX0_best_0 : List UInt8 := [27, 133, 9, 20, 0, 190, 184, 0, 122, 153, 0, 22, 28, 133, 9, 20, 0, 190, 184, 0, 122, 154, 0, 12]
abbrev dktX0_best_0 : List UInt8 := dkwX0_best_0 ++ dktX0_best_1
theorem dksX0_best_0 : cX0_best.data.toList.drop 0 = dktX0_best_0 := by decide +kernel
theorem dksX0_best_1 : cX0_best.data.toList.drop 24 = dktX0_best_1 := dk_seg dksX0_best_0 24 rfl rfl
theorem dksX0_best_2 : cX0_best.data.toList.drop 39 = dktX0_best_2 := dk_seg dksX0_best_1 15 rfl rfl
theorem dksX0_best_3 : cX0_best.data.toList.drop 64 = dktX0_best_3 := dk_seg dksX0_best_2 25 rfl rfl
theorem dksX0_best_4 : cX0_best.data.toList.drop 87 = dktX0_best_4 := dk_seg dksX0_best_3 23 rfl rfl
theorem dX0_best_0 : decode cX0_best 0 = .ok (.iload_n 1, 1) := dk_27 (dk_at dksX0_best_0 0 rfl rfl)
theorem dX0_best_1 : decode cX0_best 1 = .ok (.i2l, 1) := dk_133 (dk_at dksX0_best_0 1 rfl rfl)
theorem dX0_best_2 : decode cX0_best 2 = .ok (.lconst 0, 1) := dk_9 (dk_at dksX0_best_0 2 rfl rfl)
theorem dX0_best_3 : decode cX0_best 3 = .ok (.ldc2_w 190, 3) := dk_20 0 190 (dk_at dksX0_best_0 3 rfl rfl)
theorem dX0_best_6 : decode cX0_best 6 = .ok (.invokestatic 122, 3) := dk_184 0 122 (dk_at dksX0_best_0 6 rfl rfl)
theorem dX0_best_9 : decode cX0_best 9 = .ok (.ifCond .eq 22, 3) := dk_153 0 22 (dk_at dksX0_best_0 9 rfl rfl)
theorem dX0_best_12 : decode cX0_best 12 = .ok (.iload_n 2, 1) := dk_28 (dk_at dksX0_best_0 12 rfl rfl)
theorem dX0_best_13 : decode cX0_best 13 = .ok (.i2l, 1) := dk_133 (dk_at dksX0_best_0 13 rfl rfl)
theorem dX0_best_14 : decode cX0_best 14 = .ok (.lconst 0, 1) := dk_9 (dk_at dksX0_best_0 14 rfl rfl)
theorem dX0_best_15 : decode cX0_best 15 = .ok (.ldc2_w 190, 3) := dk_20 0 190 (dk_at dksX0_best_0 15 rfl rfl)
theorem dX0_best_18 : decode cX0_best 18 = .ok (.invokestatic 122, 3) := dk_184 0 122 (dk_at dksX0_best_0 18 rfl rfl)
theorem dX0_best_21 : decode cX0_best 21 = .ok (.ifCond .ne 12, 3) := dk_154 0 12 (dk_at dksX0_best_0 21 rfl rfl)
theorem dX0_best_24 : decode cX0_best 24 = .ok (.iload_n 2, 1) := dk_28 (dk_at dksX0_best_1 0 rfl rfl)
theorem dX0_best_25 : decode cX0_best 25 = .ok (.invokestatic 256, 3) := dk_184 1 0 (dk_at dksX0_best_1 1 rfl rfl)
theorem dX0_best_28 : decode cX0_best 28 = .ok (.ifCond .ne 5, 3) := dk_154 0 5 (dk_at dksX0_best_1 4 rfl rfl)
theorem dX0_best_31 : decode cX0_best 31 = .ok (.iconst (-1), 1) := dk_2 (dk_at dksX0_best_1 7 rfl rfl)
theorem dX0_best_32 : decode cX0_best 32 = .ok (.ireturn, 1) := dk_172 (dk_at dksX0_best_1 8 rfl rfl)
theorem dX0_best_33 : decode cX0_best 33 = .ok (.aload_n 0, 1) := dk_42 (dk_at dksX0_best_1 9 rfl rfl)
theorem dX0_best_34 : decode cX0_best 34 = .ok (.iload_n 1, 1) := dk_27 (dk_at dksX0_best_1 10 rfl rfl)
theorem dX0_best_35 : decode cX0_best 35 = .ok (.invokevirtual 259, 3) := dk_182 1 3 (dk_at dksX0_best_1 11 rfl rfl)
theorem dX0_best_38 : decode cX0_best 38 = .ok (.iload_n 2, 1) := dk_28 (dk_at dksX0_best_1 14 rfl rfl)
theorem dX0_best_39 : decode cX0_best 39 = .ok (.tableswitch 40 0 2 #[25, 30, 35], 25) := by decide +kernel
theorem dX0_best_64 : decode cX0_best 64 = .ok (.aload_n 0, 1) := dk_42 (dk_at dksX0_best_3 0 rfl rfl)
theorem dX0_best_65 : decode cX0_best 65 = .ok (.getfield 236, 3) := dk_180 0 236 (dk_at dksX0_best_3 1 rfl rfl)
theorem dX0_best_68 : decode cX0_best 68 = .ok (.ireturn, 1) := dk_172 (dk_at dksX0_best_3 4 rfl rfl)
theorem dX0_best_69 : decode cX0_best 69 = .ok (.aload_n 0, 1) := dk_42 (dk_at dksX0_best_3 5 rfl rfl)
theorem dX0_best_70 : decode cX0_best 70 = .ok (.getfield 239, 3) := dk_180 0 239 (dk_at dksX0_best_3 6 rfl rfl)
theorem dX0_best_73 : decode cX0_best 73 = .ok (.ireturn, 1) := dk_172 (dk_at dksX0_best_3 9 rfl rfl)
theorem dX0_best_74 : decode cX0_best 74 = .ok (.aload_n 0, 1) := dk_42 (dk_at dksX0_best_3 10 rfl rfl)
theorem dX0_best_75 : decode cX0_best 75 = .ok (.getfield 242, 3) := dk_180 0 242 (dk_at dksX0_best_3 11 rfl rfl)
theorem dX0_best_78 : decode cX0_best 78 = .ok (.ireturn, 1) := dk_172 (dk_at dksX0_best_3 14 rfl rfl)
theorem dX0_best_79 : decode cX0_best 79 = .ok (.iload_n 2, 1) := dk_28 (dk_at dksX0_best_3 15 rfl rfl)
theorem dX0_best_80 : decode cX0_best 80 = .ok (.bipush 10, 2) := dk_16 10 (dk_at dksX0_best_3 16 rfl rfl)
theorem dX0_best_82 : decode cX0_best 82 = .ok (.isub, 1) := dk_100 (dk_at dksX0_best_3 18 rfl rfl)
theorem dX0_best_83 : decode cX0_best 83 = .ok (.aload_n 0, 1) := dk_42 (dk_at dksX0_best_3 19 rfl rfl)
theorem dX0_best_84 : decode cX0_best 84 = .ok (.getfield 239, 3) := dk_180 0 239 (dk_at dksX0_best_3 20 rfl rfl)
theorem dX0_best_87 : decode cX0_best 87 = .ok (.if_icmp .ge 19, 3) := dk_162 0 19 (dk_at dksX0_best_4 0 rfl rfl)
theorem dX0_best_90 : decode cX0_best 90 = .ok (.aload_n 0, 1) := dk_42 (dk_at dksX0_best_4 3 rfl rfl)
theorem dX0_best_91 : decode cX0_best 91 = .ok (.aload_n 0, 1) := dk_42 (dk_at dksX0_best_4 4 rfl rfl)
theorem dX0_best_92 : decode cX0_best 92 = .ok (.getfield 103, 3) := dk_180 0 103 (dk_at dksX0_best_4 5 rfl rfl)
theorem dX0_best_95 : decode cX0_best 95 = .ok (.iload_n 2, 1) := dk_28 (dk_at dksX0_best_4 8 rfl rfl)
theorem dX0_best_96 : decode cX0_best 96 = .ok (.bipush 10, 2) := dk_16 10 (dk_at dksX0_best_4 9 rfl rfl)
theorem dX0_best_98 : decode cX0_best 98 = .ok (.isub, 1) := dk_100 (dk_at dksX0_best_4 11 rfl rfl)
theorem dX0_best_99 : decode cX0_best 99 = .ok (.iaload, 1) := dk_46 (dk_at dksX0_best_4 12 rfl rfl)
theorem dX0_best_100 : decode cX0_best 100 = .ok (.invokevirtual 263, 3) := dk_182 1 7 (dk_at dksX0_best_4 13 rfl rfl)
theorem dX0_best_103 : decode cX0_best 103 = .ok (.goto 5, 3) := dk_167 0 5 (dk_at dksX0_best_4 16 rfl rfl)
theorem dX0_best_106 : decode cX0_best 106 = .ok (.bipush (-4), 2) := dk_16 252 (dk_at dksX0_best_4 19 rfl rfl)
theorem dX0_best_108 : decode cX0_best 108 = .ok (.ireturn, 1) := dk_172 (dk_at dksX0_best_4 21 rfl rfl)
abbrev cX0_isRowPart : ByteArray := prog_1_method_14_code
def yX0_isRowPart : MethodName := ⟨RX0, "isRowPart", "(I)Z"⟩
def dkwX0_isRowPart_0 : List UInt8 := [26, 133, 20, 0, 166, 20, 0, 168, 184, 0, 122, 172]
abbrev dktX0_isRowPart_0 : List UInt8 := dkwX0_isRowPart_0 ++ []
theorem dksX0_isRowPart_0 : cX0_isRowPart.data.toList.drop 0 = dktX0_isRowPart_0 := by decide +kernel
theorem dX0_isRowPart_0 : decode cX0_isRowPart 0 = .ok (.iload_n 0, 1) := dk_26 (dk_at dksX0_isRowPart_0 0 rfl rfl)
theorem dX0_isRowPart_1 : decode cX0_isRowPart 1 = .ok (.i2l, 1) := dk_133 (dk_at dksX0_isRowPart_0 1 rfl rfl)
theorem dX0_isRowPart_2 : decode cX0_isRowPart 2 = .ok (.ldc2_w 166, 3) := dk_20 0 166 (dk_at dksX0_isRowPart_0 2 rfl rfl)
theorem dX0_isRowPart_5 : decode cX0_isRowPart 5 = .ok (.ldc2_w 168, 3) := dk_20 0 168 (dk_at dksX0_isRowPart_0 5 rfl rfl)
theorem dX0_isRowPart_8 : decode cX0_isRowPart 8 = .ok (.invokestatic 122, 3) := dk_184 0 122 (dk_at dksX0_isRowPart_0 8 rfl rfl)
theorem dX0_isRowPart_11 : decode cX0_isRowPart 11 = .ok (.ireturn, 1) := dk_172 (dk_at dksX0_isRowPart_0 11 rfl rfl)
abbrev cX0_findBest : ByteArray := prog_1_method_40_code
def yX0_findBest : MethodName := ⟨RX0, "findBest", "(I)V"⟩
def dkwX0_findBest_4 : List UInt8 := [5, 28, 29, 182, 0, 245, 132, 3, 1, 167, 255, 213, 132, 2, 1, 167, 255, 166, 177]
abbrev dktX0_findBest_4 : List UInt8 := dkwX0_findBest_4 ++ []
def dkwX0_findBest_3 : List UInt8 := [164, 0, 36, 42, 42, 180, 0, 87, 42, 180, 0, 90, 29, 182, 0, 252, 153, 0, 14, 42, 42, 180, 0, 87]
abbrev dktX0_findBest_3 : List UInt8 := dkwX0_findBest_3 ++ dktX0_findBest_4
def dkwX0_findBest_2 : List UInt8 := [42, 180, 0, 90, 4, 28, 3, 182, 0, 245, 3, 62, 29, 42, 182, 0, 249, 162, 0, 41, 27, 4]
abbrev dktX0_findBest_2 : List UInt8 := dkwX0_findBest_2 ++ dktX0_findBest_3
def dkwX0_findBest_1 : List UInt8 := [162, 0, 88, 27, 158, 0, 84, 42, 42, 180, 0, 90, 42, 180, 0, 83, 28, 182, 0, 252, 153, 0, 62, 42]
abbrev dktX0_findBest_1 : List UInt8 := dkwX0_findBest_1 ++ dktX0_findBest_2
def dkwX0_findBest_0 : List UInt8 := [42, 2, 181, 0, 236, 42, 42, 180, 0, 83, 3, 3, 3, 182, 0, 245, 3, 61, 28, 42, 182, 0, 249]
abbrev dktX0_findBest_0 : List UInt8 := dkwX0_findBest_0 ++ dktX0_findBest_1
theorem dksX0_findBest_0 : cX0_findBest.data.toList.drop 0 = dktX0_findBest_0 := by decide +kernel
theorem dksX0_findBest_1 : cX0_findBest.data.toList.drop 23 = dktX0_findBest_1 := dk_seg dksX0_findBest_0 23 rfl rfl
theorem dksX0_findBest_2 : cX0_findBest.data.toList.drop 47 = dktX0_findBest_2 := dk_seg dksX0_findBest_1 24 rfl rfl
theorem dksX0_findBest_3 : cX0_findBest.data.toList.drop 69 = dktX0_findBest_3 := dk_seg dksX0_findBest_2 22 rfl rfl
theorem dksX0_findBest_4 : cX0_findBest.data.toList.drop 93 = dktX0_findBest_4 := dk_seg dksX0_findBest_3 24 rfl rfl
theorem dX0_findBest_0 : decode cX0_findBest 0 = .ok (.aload_n 0, 1) := dk_42 (dk_at dksX0_findBest_0 0 rfl rfl)
theorem dX0_findBest_1 : decode cX0_findBest 1 = .ok (.iconst (-1), 1) := dk_2 (dk_at dksX0_findBest_0 1 rfl rfl)
theorem dX0_findBest_2 : decode cX0_findBest 2 = .ok (.putfield 236, 3) := dk_181 0 236 (dk_at dksX0_findBest_0 2 rfl rfl)
theorem dX0_findBest_5 : decode cX0_findBest 5 = .ok (.aload_n 0, 1) := dk_42 (dk_at dksX0_findBest_0 5 rfl rfl)
theorem dX0_findBest_6 : decode cX0_findBest 6 = .ok (.aload_n 0, 1) := dk_42 (dk_at dksX0_findBest_0 6 rfl rfl)
theorem dX0_findBest_7 : decode cX0_findBest 7 = .ok (.getfield 83, 3) := dk_180 0 83 (dk_at dksX0_findBest_0 7 rfl rfl)
theorem dX0_findBest_10 : decode cX0_findBest 10 = .ok (.iconst 0, 1) := dk_3 (dk_at dksX0_findBest_0 10 rfl rfl)
theorem dX0_findBest_11 : decode cX0_findBest 11 = .ok (.iconst 0, 1) := dk_3 (dk_at dksX0_findBest_0 11 rfl rfl)
theorem dX0_findBest_12 : decode cX0_findBest 12 = .ok (.iconst 0, 1) := dk_3 (dk_at dksX0_findBest_0 12 rfl rfl)
theorem dX0_findBest_13 : decode cX0_findBest 13 = .ok (.invokevirtual 245, 3) := dk_182 0 245 (dk_at dksX0_findBest_0 13 rfl rfl)
theorem dX0_findBest_16 : decode cX0_findBest 16 = .ok (.iconst 0, 1) := dk_3 (dk_at dksX0_findBest_0 16 rfl rfl)
theorem dX0_findBest_17 : decode cX0_findBest 17 = .ok (.istore_n 2, 1) := dk_61 (dk_at dksX0_findBest_0 17 rfl rfl)
theorem dX0_findBest_18 : decode cX0_findBest 18 = .ok (.iload_n 2, 1) := dk_28 (dk_at dksX0_findBest_0 18 rfl rfl)
theorem dX0_findBest_19 : decode cX0_findBest 19 = .ok (.aload_n 0, 1) := dk_42 (dk_at dksX0_findBest_0 19 rfl rfl)
theorem dX0_findBest_20 : decode cX0_findBest 20 = .ok (.invokevirtual 249, 3) := dk_182 0 249 (dk_at dksX0_findBest_0 20 rfl rfl)
theorem dX0_findBest_23 : decode cX0_findBest 23 = .ok (.if_icmp .ge 88, 3) := dk_162 0 88 (dk_at dksX0_findBest_1 0 rfl rfl)
theorem dX0_findBest_26 : decode cX0_findBest 26 = .ok (.iload_n 1, 1) := dk_27 (dk_at dksX0_findBest_1 3 rfl rfl)
theorem dX0_findBest_27 : decode cX0_findBest 27 = .ok (.ifCond .le 84, 3) := dk_158 0 84 (dk_at dksX0_findBest_1 4 rfl rfl)
theorem dX0_findBest_30 : decode cX0_findBest 30 = .ok (.aload_n 0, 1) := dk_42 (dk_at dksX0_findBest_1 7 rfl rfl)
theorem dX0_findBest_31 : decode cX0_findBest 31 = .ok (.aload_n 0, 1) := dk_42 (dk_at dksX0_findBest_1 8 rfl rfl)
theorem dX0_findBest_32 : decode cX0_findBest 32 = .ok (.getfield 90, 3) := dk_180 0 90 (dk_at dksX0_findBest_1 9 rfl rfl)
theorem dX0_findBest_35 : decode cX0_findBest 35 = .ok (.aload_n 0, 1) := dk_42 (dk_at dksX0_findBest_1 12 rfl rfl)
theorem dX0_findBest_36 : decode cX0_findBest 36 = .ok (.getfield 83, 3) := dk_180 0 83 (dk_at dksX0_findBest_1 13 rfl rfl)
theorem dX0_findBest_39 : decode cX0_findBest 39 = .ok (.iload_n 2, 1) := dk_28 (dk_at dksX0_findBest_1 16 rfl rfl)
theorem dX0_findBest_40 : decode cX0_findBest 40 = .ok (.invokevirtual 252, 3) := dk_182 0 252 (dk_at dksX0_findBest_1 17 rfl rfl)
theorem dX0_findBest_43 : decode cX0_findBest 43 = .ok (.ifCond .eq 62, 3) := dk_153 0 62 (dk_at dksX0_findBest_1 20 rfl rfl)
theorem dX0_findBest_46 : decode cX0_findBest 46 = .ok (.aload_n 0, 1) := dk_42 (dk_at dksX0_findBest_1 23 rfl rfl)
theorem dX0_findBest_47 : decode cX0_findBest 47 = .ok (.aload_n 0, 1) := dk_42 (dk_at dksX0_findBest_2 0 rfl rfl)
theorem dX0_findBest_48 : decode cX0_findBest 48 = .ok (.getfield 90, 3) := dk_180 0 90 (dk_at dksX0_findBest_2 1 rfl rfl)
theorem dX0_findBest_51 : decode cX0_findBest 51 = .ok (.iconst 1, 1) := dk_4 (dk_at dksX0_findBest_2 4 rfl rfl)
theorem dX0_findBest_52 : decode cX0_findBest 52 = .ok (.iload_n 2, 1) := dk_28 (dk_at dksX0_findBest_2 5 rfl rfl)
theorem dX0_findBest_53 : decode cX0_findBest 53 = .ok (.iconst 0, 1) := dk_3 (dk_at dksX0_findBest_2 6 rfl rfl)
theorem dX0_findBest_54 : decode cX0_findBest 54 = .ok (.invokevirtual 245, 3) := dk_182 0 245 (dk_at dksX0_findBest_2 7 rfl rfl)
theorem dX0_findBest_57 : decode cX0_findBest 57 = .ok (.iconst 0, 1) := dk_3 (dk_at dksX0_findBest_2 10 rfl rfl)
theorem dX0_findBest_58 : decode cX0_findBest 58 = .ok (.istore_n 3, 1) := dk_62 (dk_at dksX0_findBest_2 11 rfl rfl)
theorem dX0_findBest_59 : decode cX0_findBest 59 = .ok (.iload_n 3, 1) := dk_29 (dk_at dksX0_findBest_2 12 rfl rfl)
theorem dX0_findBest_60 : decode cX0_findBest 60 = .ok (.aload_n 0, 1) := dk_42 (dk_at dksX0_findBest_2 13 rfl rfl)
theorem dX0_findBest_61 : decode cX0_findBest 61 = .ok (.invokevirtual 249, 3) := dk_182 0 249 (dk_at dksX0_findBest_2 14 rfl rfl)
theorem dX0_findBest_64 : decode cX0_findBest 64 = .ok (.if_icmp .ge 41, 3) := dk_162 0 41 (dk_at dksX0_findBest_2 17 rfl rfl)
theorem dX0_findBest_67 : decode cX0_findBest 67 = .ok (.iload_n 1, 1) := dk_27 (dk_at dksX0_findBest_2 20 rfl rfl)
theorem dX0_findBest_68 : decode cX0_findBest 68 = .ok (.iconst 1, 1) := dk_4 (dk_at dksX0_findBest_2 21 rfl rfl)
theorem dX0_findBest_69 : decode cX0_findBest 69 = .ok (.if_icmp .le 36, 3) := dk_164 0 36 (dk_at dksX0_findBest_3 0 rfl rfl)
theorem dX0_findBest_72 : decode cX0_findBest 72 = .ok (.aload_n 0, 1) := dk_42 (dk_at dksX0_findBest_3 3 rfl rfl)
theorem dX0_findBest_73 : decode cX0_findBest 73 = .ok (.aload_n 0, 1) := dk_42 (dk_at dksX0_findBest_3 4 rfl rfl)
theorem dX0_findBest_74 : decode cX0_findBest 74 = .ok (.getfield 87, 3) := dk_180 0 87 (dk_at dksX0_findBest_3 5 rfl rfl)
theorem dX0_findBest_77 : decode cX0_findBest 77 = .ok (.aload_n 0, 1) := dk_42 (dk_at dksX0_findBest_3 8 rfl rfl)
theorem dX0_findBest_78 : decode cX0_findBest 78 = .ok (.getfield 90, 3) := dk_180 0 90 (dk_at dksX0_findBest_3 9 rfl rfl)
theorem dX0_findBest_81 : decode cX0_findBest 81 = .ok (.iload_n 3, 1) := dk_29 (dk_at dksX0_findBest_3 12 rfl rfl)
theorem dX0_findBest_82 : decode cX0_findBest 82 = .ok (.invokevirtual 252, 3) := dk_182 0 252 (dk_at dksX0_findBest_3 13 rfl rfl)
theorem dX0_findBest_85 : decode cX0_findBest 85 = .ok (.ifCond .eq 14, 3) := dk_153 0 14 (dk_at dksX0_findBest_3 16 rfl rfl)
theorem dX0_findBest_88 : decode cX0_findBest 88 = .ok (.aload_n 0, 1) := dk_42 (dk_at dksX0_findBest_3 19 rfl rfl)
theorem dX0_findBest_89 : decode cX0_findBest 89 = .ok (.aload_n 0, 1) := dk_42 (dk_at dksX0_findBest_3 20 rfl rfl)
theorem dX0_findBest_90 : decode cX0_findBest 90 = .ok (.getfield 87, 3) := dk_180 0 87 (dk_at dksX0_findBest_3 21 rfl rfl)
theorem dX0_findBest_93 : decode cX0_findBest 93 = .ok (.iconst 2, 1) := dk_5 (dk_at dksX0_findBest_4 0 rfl rfl)
theorem dX0_findBest_94 : decode cX0_findBest 94 = .ok (.iload_n 2, 1) := dk_28 (dk_at dksX0_findBest_4 1 rfl rfl)
theorem dX0_findBest_95 : decode cX0_findBest 95 = .ok (.iload_n 3, 1) := dk_29 (dk_at dksX0_findBest_4 2 rfl rfl)
theorem dX0_findBest_96 : decode cX0_findBest 96 = .ok (.invokevirtual 245, 3) := dk_182 0 245 (dk_at dksX0_findBest_4 3 rfl rfl)
theorem dX0_findBest_99 : decode cX0_findBest 99 = .ok (.iinc 3 1, 3) := dk_132 3 1 (dk_at dksX0_findBest_4 6 rfl rfl)
theorem dX0_findBest_102 : decode cX0_findBest 102 = .ok (.goto (-43), 3) := dk_167 255 213 (dk_at dksX0_findBest_4 9 rfl rfl)
theorem dX0_findBest_105 : decode cX0_findBest 105 = .ok (.iinc 2 1, 3) := dk_132 2 1 (dk_at dksX0_findBest_4 12 rfl rfl)
theorem dX0_findBest_108 : decode cX0_findBest 108 = .ok (.goto (-90), 3) := dk_167 255 166 (dk_at dksX0_findBest_4 15 rfl rfl)
theorem dX0_findBest_111 : decode cX0_findBest 111 = .ok (.return_, 1) := dk_177 (dk_at dksX0_findBest_4 18 rfl rfl)
abbrev cX0_judges : ByteArray := prog_1_method_39_code
def yX0_judges : MethodName := ⟨RX0, "judges", "(LClockWard$Ward;III)V"⟩
def dkwX0_judges_4 : List UInt8 := [181, 0, 242, 42, 180, 0, 103, 3, 29, 79, 42, 180, 0, 103, 4, 21, 4, 79, 177]
abbrev dktX0_judges_4 : List UInt8 := dkwX0_judges_4 ++ []
def dkwX0_judges_3 : List UInt8 := [3, 54, 7, 21, 7, 153, 0, 35, 42, 21, 5, 181, 0, 236, 42, 28, 181, 0, 239, 42, 21, 6]
abbrev dktX0_judges_3 : List UInt8 := dkwX0_judges_3 ++ dktX0_judges_4
def dkwX0_judges_2 : List UInt8 := [161, 0, 20, 28, 42, 180, 0, 239, 160, 0, 16, 21, 6, 42, 180, 0, 242, 162, 0, 7, 4, 167, 0, 4]
abbrev dktX0_judges_2 : List UInt8 := dkwX0_judges_2 ++ dktX0_judges_3
def dkwX0_judges_1 : List UInt8 := [21, 5, 42, 180, 0, 236, 163, 0, 37, 21, 5, 42, 180, 0, 236, 160, 0, 32, 28, 42, 180, 0, 239]
abbrev dktX0_judges_1 : List UInt8 := dkwX0_judges_1 ++ dktX0_judges_2
def dkwX0_judges_0 : List UInt8 := [43, 182, 0, 173, 184, 0, 218, 54, 5, 43, 180, 0, 179, 42, 180, 0, 83, 180, 0, 179, 100, 54, 6]
abbrev dktX0_judges_0 : List UInt8 := dkwX0_judges_0 ++ dktX0_judges_1
theorem dksX0_judges_0 : cX0_judges.data.toList.drop 0 = dktX0_judges_0 := by decide +kernel
theorem dksX0_judges_1 : cX0_judges.data.toList.drop 23 = dktX0_judges_1 := dk_seg dksX0_judges_0 23 rfl rfl
theorem dksX0_judges_2 : cX0_judges.data.toList.drop 46 = dktX0_judges_2 := dk_seg dksX0_judges_1 23 rfl rfl
theorem dksX0_judges_3 : cX0_judges.data.toList.drop 70 = dktX0_judges_3 := dk_seg dksX0_judges_2 24 rfl rfl
theorem dksX0_judges_4 : cX0_judges.data.toList.drop 92 = dktX0_judges_4 := dk_seg dksX0_judges_3 22 rfl rfl
theorem dX0_judges_0 : decode cX0_judges 0 = .ok (.aload_n 1, 1) := dk_43 (dk_at dksX0_judges_0 0 rfl rfl)
theorem dX0_judges_1 : decode cX0_judges 1 = .ok (.invokevirtual 173, 3) := dk_182 0 173 (dk_at dksX0_judges_0 1 rfl rfl)
theorem dX0_judges_4 : decode cX0_judges 4 = .ok (.invokestatic 218, 3) := dk_184 0 218 (dk_at dksX0_judges_0 4 rfl rfl)
theorem dX0_judges_7 : decode cX0_judges 7 = .ok (.istore 5, 2) := dk_54 5 (dk_at dksX0_judges_0 7 rfl rfl)
theorem dX0_judges_9 : decode cX0_judges 9 = .ok (.aload_n 1, 1) := dk_43 (dk_at dksX0_judges_0 9 rfl rfl)
theorem dX0_judges_10 : decode cX0_judges 10 = .ok (.getfield 179, 3) := dk_180 0 179 (dk_at dksX0_judges_0 10 rfl rfl)
theorem dX0_judges_13 : decode cX0_judges 13 = .ok (.aload_n 0, 1) := dk_42 (dk_at dksX0_judges_0 13 rfl rfl)
theorem dX0_judges_14 : decode cX0_judges 14 = .ok (.getfield 83, 3) := dk_180 0 83 (dk_at dksX0_judges_0 14 rfl rfl)
theorem dX0_judges_17 : decode cX0_judges 17 = .ok (.getfield 179, 3) := dk_180 0 179 (dk_at dksX0_judges_0 17 rfl rfl)
theorem dX0_judges_20 : decode cX0_judges 20 = .ok (.isub, 1) := dk_100 (dk_at dksX0_judges_0 20 rfl rfl)
theorem dX0_judges_21 : decode cX0_judges 21 = .ok (.istore 6, 2) := dk_54 6 (dk_at dksX0_judges_0 21 rfl rfl)
theorem dX0_judges_23 : decode cX0_judges 23 = .ok (.iload 5, 2) := dk_21 5 (dk_at dksX0_judges_1 0 rfl rfl)
theorem dX0_judges_25 : decode cX0_judges 25 = .ok (.aload_n 0, 1) := dk_42 (dk_at dksX0_judges_1 2 rfl rfl)
theorem dX0_judges_26 : decode cX0_judges 26 = .ok (.getfield 236, 3) := dk_180 0 236 (dk_at dksX0_judges_1 3 rfl rfl)
theorem dX0_judges_29 : decode cX0_judges 29 = .ok (.if_icmp .gt 37, 3) := dk_163 0 37 (dk_at dksX0_judges_1 6 rfl rfl)
theorem dX0_judges_32 : decode cX0_judges 32 = .ok (.iload 5, 2) := dk_21 5 (dk_at dksX0_judges_1 9 rfl rfl)
theorem dX0_judges_34 : decode cX0_judges 34 = .ok (.aload_n 0, 1) := dk_42 (dk_at dksX0_judges_1 11 rfl rfl)
theorem dX0_judges_35 : decode cX0_judges 35 = .ok (.getfield 236, 3) := dk_180 0 236 (dk_at dksX0_judges_1 12 rfl rfl)
theorem dX0_judges_38 : decode cX0_judges 38 = .ok (.if_icmp .ne 32, 3) := dk_160 0 32 (dk_at dksX0_judges_1 15 rfl rfl)
theorem dX0_judges_41 : decode cX0_judges 41 = .ok (.iload_n 2, 1) := dk_28 (dk_at dksX0_judges_1 18 rfl rfl)
theorem dX0_judges_42 : decode cX0_judges 42 = .ok (.aload_n 0, 1) := dk_42 (dk_at dksX0_judges_1 19 rfl rfl)
theorem dX0_judges_43 : decode cX0_judges 43 = .ok (.getfield 239, 3) := dk_180 0 239 (dk_at dksX0_judges_1 20 rfl rfl)
theorem dX0_judges_46 : decode cX0_judges 46 = .ok (.if_icmp .lt 20, 3) := dk_161 0 20 (dk_at dksX0_judges_2 0 rfl rfl)
theorem dX0_judges_49 : decode cX0_judges 49 = .ok (.iload_n 2, 1) := dk_28 (dk_at dksX0_judges_2 3 rfl rfl)
theorem dX0_judges_50 : decode cX0_judges 50 = .ok (.aload_n 0, 1) := dk_42 (dk_at dksX0_judges_2 4 rfl rfl)
theorem dX0_judges_51 : decode cX0_judges 51 = .ok (.getfield 239, 3) := dk_180 0 239 (dk_at dksX0_judges_2 5 rfl rfl)
theorem dX0_judges_54 : decode cX0_judges 54 = .ok (.if_icmp .ne 16, 3) := dk_160 0 16 (dk_at dksX0_judges_2 8 rfl rfl)
theorem dX0_judges_57 : decode cX0_judges 57 = .ok (.iload 6, 2) := dk_21 6 (dk_at dksX0_judges_2 11 rfl rfl)
theorem dX0_judges_59 : decode cX0_judges 59 = .ok (.aload_n 0, 1) := dk_42 (dk_at dksX0_judges_2 13 rfl rfl)
theorem dX0_judges_60 : decode cX0_judges 60 = .ok (.getfield 242, 3) := dk_180 0 242 (dk_at dksX0_judges_2 14 rfl rfl)
theorem dX0_judges_63 : decode cX0_judges 63 = .ok (.if_icmp .ge 7, 3) := dk_162 0 7 (dk_at dksX0_judges_2 17 rfl rfl)
theorem dX0_judges_66 : decode cX0_judges 66 = .ok (.iconst 1, 1) := dk_4 (dk_at dksX0_judges_2 20 rfl rfl)
theorem dX0_judges_67 : decode cX0_judges 67 = .ok (.goto 4, 3) := dk_167 0 4 (dk_at dksX0_judges_2 21 rfl rfl)
theorem dX0_judges_70 : decode cX0_judges 70 = .ok (.iconst 0, 1) := dk_3 (dk_at dksX0_judges_3 0 rfl rfl)
theorem dX0_judges_71 : decode cX0_judges 71 = .ok (.istore 7, 2) := dk_54 7 (dk_at dksX0_judges_3 1 rfl rfl)
theorem dX0_judges_73 : decode cX0_judges 73 = .ok (.iload 7, 2) := dk_21 7 (dk_at dksX0_judges_3 3 rfl rfl)
theorem dX0_judges_75 : decode cX0_judges 75 = .ok (.ifCond .eq 35, 3) := dk_153 0 35 (dk_at dksX0_judges_3 5 rfl rfl)
theorem dX0_judges_78 : decode cX0_judges 78 = .ok (.aload_n 0, 1) := dk_42 (dk_at dksX0_judges_3 8 rfl rfl)
theorem dX0_judges_79 : decode cX0_judges 79 = .ok (.iload 5, 2) := dk_21 5 (dk_at dksX0_judges_3 9 rfl rfl)
theorem dX0_judges_81 : decode cX0_judges 81 = .ok (.putfield 236, 3) := dk_181 0 236 (dk_at dksX0_judges_3 11 rfl rfl)
theorem dX0_judges_84 : decode cX0_judges 84 = .ok (.aload_n 0, 1) := dk_42 (dk_at dksX0_judges_3 14 rfl rfl)
theorem dX0_judges_85 : decode cX0_judges 85 = .ok (.iload_n 2, 1) := dk_28 (dk_at dksX0_judges_3 15 rfl rfl)
theorem dX0_judges_86 : decode cX0_judges 86 = .ok (.putfield 239, 3) := dk_181 0 239 (dk_at dksX0_judges_3 16 rfl rfl)
theorem dX0_judges_89 : decode cX0_judges 89 = .ok (.aload_n 0, 1) := dk_42 (dk_at dksX0_judges_3 19 rfl rfl)
theorem dX0_judges_90 : decode cX0_judges 90 = .ok (.iload 6, 2) := dk_21 6 (dk_at dksX0_judges_3 20 rfl rfl)
theorem dX0_judges_92 : decode cX0_judges 92 = .ok (.putfield 242, 3) := dk_181 0 242 (dk_at dksX0_judges_4 0 rfl rfl)
theorem dX0_judges_95 : decode cX0_judges 95 = .ok (.aload_n 0, 1) := dk_42 (dk_at dksX0_judges_4 3 rfl rfl)
theorem dX0_judges_96 : decode cX0_judges 96 = .ok (.getfield 103, 3) := dk_180 0 103 (dk_at dksX0_judges_4 4 rfl rfl)
theorem dX0_judges_99 : decode cX0_judges 99 = .ok (.iconst 0, 1) := dk_3 (dk_at dksX0_judges_4 7 rfl rfl)
theorem dX0_judges_100 : decode cX0_judges 100 = .ok (.iload_n 3, 1) := dk_29 (dk_at dksX0_judges_4 8 rfl rfl)
theorem dX0_judges_101 : decode cX0_judges 101 = .ok (.iastore, 1) := dk_79 (dk_at dksX0_judges_4 9 rfl rfl)
theorem dX0_judges_102 : decode cX0_judges 102 = .ok (.aload_n 0, 1) := dk_42 (dk_at dksX0_judges_4 10 rfl rfl)
theorem dX0_judges_103 : decode cX0_judges 103 = .ok (.getfield 103, 3) := dk_180 0 103 (dk_at dksX0_judges_4 11 rfl rfl)
theorem dX0_judges_106 : decode cX0_judges 106 = .ok (.iconst 1, 1) := dk_4 (dk_at dksX0_judges_4 14 rfl rfl)
theorem dX0_judges_107 : decode cX0_judges 107 = .ok (.iload 4, 2) := dk_21 4 (dk_at dksX0_judges_4 15 rfl rfl)
theorem dX0_judges_109 : decode cX0_judges 109 = .ok (.iastore, 1) := dk_79 (dk_at dksX0_judges_4 17 rfl rfl)
theorem dX0_judges_110 : decode cX0_judges 110 = .ok (.return_, 1) := dk_177 (dk_at dksX0_judges_4 18 rfl rfl)
abbrev cX0_giftsMany : ByteArray := prog_1_method_34_code
def yX0_giftsMany : MethodName := ⟨RX0, "giftsMany", "()I"⟩
def dkwX0_giftsMany_0 : List UInt8 := [42, 180, 0, 83, 180, 0, 27, 42, 180, 0, 83, 180, 0, 27, 104, 16, 9, 104, 172]
abbrev dktX0_giftsMany_0 : List UInt8 := dkwX0_giftsMany_0 ++ []
theorem dksX0_giftsMany_0 : cX0_giftsMany.data.toList.drop 0 = dktX0_giftsMany_0 := by decide +kernel
theorem dX0_giftsMany_0 : decode cX0_giftsMany 0 = .ok (.aload_n 0, 1) := dk_42 (dk_at dksX0_giftsMany_0 0 rfl rfl)
theorem dX0_giftsMany_1 : decode cX0_giftsMany 1 = .ok (.getfield 83, 3) := dk_180 0 83 (dk_at dksX0_giftsMany_0 1 rfl rfl)
theorem dX0_giftsMany_4 : decode cX0_giftsMany 4 = .ok (.getfield 27, 3) := dk_180 0 27 (dk_at dksX0_giftsMany_0 4 rfl rfl)
theorem dX0_giftsMany_7 : decode cX0_giftsMany 7 = .ok (.aload_n 0, 1) := dk_42 (dk_at dksX0_giftsMany_0 7 rfl rfl)
theorem dX0_giftsMany_8 : decode cX0_giftsMany 8 = .ok (.getfield 83, 3) := dk_180 0 83 (dk_at dksX0_giftsMany_0 8 rfl rfl)
theorem dX0_giftsMany_11 : decode cX0_giftsMany 11 = .ok (.getfield 27, 3) := dk_180 0 27 (dk_at dksX0_giftsMany_0 11 rfl rfl)
theorem dX0_giftsMany_14 : decode cX0_giftsMany 14 = .ok (.imul, 1) := dk_104 (dk_at dksX0_giftsMany_0 14 rfl rfl)
theorem dX0_giftsMany_15 : decode cX0_giftsMany 15 = .ok (.bipush 9, 2) := dk_16 9 (dk_at dksX0_giftsMany_0 15 rfl rfl)
theorem dX0_giftsMany_17 : decode cX0_giftsMany 17 = .ok (.imul, 1) := dk_104 (dk_at dksX0_giftsMany_0 17 rfl rfl)
theorem dX0_giftsMany_18 : decode cX0_giftsMany 18 = .ok (.ireturn, 1) := dk_172 (dk_at dksX0_giftsMany_0 18 rfl rfl)
abbrev cX0_comes : ByteArray := prog_1_method_38_code
def yX0_comes : MethodName := ⟨RX0, "comes", "(LClockWard$Ward;LClockWard$Ward;I)Z"⟩
def dkwX0_comes_2 : List UInt8 := [43, 44, 182, 0, 144, 43, 21, 4, 21, 5, 29, 184, 0, 233, 182, 0, 63, 21, 6, 172]
abbrev dktX0_comes_2 : List UInt8 := dkwX0_comes_2 ++ []
def dkwX0_comes_1 : List UInt8 := [21, 5, 29, 184, 0, 233, 182, 0, 55, 153, 0, 7, 4, 167, 0, 4, 3, 54, 6, 21, 6, 153, 0, 20]
abbrev dktX0_comes_1 : List UInt8 := dkwX0_comes_1 ++ dktX0_comes_2
def dkwX0_comes_0 : List UInt8 := [42, 29, 182, 0, 227, 54, 4, 42, 29, 182, 0, 230, 54, 5, 21, 4, 21, 5, 159, 0, 22, 44, 21, 4]
abbrev dktX0_comes_0 : List UInt8 := dkwX0_comes_0 ++ dktX0_comes_1
theorem dksX0_comes_0 : cX0_comes.data.toList.drop 0 = dktX0_comes_0 := by decide +kernel
theorem dksX0_comes_1 : cX0_comes.data.toList.drop 24 = dktX0_comes_1 := dk_seg dksX0_comes_0 24 rfl rfl
theorem dksX0_comes_2 : cX0_comes.data.toList.drop 48 = dktX0_comes_2 := dk_seg dksX0_comes_1 24 rfl rfl
theorem dX0_comes_0 : decode cX0_comes 0 = .ok (.aload_n 0, 1) := dk_42 (dk_at dksX0_comes_0 0 rfl rfl)
theorem dX0_comes_1 : decode cX0_comes 1 = .ok (.iload_n 3, 1) := dk_29 (dk_at dksX0_comes_0 1 rfl rfl)
theorem dX0_comes_2 : decode cX0_comes 2 = .ok (.invokevirtual 227, 3) := dk_182 0 227 (dk_at dksX0_comes_0 2 rfl rfl)
theorem dX0_comes_5 : decode cX0_comes 5 = .ok (.istore 4, 2) := dk_54 4 (dk_at dksX0_comes_0 5 rfl rfl)
theorem dX0_comes_7 : decode cX0_comes 7 = .ok (.aload_n 0, 1) := dk_42 (dk_at dksX0_comes_0 7 rfl rfl)
theorem dX0_comes_8 : decode cX0_comes 8 = .ok (.iload_n 3, 1) := dk_29 (dk_at dksX0_comes_0 8 rfl rfl)
theorem dX0_comes_9 : decode cX0_comes 9 = .ok (.invokevirtual 230, 3) := dk_182 0 230 (dk_at dksX0_comes_0 9 rfl rfl)
theorem dX0_comes_12 : decode cX0_comes 12 = .ok (.istore 5, 2) := dk_54 5 (dk_at dksX0_comes_0 12 rfl rfl)
theorem dX0_comes_14 : decode cX0_comes 14 = .ok (.iload 4, 2) := dk_21 4 (dk_at dksX0_comes_0 14 rfl rfl)
theorem dX0_comes_16 : decode cX0_comes 16 = .ok (.iload 5, 2) := dk_21 5 (dk_at dksX0_comes_0 16 rfl rfl)
theorem dX0_comes_18 : decode cX0_comes 18 = .ok (.if_icmp .eq 22, 3) := dk_159 0 22 (dk_at dksX0_comes_0 18 rfl rfl)
theorem dX0_comes_21 : decode cX0_comes 21 = .ok (.aload_n 2, 1) := dk_44 (dk_at dksX0_comes_0 21 rfl rfl)
theorem dX0_comes_22 : decode cX0_comes 22 = .ok (.iload 4, 2) := dk_21 4 (dk_at dksX0_comes_0 22 rfl rfl)
theorem dX0_comes_24 : decode cX0_comes 24 = .ok (.iload 5, 2) := dk_21 5 (dk_at dksX0_comes_1 0 rfl rfl)
theorem dX0_comes_26 : decode cX0_comes 26 = .ok (.iload_n 3, 1) := dk_29 (dk_at dksX0_comes_1 2 rfl rfl)
theorem dX0_comes_27 : decode cX0_comes 27 = .ok (.invokestatic 233, 3) := dk_184 0 233 (dk_at dksX0_comes_1 3 rfl rfl)
theorem dX0_comes_30 : decode cX0_comes 30 = .ok (.invokevirtual 55, 3) := dk_182 0 55 (dk_at dksX0_comes_1 6 rfl rfl)
theorem dX0_comes_33 : decode cX0_comes 33 = .ok (.ifCond .eq 7, 3) := dk_153 0 7 (dk_at dksX0_comes_1 9 rfl rfl)
theorem dX0_comes_36 : decode cX0_comes 36 = .ok (.iconst 1, 1) := dk_4 (dk_at dksX0_comes_1 12 rfl rfl)
theorem dX0_comes_37 : decode cX0_comes 37 = .ok (.goto 4, 3) := dk_167 0 4 (dk_at dksX0_comes_1 13 rfl rfl)
theorem dX0_comes_40 : decode cX0_comes 40 = .ok (.iconst 0, 1) := dk_3 (dk_at dksX0_comes_1 16 rfl rfl)
theorem dX0_comes_41 : decode cX0_comes 41 = .ok (.istore 6, 2) := dk_54 6 (dk_at dksX0_comes_1 17 rfl rfl)
theorem dX0_comes_43 : decode cX0_comes 43 = .ok (.iload 6, 2) := dk_21 6 (dk_at dksX0_comes_1 19 rfl rfl)
theorem dX0_comes_45 : decode cX0_comes 45 = .ok (.ifCond .eq 20, 3) := dk_153 0 20 (dk_at dksX0_comes_1 21 rfl rfl)
theorem dX0_comes_48 : decode cX0_comes 48 = .ok (.aload_n 1, 1) := dk_43 (dk_at dksX0_comes_2 0 rfl rfl)
theorem dX0_comes_49 : decode cX0_comes 49 = .ok (.aload_n 2, 1) := dk_44 (dk_at dksX0_comes_2 1 rfl rfl)
theorem dX0_comes_50 : decode cX0_comes 50 = .ok (.invokevirtual 144, 3) := dk_182 0 144 (dk_at dksX0_comes_2 2 rfl rfl)
theorem dX0_comes_53 : decode cX0_comes 53 = .ok (.aload_n 1, 1) := dk_43 (dk_at dksX0_comes_2 5 rfl rfl)
theorem dX0_comes_54 : decode cX0_comes 54 = .ok (.iload 4, 2) := dk_21 4 (dk_at dksX0_comes_2 6 rfl rfl)
theorem dX0_comes_56 : decode cX0_comes 56 = .ok (.iload 5, 2) := dk_21 5 (dk_at dksX0_comes_2 8 rfl rfl)
theorem dX0_comes_58 : decode cX0_comes 58 = .ok (.iload_n 3, 1) := dk_29 (dk_at dksX0_comes_2 10 rfl rfl)
theorem dX0_comes_59 : decode cX0_comes 59 = .ok (.invokestatic 233, 3) := dk_184 0 233 (dk_at dksX0_comes_2 11 rfl rfl)
theorem dX0_comes_62 : decode cX0_comes 62 = .ok (.invokevirtual 63, 3) := dk_182 0 63 (dk_at dksX0_comes_2 14 rfl rfl)
theorem dX0_comes_65 : decode cX0_comes 65 = .ok (.iload 6, 2) := dk_21 6 (dk_at dksX0_comes_2 17 rfl rfl)
theorem dX0_comes_67 : decode cX0_comes 67 = .ok (.ireturn, 1) := dk_172 (dk_at dksX0_comes_2 19 rfl rfl)
abbrev cX0_giver : ByteArray := prog_1_method_35_code
def yX0_giver : MethodName := ⟨RX0, "giver", "(I)I"⟩
def dkwX0_giver_0 : List UInt8 := [27, 16, 9, 42, 180, 0, 83, 180, 0, 27, 104, 108, 172]
abbrev dktX0_giver_0 : List UInt8 := dkwX0_giver_0 ++ []
theorem dksX0_giver_0 : cX0_giver.data.toList.drop 0 = dktX0_giver_0 := by decide +kernel
theorem dX0_giver_0 : decode cX0_giver 0 = .ok (.iload_n 1, 1) := dk_27 (dk_at dksX0_giver_0 0 rfl rfl)
theorem dX0_giver_1 : decode cX0_giver 1 = .ok (.bipush 9, 2) := dk_16 9 (dk_at dksX0_giver_0 1 rfl rfl)
theorem dX0_giver_3 : decode cX0_giver 3 = .ok (.aload_n 0, 1) := dk_42 (dk_at dksX0_giver_0 3 rfl rfl)
theorem dX0_giver_4 : decode cX0_giver 4 = .ok (.getfield 83, 3) := dk_180 0 83 (dk_at dksX0_giver_0 4 rfl rfl)
theorem dX0_giver_7 : decode cX0_giver 7 = .ok (.getfield 27, 3) := dk_180 0 27 (dk_at dksX0_giver_0 7 rfl rfl)
theorem dX0_giver_10 : decode cX0_giver 10 = .ok (.imul, 1) := dk_104 (dk_at dksX0_giver_0 10 rfl rfl)
theorem dX0_giver_11 : decode cX0_giver 11 = .ok (.idiv, 1) := dk_108 (dk_at dksX0_giver_0 11 rfl rfl)
theorem dX0_giver_12 : decode cX0_giver 12 = .ok (.ireturn, 1) := dk_172 (dk_at dksX0_giver_0 12 rfl rfl)
abbrev cX0_taker : ByteArray := prog_1_method_36_code
def yX0_taker : MethodName := ⟨RX0, "taker", "(I)I"⟩
def dkwX0_taker_0 : List UInt8 := [27, 16, 9, 108, 42, 180, 0, 83, 180, 0, 27, 112, 172]
abbrev dktX0_taker_0 : List UInt8 := dkwX0_taker_0 ++ []
theorem dksX0_taker_0 : cX0_taker.data.toList.drop 0 = dktX0_taker_0 := by decide +kernel
theorem dX0_taker_0 : decode cX0_taker 0 = .ok (.iload_n 1, 1) := dk_27 (dk_at dksX0_taker_0 0 rfl rfl)
theorem dX0_taker_1 : decode cX0_taker 1 = .ok (.bipush 9, 2) := dk_16 9 (dk_at dksX0_taker_0 1 rfl rfl)
theorem dX0_taker_3 : decode cX0_taker 3 = .ok (.idiv, 1) := dk_108 (dk_at dksX0_taker_0 3 rfl rfl)
theorem dX0_taker_4 : decode cX0_taker 4 = .ok (.aload_n 0, 1) := dk_42 (dk_at dksX0_taker_0 4 rfl rfl)
theorem dX0_taker_5 : decode cX0_taker 5 = .ok (.getfield 83, 3) := dk_180 0 83 (dk_at dksX0_taker_0 5 rfl rfl)
theorem dX0_taker_8 : decode cX0_taker 8 = .ok (.getfield 27, 3) := dk_180 0 27 (dk_at dksX0_taker_0 8 rfl rfl)
theorem dX0_taker_11 : decode cX0_taker 11 = .ok (.irem, 1) := dk_112 (dk_at dksX0_taker_0 11 rfl rfl)
theorem dX0_taker_12 : decode cX0_taker 12 = .ok (.ireturn, 1) := dk_172 (dk_at dksX0_taker_0 12 rfl rfl)
abbrev cX0_minutes : ByteArray := prog_1_method_37_code
def yX0_minutes : MethodName := ⟨RX0, "minutes", "(I)I"⟩
def dkwX0_minutes_0 : List UInt8 := [4, 26, 16, 9, 112, 96, 172]
abbrev dktX0_minutes_0 : List UInt8 := dkwX0_minutes_0 ++ []
theorem dksX0_minutes_0 : cX0_minutes.data.toList.drop 0 = dktX0_minutes_0 := by decide +kernel
theorem dX0_minutes_0 : decode cX0_minutes 0 = .ok (.iconst 1, 1) := dk_4 (dk_at dksX0_minutes_0 0 rfl rfl)
theorem dX0_minutes_1 : decode cX0_minutes 1 = .ok (.iload_n 0, 1) := dk_26 (dk_at dksX0_minutes_0 1 rfl rfl)
theorem dX0_minutes_2 : decode cX0_minutes 2 = .ok (.bipush 9, 2) := dk_16 9 (dk_at dksX0_minutes_0 2 rfl rfl)
theorem dX0_minutes_4 : decode cX0_minutes 4 = .ok (.irem, 1) := dk_112 (dk_at dksX0_minutes_0 4 rfl rfl)
theorem dX0_minutes_5 : decode cX0_minutes 5 = .ok (.iadd, 1) := dk_96 (dk_at dksX0_minutes_0 5 rfl rfl)
theorem dX0_minutes_6 : decode cX0_minutes 6 = .ok (.ireturn, 1) := dk_172 (dk_at dksX0_minutes_0 6 rfl rfl)
abbrev cX0_told : ByteArray := prog_1_method_41_code
def yX0_told : MethodName := ⟨RX0, "told", "(I)I"⟩
def dkwX0_told_0 : List UInt8 := [16, 100, 42, 27, 182, 0, 227, 104, 16, 10, 42, 27, 182, 0, 230, 104, 96, 27, 184, 0, 233, 96, 172]
abbrev dktX0_told_0 : List UInt8 := dkwX0_told_0 ++ []
theorem dksX0_told_0 : cX0_told.data.toList.drop 0 = dktX0_told_0 := by decide +kernel
theorem dX0_told_0 : decode cX0_told 0 = .ok (.bipush 100, 2) := dk_16 100 (dk_at dksX0_told_0 0 rfl rfl)
theorem dX0_told_2 : decode cX0_told 2 = .ok (.aload_n 0, 1) := dk_42 (dk_at dksX0_told_0 2 rfl rfl)
theorem dX0_told_3 : decode cX0_told 3 = .ok (.iload_n 1, 1) := dk_27 (dk_at dksX0_told_0 3 rfl rfl)
theorem dX0_told_4 : decode cX0_told 4 = .ok (.invokevirtual 227, 3) := dk_182 0 227 (dk_at dksX0_told_0 4 rfl rfl)
theorem dX0_told_7 : decode cX0_told 7 = .ok (.imul, 1) := dk_104 (dk_at dksX0_told_0 7 rfl rfl)
theorem dX0_told_8 : decode cX0_told 8 = .ok (.bipush 10, 2) := dk_16 10 (dk_at dksX0_told_0 8 rfl rfl)
theorem dX0_told_10 : decode cX0_told 10 = .ok (.aload_n 0, 1) := dk_42 (dk_at dksX0_told_0 10 rfl rfl)
theorem dX0_told_11 : decode cX0_told 11 = .ok (.iload_n 1, 1) := dk_27 (dk_at dksX0_told_0 11 rfl rfl)
theorem dX0_told_12 : decode cX0_told 12 = .ok (.invokevirtual 230, 3) := dk_182 0 230 (dk_at dksX0_told_0 12 rfl rfl)
theorem dX0_told_15 : decode cX0_told 15 = .ok (.imul, 1) := dk_104 (dk_at dksX0_told_0 15 rfl rfl)
theorem dX0_told_16 : decode cX0_told 16 = .ok (.iadd, 1) := dk_96 (dk_at dksX0_told_0 16 rfl rfl)
theorem dX0_told_17 : decode cX0_told 17 = .ok (.iload_n 1, 1) := dk_27 (dk_at dksX0_told_0 17 rfl rfl)
theorem dX0_told_18 : decode cX0_told 18 = .ok (.invokestatic 233, 3) := dk_184 0 233 (dk_at dksX0_told_0 18 rfl rfl)
theorem dX0_told_21 : decode cX0_told 21 = .ok (.iadd, 1) := dk_96 (dk_at dksX0_told_0 21 rfl rfl)
theorem dX0_told_22 : decode cX0_told 22 = .ok (.ireturn, 1) := dk_172 (dk_at dksX0_told_0 22 rfl rfl)
abbrev cX0_cure : ByteArray := prog_1_method_45_code
def yX0_cure : MethodName := ⟨RX0, "cure", "(II)I"⟩
def dkwX0_cure_3 : List UInt8 := [16, 252, 172]
abbrev dktX0_cure_3 : List UInt8 := dkwX0_cure_3 ++ []
def dkwX0_cure_2 : List UInt8 := [16, 10, 100, 29, 162, 0, 19, 42, 42, 180, 0, 103, 28, 16, 10, 100, 46, 182, 1, 7, 167, 0, 5]
abbrev dktX0_cure_2 : List UInt8 := dkwX0_cure_2 ++ dktX0_cure_3
def dkwX0_cure_1 : List UInt8 := [182, 1, 14, 62, 29, 16, 252, 160, 0, 8, 16, 252, 167, 0, 37, 28, 154, 0, 7, 29, 167, 0, 29, 28]
abbrev dktX0_cure_1 : List UInt8 := dkwX0_cure_1 ++ dktX0_cure_2
def dkwX0_cure_0 : List UInt8 := [42, 27, 182, 0, 162, 153, 0, 14, 28, 153, 0, 12, 28, 184, 1, 0, 154, 0, 5, 2, 172, 42, 27]
abbrev dktX0_cure_0 : List UInt8 := dkwX0_cure_0 ++ dktX0_cure_1
theorem dksX0_cure_0 : cX0_cure.data.toList.drop 0 = dktX0_cure_0 := by decide +kernel
theorem dksX0_cure_1 : cX0_cure.data.toList.drop 23 = dktX0_cure_1 := dk_seg dksX0_cure_0 23 rfl rfl
theorem dksX0_cure_2 : cX0_cure.data.toList.drop 47 = dktX0_cure_2 := dk_seg dksX0_cure_1 24 rfl rfl
theorem dksX0_cure_3 : cX0_cure.data.toList.drop 70 = dktX0_cure_3 := dk_seg dksX0_cure_2 23 rfl rfl
theorem dX0_cure_0 : decode cX0_cure 0 = .ok (.aload_n 0, 1) := dk_42 (dk_at dksX0_cure_0 0 rfl rfl)
theorem dX0_cure_1 : decode cX0_cure 1 = .ok (.iload_n 1, 1) := dk_27 (dk_at dksX0_cure_0 1 rfl rfl)
theorem dX0_cure_2 : decode cX0_cure 2 = .ok (.invokevirtual 162, 3) := dk_182 0 162 (dk_at dksX0_cure_0 2 rfl rfl)
theorem dX0_cure_5 : decode cX0_cure 5 = .ok (.ifCond .eq 14, 3) := dk_153 0 14 (dk_at dksX0_cure_0 5 rfl rfl)
theorem dX0_cure_8 : decode cX0_cure 8 = .ok (.iload_n 2, 1) := dk_28 (dk_at dksX0_cure_0 8 rfl rfl)
theorem dX0_cure_9 : decode cX0_cure 9 = .ok (.ifCond .eq 12, 3) := dk_153 0 12 (dk_at dksX0_cure_0 9 rfl rfl)
theorem dX0_cure_12 : decode cX0_cure 12 = .ok (.iload_n 2, 1) := dk_28 (dk_at dksX0_cure_0 12 rfl rfl)
theorem dX0_cure_13 : decode cX0_cure 13 = .ok (.invokestatic 256, 3) := dk_184 1 0 (dk_at dksX0_cure_0 13 rfl rfl)
theorem dX0_cure_16 : decode cX0_cure 16 = .ok (.ifCond .ne 5, 3) := dk_154 0 5 (dk_at dksX0_cure_0 16 rfl rfl)
theorem dX0_cure_19 : decode cX0_cure 19 = .ok (.iconst (-1), 1) := dk_2 (dk_at dksX0_cure_0 19 rfl rfl)
theorem dX0_cure_20 : decode cX0_cure 20 = .ok (.ireturn, 1) := dk_172 (dk_at dksX0_cure_0 20 rfl rfl)
theorem dX0_cure_21 : decode cX0_cure 21 = .ok (.aload_n 0, 1) := dk_42 (dk_at dksX0_cure_0 21 rfl rfl)
theorem dX0_cure_22 : decode cX0_cure 22 = .ok (.iload_n 1, 1) := dk_27 (dk_at dksX0_cure_0 22 rfl rfl)
theorem dX0_cure_23 : decode cX0_cure 23 = .ok (.invokevirtual 270, 3) := dk_182 1 14 (dk_at dksX0_cure_1 0 rfl rfl)
theorem dX0_cure_26 : decode cX0_cure 26 = .ok (.istore_n 3, 1) := dk_62 (dk_at dksX0_cure_1 3 rfl rfl)
theorem dX0_cure_27 : decode cX0_cure 27 = .ok (.iload_n 3, 1) := dk_29 (dk_at dksX0_cure_1 4 rfl rfl)
theorem dX0_cure_28 : decode cX0_cure 28 = .ok (.bipush (-4), 2) := dk_16 252 (dk_at dksX0_cure_1 5 rfl rfl)
theorem dX0_cure_30 : decode cX0_cure 30 = .ok (.if_icmp .ne 8, 3) := dk_160 0 8 (dk_at dksX0_cure_1 7 rfl rfl)
theorem dX0_cure_33 : decode cX0_cure 33 = .ok (.bipush (-4), 2) := dk_16 252 (dk_at dksX0_cure_1 10 rfl rfl)
theorem dX0_cure_35 : decode cX0_cure 35 = .ok (.goto 37, 3) := dk_167 0 37 (dk_at dksX0_cure_1 12 rfl rfl)
theorem dX0_cure_38 : decode cX0_cure 38 = .ok (.iload_n 2, 1) := dk_28 (dk_at dksX0_cure_1 15 rfl rfl)
theorem dX0_cure_39 : decode cX0_cure 39 = .ok (.ifCond .ne 7, 3) := dk_154 0 7 (dk_at dksX0_cure_1 16 rfl rfl)
theorem dX0_cure_42 : decode cX0_cure 42 = .ok (.iload_n 3, 1) := dk_29 (dk_at dksX0_cure_1 19 rfl rfl)
theorem dX0_cure_43 : decode cX0_cure 43 = .ok (.goto 29, 3) := dk_167 0 29 (dk_at dksX0_cure_1 20 rfl rfl)
theorem dX0_cure_46 : decode cX0_cure 46 = .ok (.iload_n 2, 1) := dk_28 (dk_at dksX0_cure_1 23 rfl rfl)
theorem dX0_cure_47 : decode cX0_cure 47 = .ok (.bipush 10, 2) := dk_16 10 (dk_at dksX0_cure_2 0 rfl rfl)
theorem dX0_cure_49 : decode cX0_cure 49 = .ok (.isub, 1) := dk_100 (dk_at dksX0_cure_2 2 rfl rfl)
theorem dX0_cure_50 : decode cX0_cure 50 = .ok (.iload_n 3, 1) := dk_29 (dk_at dksX0_cure_2 3 rfl rfl)
theorem dX0_cure_51 : decode cX0_cure 51 = .ok (.if_icmp .ge 19, 3) := dk_162 0 19 (dk_at dksX0_cure_2 4 rfl rfl)
theorem dX0_cure_54 : decode cX0_cure 54 = .ok (.aload_n 0, 1) := dk_42 (dk_at dksX0_cure_2 7 rfl rfl)
theorem dX0_cure_55 : decode cX0_cure 55 = .ok (.aload_n 0, 1) := dk_42 (dk_at dksX0_cure_2 8 rfl rfl)
theorem dX0_cure_56 : decode cX0_cure 56 = .ok (.getfield 103, 3) := dk_180 0 103 (dk_at dksX0_cure_2 9 rfl rfl)
theorem dX0_cure_59 : decode cX0_cure 59 = .ok (.iload_n 2, 1) := dk_28 (dk_at dksX0_cure_2 12 rfl rfl)
theorem dX0_cure_60 : decode cX0_cure 60 = .ok (.bipush 10, 2) := dk_16 10 (dk_at dksX0_cure_2 13 rfl rfl)
theorem dX0_cure_62 : decode cX0_cure 62 = .ok (.isub, 1) := dk_100 (dk_at dksX0_cure_2 15 rfl rfl)
theorem dX0_cure_63 : decode cX0_cure 63 = .ok (.iaload, 1) := dk_46 (dk_at dksX0_cure_2 16 rfl rfl)
theorem dX0_cure_64 : decode cX0_cure 64 = .ok (.invokevirtual 263, 3) := dk_182 1 7 (dk_at dksX0_cure_2 17 rfl rfl)
theorem dX0_cure_67 : decode cX0_cure 67 = .ok (.goto 5, 3) := dk_167 0 5 (dk_at dksX0_cure_2 20 rfl rfl)
theorem dX0_cure_70 : decode cX0_cure 70 = .ok (.bipush (-4), 2) := dk_16 252 (dk_at dksX0_cure_3 0 rfl rfl)
theorem dX0_cure_72 : decode cX0_cure 72 = .ok (.ireturn, 1) := dk_172 (dk_at dksX0_cure_3 2 rfl rfl)
abbrev cX0_findCure : ByteArray := prog_1_method_44_code
def yX0_findCure : MethodName := ⟨RX0, "findCure", "(I)I"⟩
def dkwX0_findCure_7 : List UInt8 := [16, 252, 172]
abbrev dktX0_findCure_7 : List UInt8 := dkwX0_findCure_7 ++ []
def dkwX0_findCure_6 : List UInt8 := [180, 0, 87, 27, 182, 1, 10, 153, 0, 5, 5, 172, 132, 4, 1, 167, 255, 201, 132, 2, 1, 167, 255, 163]
abbrev dktX0_findCure_6 : List UInt8 := dkwX0_findCure_6 ++ dktX0_findCure_7
def dkwX0_findCure_5 : List UInt8 := [21, 4, 79, 42, 42, 180, 0, 87, 42, 180, 0, 90, 21, 4, 182, 0, 252, 153, 0, 17, 42, 42]
abbrev dktX0_findCure_5 : List UInt8 := dkwX0_findCure_5 ++ dktX0_findCure_6
def dkwX0_findCure_4 : List UInt8 := [3, 28, 79, 3, 54, 4, 21, 4, 42, 182, 0, 249, 162, 0, 52, 29, 153, 0, 48, 42, 180, 0, 103, 4]
abbrev dktX0_findCure_4 : List UInt8 := dkwX0_findCure_4 ++ dktX0_findCure_5
def dkwX0_findCure_3 : List UInt8 := [182, 0, 249, 162, 0, 91, 42, 42, 180, 0, 90, 42, 180, 0, 83, 28, 182, 0, 252, 62, 42, 180, 0, 103]
abbrev dktX0_findCure_3 : List UInt8 := dkwX0_findCure_3 ++ dktX0_findCure_4
def dkwX0_findCure_2 : List UInt8 := [42, 180, 0, 90, 27, 182, 1, 10, 153, 0, 5, 4, 172, 132, 2, 1, 167, 255, 208, 3, 61, 28, 42]
abbrev dktX0_findCure_2 : List UInt8 := dkwX0_findCure_2 ++ dktX0_findCure_3
def dkwX0_findCure_1 : List UInt8 := [42, 180, 0, 103, 3, 28, 79, 42, 42, 180, 0, 90, 42, 180, 0, 83, 28, 182, 0, 252, 153, 0, 17, 42]
abbrev dktX0_findCure_1 : List UInt8 := dkwX0_findCure_1 ++ dktX0_findCure_2
def dkwX0_findCure_0 : List UInt8 := [42, 42, 180, 0, 83, 27, 182, 1, 10, 153, 0, 5, 3, 172, 3, 61, 28, 42, 182, 0, 249, 162, 0, 46]
abbrev dktX0_findCure_0 : List UInt8 := dkwX0_findCure_0 ++ dktX0_findCure_1
theorem dksX0_findCure_0 : cX0_findCure.data.toList.drop 0 = dktX0_findCure_0 := by decide +kernel
theorem dksX0_findCure_1 : cX0_findCure.data.toList.drop 24 = dktX0_findCure_1 := dk_seg dksX0_findCure_0 24 rfl rfl
theorem dksX0_findCure_2 : cX0_findCure.data.toList.drop 48 = dktX0_findCure_2 := dk_seg dksX0_findCure_1 24 rfl rfl
theorem dksX0_findCure_3 : cX0_findCure.data.toList.drop 71 = dktX0_findCure_3 := dk_seg dksX0_findCure_2 23 rfl rfl
theorem dksX0_findCure_4 : cX0_findCure.data.toList.drop 95 = dktX0_findCure_4 := dk_seg dksX0_findCure_3 24 rfl rfl
theorem dksX0_findCure_5 : cX0_findCure.data.toList.drop 119 = dktX0_findCure_5 := dk_seg dksX0_findCure_4 24 rfl rfl
theorem dksX0_findCure_6 : cX0_findCure.data.toList.drop 141 = dktX0_findCure_6 := dk_seg dksX0_findCure_5 22 rfl rfl
theorem dksX0_findCure_7 : cX0_findCure.data.toList.drop 165 = dktX0_findCure_7 := dk_seg dksX0_findCure_6 24 rfl rfl
theorem dX0_findCure_0 : decode cX0_findCure 0 = .ok (.aload_n 0, 1) := dk_42 (dk_at dksX0_findCure_0 0 rfl rfl)
theorem dX0_findCure_1 : decode cX0_findCure 1 = .ok (.aload_n 0, 1) := dk_42 (dk_at dksX0_findCure_0 1 rfl rfl)
theorem dX0_findCure_2 : decode cX0_findCure 2 = .ok (.getfield 83, 3) := dk_180 0 83 (dk_at dksX0_findCure_0 2 rfl rfl)
theorem dX0_findCure_5 : decode cX0_findCure 5 = .ok (.iload_n 1, 1) := dk_27 (dk_at dksX0_findCure_0 5 rfl rfl)
theorem dX0_findCure_6 : decode cX0_findCure 6 = .ok (.invokevirtual 266, 3) := dk_182 1 10 (dk_at dksX0_findCure_0 6 rfl rfl)
theorem dX0_findCure_9 : decode cX0_findCure 9 = .ok (.ifCond .eq 5, 3) := dk_153 0 5 (dk_at dksX0_findCure_0 9 rfl rfl)
theorem dX0_findCure_12 : decode cX0_findCure 12 = .ok (.iconst 0, 1) := dk_3 (dk_at dksX0_findCure_0 12 rfl rfl)
theorem dX0_findCure_13 : decode cX0_findCure 13 = .ok (.ireturn, 1) := dk_172 (dk_at dksX0_findCure_0 13 rfl rfl)
theorem dX0_findCure_14 : decode cX0_findCure 14 = .ok (.iconst 0, 1) := dk_3 (dk_at dksX0_findCure_0 14 rfl rfl)
theorem dX0_findCure_15 : decode cX0_findCure 15 = .ok (.istore_n 2, 1) := dk_61 (dk_at dksX0_findCure_0 15 rfl rfl)
theorem dX0_findCure_16 : decode cX0_findCure 16 = .ok (.iload_n 2, 1) := dk_28 (dk_at dksX0_findCure_0 16 rfl rfl)
theorem dX0_findCure_17 : decode cX0_findCure 17 = .ok (.aload_n 0, 1) := dk_42 (dk_at dksX0_findCure_0 17 rfl rfl)
theorem dX0_findCure_18 : decode cX0_findCure 18 = .ok (.invokevirtual 249, 3) := dk_182 0 249 (dk_at dksX0_findCure_0 18 rfl rfl)
theorem dX0_findCure_21 : decode cX0_findCure 21 = .ok (.if_icmp .ge 46, 3) := dk_162 0 46 (dk_at dksX0_findCure_0 21 rfl rfl)
theorem dX0_findCure_24 : decode cX0_findCure 24 = .ok (.aload_n 0, 1) := dk_42 (dk_at dksX0_findCure_1 0 rfl rfl)
theorem dX0_findCure_25 : decode cX0_findCure 25 = .ok (.getfield 103, 3) := dk_180 0 103 (dk_at dksX0_findCure_1 1 rfl rfl)
theorem dX0_findCure_28 : decode cX0_findCure 28 = .ok (.iconst 0, 1) := dk_3 (dk_at dksX0_findCure_1 4 rfl rfl)
theorem dX0_findCure_29 : decode cX0_findCure 29 = .ok (.iload_n 2, 1) := dk_28 (dk_at dksX0_findCure_1 5 rfl rfl)
theorem dX0_findCure_30 : decode cX0_findCure 30 = .ok (.iastore, 1) := dk_79 (dk_at dksX0_findCure_1 6 rfl rfl)
theorem dX0_findCure_31 : decode cX0_findCure 31 = .ok (.aload_n 0, 1) := dk_42 (dk_at dksX0_findCure_1 7 rfl rfl)
theorem dX0_findCure_32 : decode cX0_findCure 32 = .ok (.aload_n 0, 1) := dk_42 (dk_at dksX0_findCure_1 8 rfl rfl)
theorem dX0_findCure_33 : decode cX0_findCure 33 = .ok (.getfield 90, 3) := dk_180 0 90 (dk_at dksX0_findCure_1 9 rfl rfl)
theorem dX0_findCure_36 : decode cX0_findCure 36 = .ok (.aload_n 0, 1) := dk_42 (dk_at dksX0_findCure_1 12 rfl rfl)
theorem dX0_findCure_37 : decode cX0_findCure 37 = .ok (.getfield 83, 3) := dk_180 0 83 (dk_at dksX0_findCure_1 13 rfl rfl)
theorem dX0_findCure_40 : decode cX0_findCure 40 = .ok (.iload_n 2, 1) := dk_28 (dk_at dksX0_findCure_1 16 rfl rfl)
theorem dX0_findCure_41 : decode cX0_findCure 41 = .ok (.invokevirtual 252, 3) := dk_182 0 252 (dk_at dksX0_findCure_1 17 rfl rfl)
theorem dX0_findCure_44 : decode cX0_findCure 44 = .ok (.ifCond .eq 17, 3) := dk_153 0 17 (dk_at dksX0_findCure_1 20 rfl rfl)
theorem dX0_findCure_47 : decode cX0_findCure 47 = .ok (.aload_n 0, 1) := dk_42 (dk_at dksX0_findCure_1 23 rfl rfl)
theorem dX0_findCure_48 : decode cX0_findCure 48 = .ok (.aload_n 0, 1) := dk_42 (dk_at dksX0_findCure_2 0 rfl rfl)
theorem dX0_findCure_49 : decode cX0_findCure 49 = .ok (.getfield 90, 3) := dk_180 0 90 (dk_at dksX0_findCure_2 1 rfl rfl)
theorem dX0_findCure_52 : decode cX0_findCure 52 = .ok (.iload_n 1, 1) := dk_27 (dk_at dksX0_findCure_2 4 rfl rfl)
theorem dX0_findCure_53 : decode cX0_findCure 53 = .ok (.invokevirtual 266, 3) := dk_182 1 10 (dk_at dksX0_findCure_2 5 rfl rfl)
theorem dX0_findCure_56 : decode cX0_findCure 56 = .ok (.ifCond .eq 5, 3) := dk_153 0 5 (dk_at dksX0_findCure_2 8 rfl rfl)
theorem dX0_findCure_59 : decode cX0_findCure 59 = .ok (.iconst 1, 1) := dk_4 (dk_at dksX0_findCure_2 11 rfl rfl)
theorem dX0_findCure_60 : decode cX0_findCure 60 = .ok (.ireturn, 1) := dk_172 (dk_at dksX0_findCure_2 12 rfl rfl)
theorem dX0_findCure_61 : decode cX0_findCure 61 = .ok (.iinc 2 1, 3) := dk_132 2 1 (dk_at dksX0_findCure_2 13 rfl rfl)
theorem dX0_findCure_64 : decode cX0_findCure 64 = .ok (.goto (-48), 3) := dk_167 255 208 (dk_at dksX0_findCure_2 16 rfl rfl)
theorem dX0_findCure_67 : decode cX0_findCure 67 = .ok (.iconst 0, 1) := dk_3 (dk_at dksX0_findCure_2 19 rfl rfl)
theorem dX0_findCure_68 : decode cX0_findCure 68 = .ok (.istore_n 2, 1) := dk_61 (dk_at dksX0_findCure_2 20 rfl rfl)
theorem dX0_findCure_69 : decode cX0_findCure 69 = .ok (.iload_n 2, 1) := dk_28 (dk_at dksX0_findCure_2 21 rfl rfl)
theorem dX0_findCure_70 : decode cX0_findCure 70 = .ok (.aload_n 0, 1) := dk_42 (dk_at dksX0_findCure_2 22 rfl rfl)
theorem dX0_findCure_71 : decode cX0_findCure 71 = .ok (.invokevirtual 249, 3) := dk_182 0 249 (dk_at dksX0_findCure_3 0 rfl rfl)
theorem dX0_findCure_74 : decode cX0_findCure 74 = .ok (.if_icmp .ge 91, 3) := dk_162 0 91 (dk_at dksX0_findCure_3 3 rfl rfl)
theorem dX0_findCure_77 : decode cX0_findCure 77 = .ok (.aload_n 0, 1) := dk_42 (dk_at dksX0_findCure_3 6 rfl rfl)
theorem dX0_findCure_78 : decode cX0_findCure 78 = .ok (.aload_n 0, 1) := dk_42 (dk_at dksX0_findCure_3 7 rfl rfl)
theorem dX0_findCure_79 : decode cX0_findCure 79 = .ok (.getfield 90, 3) := dk_180 0 90 (dk_at dksX0_findCure_3 8 rfl rfl)
theorem dX0_findCure_82 : decode cX0_findCure 82 = .ok (.aload_n 0, 1) := dk_42 (dk_at dksX0_findCure_3 11 rfl rfl)
theorem dX0_findCure_83 : decode cX0_findCure 83 = .ok (.getfield 83, 3) := dk_180 0 83 (dk_at dksX0_findCure_3 12 rfl rfl)
theorem dX0_findCure_86 : decode cX0_findCure 86 = .ok (.iload_n 2, 1) := dk_28 (dk_at dksX0_findCure_3 15 rfl rfl)
theorem dX0_findCure_87 : decode cX0_findCure 87 = .ok (.invokevirtual 252, 3) := dk_182 0 252 (dk_at dksX0_findCure_3 16 rfl rfl)
theorem dX0_findCure_90 : decode cX0_findCure 90 = .ok (.istore_n 3, 1) := dk_62 (dk_at dksX0_findCure_3 19 rfl rfl)
theorem dX0_findCure_91 : decode cX0_findCure 91 = .ok (.aload_n 0, 1) := dk_42 (dk_at dksX0_findCure_3 20 rfl rfl)
theorem dX0_findCure_92 : decode cX0_findCure 92 = .ok (.getfield 103, 3) := dk_180 0 103 (dk_at dksX0_findCure_3 21 rfl rfl)
theorem dX0_findCure_95 : decode cX0_findCure 95 = .ok (.iconst 0, 1) := dk_3 (dk_at dksX0_findCure_4 0 rfl rfl)
theorem dX0_findCure_96 : decode cX0_findCure 96 = .ok (.iload_n 2, 1) := dk_28 (dk_at dksX0_findCure_4 1 rfl rfl)
theorem dX0_findCure_97 : decode cX0_findCure 97 = .ok (.iastore, 1) := dk_79 (dk_at dksX0_findCure_4 2 rfl rfl)
theorem dX0_findCure_98 : decode cX0_findCure 98 = .ok (.iconst 0, 1) := dk_3 (dk_at dksX0_findCure_4 3 rfl rfl)
theorem dX0_findCure_99 : decode cX0_findCure 99 = .ok (.istore 4, 2) := dk_54 4 (dk_at dksX0_findCure_4 4 rfl rfl)
theorem dX0_findCure_101 : decode cX0_findCure 101 = .ok (.iload 4, 2) := dk_21 4 (dk_at dksX0_findCure_4 6 rfl rfl)
theorem dX0_findCure_103 : decode cX0_findCure 103 = .ok (.aload_n 0, 1) := dk_42 (dk_at dksX0_findCure_4 8 rfl rfl)
theorem dX0_findCure_104 : decode cX0_findCure 104 = .ok (.invokevirtual 249, 3) := dk_182 0 249 (dk_at dksX0_findCure_4 9 rfl rfl)
theorem dX0_findCure_107 : decode cX0_findCure 107 = .ok (.if_icmp .ge 52, 3) := dk_162 0 52 (dk_at dksX0_findCure_4 12 rfl rfl)
theorem dX0_findCure_110 : decode cX0_findCure 110 = .ok (.iload_n 3, 1) := dk_29 (dk_at dksX0_findCure_4 15 rfl rfl)
theorem dX0_findCure_111 : decode cX0_findCure 111 = .ok (.ifCond .eq 48, 3) := dk_153 0 48 (dk_at dksX0_findCure_4 16 rfl rfl)
theorem dX0_findCure_114 : decode cX0_findCure 114 = .ok (.aload_n 0, 1) := dk_42 (dk_at dksX0_findCure_4 19 rfl rfl)
theorem dX0_findCure_115 : decode cX0_findCure 115 = .ok (.getfield 103, 3) := dk_180 0 103 (dk_at dksX0_findCure_4 20 rfl rfl)
theorem dX0_findCure_118 : decode cX0_findCure 118 = .ok (.iconst 1, 1) := dk_4 (dk_at dksX0_findCure_4 23 rfl rfl)
theorem dX0_findCure_119 : decode cX0_findCure 119 = .ok (.iload 4, 2) := dk_21 4 (dk_at dksX0_findCure_5 0 rfl rfl)
theorem dX0_findCure_121 : decode cX0_findCure 121 = .ok (.iastore, 1) := dk_79 (dk_at dksX0_findCure_5 2 rfl rfl)
theorem dX0_findCure_122 : decode cX0_findCure 122 = .ok (.aload_n 0, 1) := dk_42 (dk_at dksX0_findCure_5 3 rfl rfl)
theorem dX0_findCure_123 : decode cX0_findCure 123 = .ok (.aload_n 0, 1) := dk_42 (dk_at dksX0_findCure_5 4 rfl rfl)
theorem dX0_findCure_124 : decode cX0_findCure 124 = .ok (.getfield 87, 3) := dk_180 0 87 (dk_at dksX0_findCure_5 5 rfl rfl)
theorem dX0_findCure_127 : decode cX0_findCure 127 = .ok (.aload_n 0, 1) := dk_42 (dk_at dksX0_findCure_5 8 rfl rfl)
theorem dX0_findCure_128 : decode cX0_findCure 128 = .ok (.getfield 90, 3) := dk_180 0 90 (dk_at dksX0_findCure_5 9 rfl rfl)
theorem dX0_findCure_131 : decode cX0_findCure 131 = .ok (.iload 4, 2) := dk_21 4 (dk_at dksX0_findCure_5 12 rfl rfl)
theorem dX0_findCure_133 : decode cX0_findCure 133 = .ok (.invokevirtual 252, 3) := dk_182 0 252 (dk_at dksX0_findCure_5 14 rfl rfl)
theorem dX0_findCure_136 : decode cX0_findCure 136 = .ok (.ifCond .eq 17, 3) := dk_153 0 17 (dk_at dksX0_findCure_5 17 rfl rfl)
theorem dX0_findCure_139 : decode cX0_findCure 139 = .ok (.aload_n 0, 1) := dk_42 (dk_at dksX0_findCure_5 20 rfl rfl)
theorem dX0_findCure_140 : decode cX0_findCure 140 = .ok (.aload_n 0, 1) := dk_42 (dk_at dksX0_findCure_5 21 rfl rfl)
theorem dX0_findCure_141 : decode cX0_findCure 141 = .ok (.getfield 87, 3) := dk_180 0 87 (dk_at dksX0_findCure_6 0 rfl rfl)
theorem dX0_findCure_144 : decode cX0_findCure 144 = .ok (.iload_n 1, 1) := dk_27 (dk_at dksX0_findCure_6 3 rfl rfl)
theorem dX0_findCure_145 : decode cX0_findCure 145 = .ok (.invokevirtual 266, 3) := dk_182 1 10 (dk_at dksX0_findCure_6 4 rfl rfl)
theorem dX0_findCure_148 : decode cX0_findCure 148 = .ok (.ifCond .eq 5, 3) := dk_153 0 5 (dk_at dksX0_findCure_6 7 rfl rfl)
theorem dX0_findCure_151 : decode cX0_findCure 151 = .ok (.iconst 2, 1) := dk_5 (dk_at dksX0_findCure_6 10 rfl rfl)
theorem dX0_findCure_152 : decode cX0_findCure 152 = .ok (.ireturn, 1) := dk_172 (dk_at dksX0_findCure_6 11 rfl rfl)
theorem dX0_findCure_153 : decode cX0_findCure 153 = .ok (.iinc 4 1, 3) := dk_132 4 1 (dk_at dksX0_findCure_6 12 rfl rfl)
theorem dX0_findCure_156 : decode cX0_findCure 156 = .ok (.goto (-55), 3) := dk_167 255 201 (dk_at dksX0_findCure_6 15 rfl rfl)
theorem dX0_findCure_159 : decode cX0_findCure 159 = .ok (.iinc 2 1, 3) := dk_132 2 1 (dk_at dksX0_findCure_6 18 rfl rfl)
theorem dX0_findCure_162 : decode cX0_findCure 162 = .ok (.goto (-93), 3) := dk_167 255 163 (dk_at dksX0_findCure_6 21 rfl rfl)
theorem dX0_findCure_165 : decode cX0_findCure 165 = .ok (.bipush (-4), 2) := dk_16 252 (dk_at dksX0_findCure_7 0 rfl rfl)
theorem dX0_findCure_167 : decode cX0_findCure 167 = .ok (.ireturn, 1) := dk_172 (dk_at dksX0_findCure_7 2 rfl rfl)
abbrev cX0_isRight : ByteArray := prog_1_method_43_code
def yX0_isRight : MethodName := ⟨RX0, "isRight", "(LClockWard$Ward;I)Z"⟩
def dkwX0_isRight_0 : List UInt8 := [43, 28, 6, 182, 0, 3, 16, 50, 160, 0, 7, 4, 167, 0, 4, 3, 172]
abbrev dktX0_isRight_0 : List UInt8 := dkwX0_isRight_0 ++ []
theorem dksX0_isRight_0 : cX0_isRight.data.toList.drop 0 = dktX0_isRight_0 := by decide +kernel
theorem dX0_isRight_0 : decode cX0_isRight 0 = .ok (.aload_n 1, 1) := dk_43 (dk_at dksX0_isRight_0 0 rfl rfl)
theorem dX0_isRight_1 : decode cX0_isRight 1 = .ok (.iload_n 2, 1) := dk_28 (dk_at dksX0_isRight_0 1 rfl rfl)
theorem dX0_isRight_2 : decode cX0_isRight 2 = .ok (.iconst 3, 1) := dk_6 (dk_at dksX0_isRight_0 2 rfl rfl)
theorem dX0_isRight_3 : decode cX0_isRight 3 = .ok (.invokevirtual 3, 3) := dk_182 0 3 (dk_at dksX0_isRight_0 3 rfl rfl)
theorem dX0_isRight_6 : decode cX0_isRight 6 = .ok (.bipush 50, 2) := dk_16 50 (dk_at dksX0_isRight_0 6 rfl rfl)
theorem dX0_isRight_8 : decode cX0_isRight 8 = .ok (.if_icmp .ne 7, 3) := dk_160 0 7 (dk_at dksX0_isRight_0 8 rfl rfl)
theorem dX0_isRight_11 : decode cX0_isRight 11 = .ok (.iconst 1, 1) := dk_4 (dk_at dksX0_isRight_0 11 rfl rfl)
theorem dX0_isRight_12 : decode cX0_isRight 12 = .ok (.goto 4, 3) := dk_167 0 4 (dk_at dksX0_isRight_0 12 rfl rfl)
theorem dX0_isRight_15 : decode cX0_isRight 15 = .ok (.iconst 0, 1) := dk_3 (dk_at dksX0_isRight_0 15 rfl rfl)
theorem dX0_isRight_16 : decode cX0_isRight 16 = .ok (.ireturn, 1) := dk_172 (dk_at dksX0_isRight_0 16 rfl rfl)
abbrev cX0_leave : ByteArray := prog_1_method_46_code
def yX0_leave : MethodName := ⟨RX0, "leave", "(I)I"⟩
def dkwX0_leave_4 : List UInt8 := [167, 255, 186, 29, 16, 252, 160, 0, 8, 16, 252, 167, 0, 12, 27, 154, 0, 7, 29, 167, 0, 4, 28, 172]
abbrev dktX0_leave_4 : List UInt8 := dkwX0_leave_4 ++ []
def dkwX0_leave_3 : List UInt8 := [21, 5, 28, 164, 0, 8, 21, 4, 167, 0, 4, 29, 62, 28, 21, 5, 184, 0, 24, 61, 132, 4, 1]
abbrev dktX0_leave_3 : List UInt8 := dkwX0_leave_3 ++ dktX0_leave_4
def dkwX0_leave_2 : List UInt8 := [42, 180, 0, 87, 4, 21, 4, 120, 182, 0, 209, 42, 180, 0, 87, 182, 0, 173, 184, 0, 218, 54, 5]
abbrev dktX0_leave_2 : List UInt8 := dkwX0_leave_2 ++ dktX0_leave_3
def dkwX0_leave_1 : List UInt8 := [21, 4, 42, 180, 0, 83, 180, 0, 48, 162, 0, 64, 42, 180, 0, 87, 42, 180, 0, 83, 182, 0, 144, 42]
abbrev dktX0_leave_1 : List UInt8 := dkwX0_leave_1 ++ dktX0_leave_2
def dkwX0_leave_0 : List UInt8 := [27, 184, 0, 215, 154, 0, 5, 2, 172, 42, 3, 182, 1, 17, 184, 0, 218, 61, 16, 252, 62, 3, 54, 4]
abbrev dktX0_leave_0 : List UInt8 := dkwX0_leave_0 ++ dktX0_leave_1
theorem dksX0_leave_0 : cX0_leave.data.toList.drop 0 = dktX0_leave_0 := by decide +kernel
theorem dksX0_leave_1 : cX0_leave.data.toList.drop 24 = dktX0_leave_1 := dk_seg dksX0_leave_0 24 rfl rfl
theorem dksX0_leave_2 : cX0_leave.data.toList.drop 48 = dktX0_leave_2 := dk_seg dksX0_leave_1 24 rfl rfl
theorem dksX0_leave_3 : cX0_leave.data.toList.drop 71 = dktX0_leave_3 := dk_seg dksX0_leave_2 23 rfl rfl
theorem dksX0_leave_4 : cX0_leave.data.toList.drop 94 = dktX0_leave_4 := dk_seg dksX0_leave_3 23 rfl rfl
theorem dX0_leave_0 : decode cX0_leave 0 = .ok (.iload_n 1, 1) := dk_27 (dk_at dksX0_leave_0 0 rfl rfl)
theorem dX0_leave_1 : decode cX0_leave 1 = .ok (.invokestatic 215, 3) := dk_184 0 215 (dk_at dksX0_leave_0 1 rfl rfl)
theorem dX0_leave_4 : decode cX0_leave 4 = .ok (.ifCond .ne 5, 3) := dk_154 0 5 (dk_at dksX0_leave_0 4 rfl rfl)
theorem dX0_leave_7 : decode cX0_leave 7 = .ok (.iconst (-1), 1) := dk_2 (dk_at dksX0_leave_0 7 rfl rfl)
theorem dX0_leave_8 : decode cX0_leave 8 = .ok (.ireturn, 1) := dk_172 (dk_at dksX0_leave_0 8 rfl rfl)
theorem dX0_leave_9 : decode cX0_leave 9 = .ok (.aload_n 0, 1) := dk_42 (dk_at dksX0_leave_0 9 rfl rfl)
theorem dX0_leave_10 : decode cX0_leave 10 = .ok (.iconst 0, 1) := dk_3 (dk_at dksX0_leave_0 10 rfl rfl)
theorem dX0_leave_11 : decode cX0_leave 11 = .ok (.invokevirtual 273, 3) := dk_182 1 17 (dk_at dksX0_leave_0 11 rfl rfl)
theorem dX0_leave_14 : decode cX0_leave 14 = .ok (.invokestatic 218, 3) := dk_184 0 218 (dk_at dksX0_leave_0 14 rfl rfl)
theorem dX0_leave_17 : decode cX0_leave 17 = .ok (.istore_n 2, 1) := dk_61 (dk_at dksX0_leave_0 17 rfl rfl)
theorem dX0_leave_18 : decode cX0_leave 18 = .ok (.bipush (-4), 2) := dk_16 252 (dk_at dksX0_leave_0 18 rfl rfl)
theorem dX0_leave_20 : decode cX0_leave 20 = .ok (.istore_n 3, 1) := dk_62 (dk_at dksX0_leave_0 20 rfl rfl)
theorem dX0_leave_21 : decode cX0_leave 21 = .ok (.iconst 0, 1) := dk_3 (dk_at dksX0_leave_0 21 rfl rfl)
theorem dX0_leave_22 : decode cX0_leave 22 = .ok (.istore 4, 2) := dk_54 4 (dk_at dksX0_leave_0 22 rfl rfl)
theorem dX0_leave_24 : decode cX0_leave 24 = .ok (.iload 4, 2) := dk_21 4 (dk_at dksX0_leave_1 0 rfl rfl)
theorem dX0_leave_26 : decode cX0_leave 26 = .ok (.aload_n 0, 1) := dk_42 (dk_at dksX0_leave_1 2 rfl rfl)
theorem dX0_leave_27 : decode cX0_leave 27 = .ok (.getfield 83, 3) := dk_180 0 83 (dk_at dksX0_leave_1 3 rfl rfl)
theorem dX0_leave_30 : decode cX0_leave 30 = .ok (.getfield 48, 3) := dk_180 0 48 (dk_at dksX0_leave_1 6 rfl rfl)
theorem dX0_leave_33 : decode cX0_leave 33 = .ok (.if_icmp .ge 64, 3) := dk_162 0 64 (dk_at dksX0_leave_1 9 rfl rfl)
theorem dX0_leave_36 : decode cX0_leave 36 = .ok (.aload_n 0, 1) := dk_42 (dk_at dksX0_leave_1 12 rfl rfl)
theorem dX0_leave_37 : decode cX0_leave 37 = .ok (.getfield 87, 3) := dk_180 0 87 (dk_at dksX0_leave_1 13 rfl rfl)
theorem dX0_leave_40 : decode cX0_leave 40 = .ok (.aload_n 0, 1) := dk_42 (dk_at dksX0_leave_1 16 rfl rfl)
theorem dX0_leave_41 : decode cX0_leave 41 = .ok (.getfield 83, 3) := dk_180 0 83 (dk_at dksX0_leave_1 17 rfl rfl)
theorem dX0_leave_44 : decode cX0_leave 44 = .ok (.invokevirtual 144, 3) := dk_182 0 144 (dk_at dksX0_leave_1 20 rfl rfl)
theorem dX0_leave_47 : decode cX0_leave 47 = .ok (.aload_n 0, 1) := dk_42 (dk_at dksX0_leave_1 23 rfl rfl)
theorem dX0_leave_48 : decode cX0_leave 48 = .ok (.aload_n 0, 1) := dk_42 (dk_at dksX0_leave_2 0 rfl rfl)
theorem dX0_leave_49 : decode cX0_leave 49 = .ok (.getfield 87, 3) := dk_180 0 87 (dk_at dksX0_leave_2 1 rfl rfl)
theorem dX0_leave_52 : decode cX0_leave 52 = .ok (.iconst 1, 1) := dk_4 (dk_at dksX0_leave_2 4 rfl rfl)
theorem dX0_leave_53 : decode cX0_leave 53 = .ok (.iload 4, 2) := dk_21 4 (dk_at dksX0_leave_2 5 rfl rfl)
theorem dX0_leave_55 : decode cX0_leave 55 = .ok (.ishl, 1) := dk_120 (dk_at dksX0_leave_2 7 rfl rfl)
theorem dX0_leave_56 : decode cX0_leave 56 = .ok (.invokevirtual 209, 3) := dk_182 0 209 (dk_at dksX0_leave_2 8 rfl rfl)
theorem dX0_leave_59 : decode cX0_leave 59 = .ok (.aload_n 0, 1) := dk_42 (dk_at dksX0_leave_2 11 rfl rfl)
theorem dX0_leave_60 : decode cX0_leave 60 = .ok (.getfield 87, 3) := dk_180 0 87 (dk_at dksX0_leave_2 12 rfl rfl)
theorem dX0_leave_63 : decode cX0_leave 63 = .ok (.invokevirtual 173, 3) := dk_182 0 173 (dk_at dksX0_leave_2 15 rfl rfl)
theorem dX0_leave_66 : decode cX0_leave 66 = .ok (.invokestatic 218, 3) := dk_184 0 218 (dk_at dksX0_leave_2 18 rfl rfl)
theorem dX0_leave_69 : decode cX0_leave 69 = .ok (.istore 5, 2) := dk_54 5 (dk_at dksX0_leave_2 21 rfl rfl)
theorem dX0_leave_71 : decode cX0_leave 71 = .ok (.iload 5, 2) := dk_21 5 (dk_at dksX0_leave_3 0 rfl rfl)
theorem dX0_leave_73 : decode cX0_leave 73 = .ok (.iload_n 2, 1) := dk_28 (dk_at dksX0_leave_3 2 rfl rfl)
theorem dX0_leave_74 : decode cX0_leave 74 = .ok (.if_icmp .le 8, 3) := dk_164 0 8 (dk_at dksX0_leave_3 3 rfl rfl)
theorem dX0_leave_77 : decode cX0_leave 77 = .ok (.iload 4, 2) := dk_21 4 (dk_at dksX0_leave_3 6 rfl rfl)
theorem dX0_leave_79 : decode cX0_leave 79 = .ok (.goto 4, 3) := dk_167 0 4 (dk_at dksX0_leave_3 8 rfl rfl)
theorem dX0_leave_82 : decode cX0_leave 82 = .ok (.iload_n 3, 1) := dk_29 (dk_at dksX0_leave_3 11 rfl rfl)
theorem dX0_leave_83 : decode cX0_leave 83 = .ok (.istore_n 3, 1) := dk_62 (dk_at dksX0_leave_3 12 rfl rfl)
theorem dX0_leave_84 : decode cX0_leave 84 = .ok (.iload_n 2, 1) := dk_28 (dk_at dksX0_leave_3 13 rfl rfl)
theorem dX0_leave_85 : decode cX0_leave 85 = .ok (.iload 5, 2) := dk_21 5 (dk_at dksX0_leave_3 14 rfl rfl)
theorem dX0_leave_87 : decode cX0_leave 87 = .ok (.invokestatic 24, 3) := dk_184 0 24 (dk_at dksX0_leave_3 16 rfl rfl)
theorem dX0_leave_90 : decode cX0_leave 90 = .ok (.istore_n 2, 1) := dk_61 (dk_at dksX0_leave_3 19 rfl rfl)
theorem dX0_leave_91 : decode cX0_leave 91 = .ok (.iinc 4 1, 3) := dk_132 4 1 (dk_at dksX0_leave_3 20 rfl rfl)
theorem dX0_leave_94 : decode cX0_leave 94 = .ok (.goto (-70), 3) := dk_167 255 186 (dk_at dksX0_leave_4 0 rfl rfl)
theorem dX0_leave_97 : decode cX0_leave 97 = .ok (.iload_n 3, 1) := dk_29 (dk_at dksX0_leave_4 3 rfl rfl)
theorem dX0_leave_98 : decode cX0_leave 98 = .ok (.bipush (-4), 2) := dk_16 252 (dk_at dksX0_leave_4 4 rfl rfl)
theorem dX0_leave_100 : decode cX0_leave 100 = .ok (.if_icmp .ne 8, 3) := dk_160 0 8 (dk_at dksX0_leave_4 6 rfl rfl)
theorem dX0_leave_103 : decode cX0_leave 103 = .ok (.bipush (-4), 2) := dk_16 252 (dk_at dksX0_leave_4 9 rfl rfl)
theorem dX0_leave_105 : decode cX0_leave 105 = .ok (.goto 12, 3) := dk_167 0 12 (dk_at dksX0_leave_4 11 rfl rfl)
theorem dX0_leave_108 : decode cX0_leave 108 = .ok (.iload_n 1, 1) := dk_27 (dk_at dksX0_leave_4 14 rfl rfl)
theorem dX0_leave_109 : decode cX0_leave 109 = .ok (.ifCond .ne 7, 3) := dk_154 0 7 (dk_at dksX0_leave_4 15 rfl rfl)
theorem dX0_leave_112 : decode cX0_leave 112 = .ok (.iload_n 3, 1) := dk_29 (dk_at dksX0_leave_4 18 rfl rfl)
theorem dX0_leave_113 : decode cX0_leave 113 = .ok (.goto 4, 3) := dk_167 0 4 (dk_at dksX0_leave_4 19 rfl rfl)
theorem dX0_leave_116 : decode cX0_leave 116 = .ok (.iload_n 2, 1) := dk_28 (dk_at dksX0_leave_4 22 rfl rfl)
theorem dX0_leave_117 : decode cX0_leave 117 = .ok (.ireturn, 1) := dk_172 (dk_at dksX0_leave_4 23 rfl rfl)
abbrev cX0_luck : ByteArray := prog_1_method_49_code
def yX0_luck : MethodName := ⟨RX0, "luck", "(III)J"⟩
def dkwX0_luck_2 : List UInt8 := [184, 1, 36, 173]
abbrev dktX0_luck_2 : List UInt8 := dkwX0_luck_2 ++ []
def dkwX0_luck_1 : List UInt8 := [154, 0, 7, 20, 1, 30, 173, 42, 27, 28, 182, 1, 32, 42, 180, 1, 20, 42, 180, 1, 27, 29]
abbrev dktX0_luck_1 : List UInt8 := dkwX0_luck_1 ++ dktX0_luck_2
def dkwX0_luck_0 : List UInt8 := [27, 133, 9, 20, 0, 166, 184, 0, 122, 153, 0, 18, 42, 28, 182, 0, 162, 153, 0, 10, 29, 184, 0, 215]
abbrev dktX0_luck_0 : List UInt8 := dkwX0_luck_0 ++ dktX0_luck_1
theorem dksX0_luck_0 : cX0_luck.data.toList.drop 0 = dktX0_luck_0 := by decide +kernel
theorem dksX0_luck_1 : cX0_luck.data.toList.drop 24 = dktX0_luck_1 := dk_seg dksX0_luck_0 24 rfl rfl
theorem dksX0_luck_2 : cX0_luck.data.toList.drop 46 = dktX0_luck_2 := dk_seg dksX0_luck_1 22 rfl rfl
theorem dX0_luck_0 : decode cX0_luck 0 = .ok (.iload_n 1, 1) := dk_27 (dk_at dksX0_luck_0 0 rfl rfl)
theorem dX0_luck_1 : decode cX0_luck 1 = .ok (.i2l, 1) := dk_133 (dk_at dksX0_luck_0 1 rfl rfl)
theorem dX0_luck_2 : decode cX0_luck 2 = .ok (.lconst 0, 1) := dk_9 (dk_at dksX0_luck_0 2 rfl rfl)
theorem dX0_luck_3 : decode cX0_luck 3 = .ok (.ldc2_w 166, 3) := dk_20 0 166 (dk_at dksX0_luck_0 3 rfl rfl)
theorem dX0_luck_6 : decode cX0_luck 6 = .ok (.invokestatic 122, 3) := dk_184 0 122 (dk_at dksX0_luck_0 6 rfl rfl)
theorem dX0_luck_9 : decode cX0_luck 9 = .ok (.ifCond .eq 18, 3) := dk_153 0 18 (dk_at dksX0_luck_0 9 rfl rfl)
theorem dX0_luck_12 : decode cX0_luck 12 = .ok (.aload_n 0, 1) := dk_42 (dk_at dksX0_luck_0 12 rfl rfl)
theorem dX0_luck_13 : decode cX0_luck 13 = .ok (.iload_n 2, 1) := dk_28 (dk_at dksX0_luck_0 13 rfl rfl)
theorem dX0_luck_14 : decode cX0_luck 14 = .ok (.invokevirtual 162, 3) := dk_182 0 162 (dk_at dksX0_luck_0 14 rfl rfl)
theorem dX0_luck_17 : decode cX0_luck 17 = .ok (.ifCond .eq 10, 3) := dk_153 0 10 (dk_at dksX0_luck_0 17 rfl rfl)
theorem dX0_luck_20 : decode cX0_luck 20 = .ok (.iload_n 3, 1) := dk_29 (dk_at dksX0_luck_0 20 rfl rfl)
theorem dX0_luck_21 : decode cX0_luck 21 = .ok (.invokestatic 215, 3) := dk_184 0 215 (dk_at dksX0_luck_0 21 rfl rfl)
theorem dX0_luck_24 : decode cX0_luck 24 = .ok (.ifCond .ne 7, 3) := dk_154 0 7 (dk_at dksX0_luck_1 0 rfl rfl)
theorem dX0_luck_27 : decode cX0_luck 27 = .ok (.ldc2_w 286, 3) := dk_20 1 30 (dk_at dksX0_luck_1 3 rfl rfl)
theorem dX0_luck_30 : decode cX0_luck 30 = .ok (.lreturn, 1) := dk_173 (dk_at dksX0_luck_1 6 rfl rfl)
theorem dX0_luck_31 : decode cX0_luck 31 = .ok (.aload_n 0, 1) := dk_42 (dk_at dksX0_luck_1 7 rfl rfl)
theorem dX0_luck_32 : decode cX0_luck 32 = .ok (.iload_n 1, 1) := dk_27 (dk_at dksX0_luck_1 8 rfl rfl)
theorem dX0_luck_33 : decode cX0_luck 33 = .ok (.iload_n 2, 1) := dk_28 (dk_at dksX0_luck_1 9 rfl rfl)
theorem dX0_luck_34 : decode cX0_luck 34 = .ok (.invokevirtual 288, 3) := dk_182 1 32 (dk_at dksX0_luck_1 10 rfl rfl)
theorem dX0_luck_37 : decode cX0_luck 37 = .ok (.aload_n 0, 1) := dk_42 (dk_at dksX0_luck_1 13 rfl rfl)
theorem dX0_luck_38 : decode cX0_luck 38 = .ok (.getfield 276, 3) := dk_180 1 20 (dk_at dksX0_luck_1 14 rfl rfl)
theorem dX0_luck_41 : decode cX0_luck 41 = .ok (.aload_n 0, 1) := dk_42 (dk_at dksX0_luck_1 17 rfl rfl)
theorem dX0_luck_42 : decode cX0_luck 42 = .ok (.getfield 283, 3) := dk_180 1 27 (dk_at dksX0_luck_1 18 rfl rfl)
theorem dX0_luck_45 : decode cX0_luck 45 = .ok (.iload_n 3, 1) := dk_29 (dk_at dksX0_luck_1 21 rfl rfl)
theorem dX0_luck_46 : decode cX0_luck 46 = .ok (.invokestatic 292, 3) := dk_184 1 36 (dk_at dksX0_luck_2 0 rfl rfl)
theorem dX0_luck_49 : decode cX0_luck 49 = .ok (.lreturn, 1) := dk_173 (dk_at dksX0_luck_2 3 rfl rfl)
abbrev cX0_findOdds : ByteArray := prog_1_method_48_code
def yX0_findOdds : MethodName := ⟨RX0, "findOdds", "(II)V"⟩
def dkwX0_findOdds_11 : List UInt8 := [184, 0, 218, 133, 105, 97, 181, 1, 24, 132, 4, 1, 167, 255, 95, 177]
abbrev dktX0_findOdds_11 : List UInt8 := dkwX0_findOdds_11 ++ []
def dkwX0_findOdds_10 : List UInt8 := [22, 5, 167, 0, 4, 9, 97, 181, 1, 20, 42, 89, 180, 1, 24, 22, 5, 42, 180, 0, 87, 182, 0, 173]
abbrev dktX0_findOdds_10 : List UInt8 := dkwX0_findOdds_10 ++ dktX0_findOdds_11
def dkwX0_findOdds_9 : List UInt8 := [21, 4, 182, 0, 209, 42, 89, 180, 1, 20, 42, 180, 0, 87, 182, 0, 173, 28, 184, 0, 59, 153, 0, 8]
abbrev dktX0_findOdds_9 : List UInt8 := dkwX0_findOdds_9 ++ dktX0_findOdds_10
def dkwX0_findOdds_8 : List UInt8 := [55, 5, 132, 7, 1, 167, 255, 203, 42, 180, 0, 87, 42, 180, 0, 83, 182, 0, 144, 42, 42, 180, 0, 87]
abbrev dktX0_findOdds_8 : List UInt8 := dkwX0_findOdds_8 ++ dktX0_findOdds_9
def dkwX0_findOdds_7 : List UInt8 := [167, 0, 23, 21, 4, 21, 7, 184, 0, 59, 153, 0, 8, 27, 133, 167, 0, 8, 16, 10, 27, 100, 133, 105]
abbrev dktX0_findOdds_7 : List UInt8 := dkwX0_findOdds_7 ++ dktX0_findOdds_8
def dkwX0_findOdds_6 : List UInt8 := [42, 180, 0, 83, 180, 0, 48, 162, 0, 47, 22, 5, 29, 21, 7, 184, 0, 59, 154, 0, 7, 10]
abbrev dktX0_findOdds_6 : List UInt8 := dkwX0_findOdds_6 ++ dktX0_findOdds_7
def dkwX0_findOdds_5 : List UInt8 := [180, 0, 48, 120, 162, 0, 153, 21, 4, 29, 2, 130, 126, 154, 0, 138, 10, 55, 5, 3, 54, 7, 21, 7]
abbrev dktX0_findOdds_5 : List UInt8 := dkwX0_findOdds_5 ++ dktX0_findOdds_6
def dkwX0_findOdds_4 : List UInt8 := [167, 0, 4, 10, 105, 181, 1, 27, 132, 4, 1, 167, 255, 171, 3, 54, 4, 21, 4, 4, 42, 180, 0, 83]
abbrev dktX0_findOdds_4 : List UInt8 := dkwX0_findOdds_4 ++ dktX0_findOdds_5
def dkwX0_findOdds_3 : List UInt8 := [4, 21, 4, 120, 167, 0, 4, 3, 128, 62, 42, 89, 180, 1, 27, 21, 5, 153, 0, 9, 20, 0, 166]
abbrev dktX0_findOdds_3 : List UInt8 := dkwX0_findOdds_3 ++ dktX0_findOdds_4
def dkwX0_findOdds_2 : List UInt8 := [4, 96, 51, 3, 182, 0, 3, 4, 160, 0, 7, 4, 167, 0, 4, 3, 54, 5, 29, 21, 5, 153, 0, 10]
abbrev dktX0_findOdds_2 : List UInt8 := dkwX0_findOdds_2 ++ dktX0_findOdds_3
def dkwX0_findOdds_1 : List UInt8 := [180, 0, 83, 180, 0, 48, 162, 0, 79, 42, 180, 0, 83, 42, 180, 0, 83, 180, 0, 51, 6, 21, 4, 104]
abbrev dktX0_findOdds_1 : List UInt8 := dkwX0_findOdds_1 ++ dktX0_findOdds_2
def dkwX0_findOdds_0 : List UInt8 := [3, 62, 42, 9, 181, 1, 20, 42, 9, 181, 1, 24, 42, 10, 181, 1, 27, 3, 54, 4, 21, 4, 42]
abbrev dktX0_findOdds_0 : List UInt8 := dkwX0_findOdds_0 ++ dktX0_findOdds_1
theorem dksX0_findOdds_0 : cX0_findOdds.data.toList.drop 0 = dktX0_findOdds_0 := by decide +kernel
theorem dksX0_findOdds_1 : cX0_findOdds.data.toList.drop 23 = dktX0_findOdds_1 := dk_seg dksX0_findOdds_0 23 rfl rfl
theorem dksX0_findOdds_2 : cX0_findOdds.data.toList.drop 47 = dktX0_findOdds_2 := dk_seg dksX0_findOdds_1 24 rfl rfl
theorem dksX0_findOdds_3 : cX0_findOdds.data.toList.drop 71 = dktX0_findOdds_3 := dk_seg dksX0_findOdds_2 24 rfl rfl
theorem dksX0_findOdds_4 : cX0_findOdds.data.toList.drop 94 = dktX0_findOdds_4 := dk_seg dksX0_findOdds_3 23 rfl rfl
theorem dksX0_findOdds_5 : cX0_findOdds.data.toList.drop 118 = dktX0_findOdds_5 := dk_seg dksX0_findOdds_4 24 rfl rfl
theorem dksX0_findOdds_6 : cX0_findOdds.data.toList.drop 142 = dktX0_findOdds_6 := dk_seg dksX0_findOdds_5 24 rfl rfl
theorem dksX0_findOdds_7 : cX0_findOdds.data.toList.drop 164 = dktX0_findOdds_7 := dk_seg dksX0_findOdds_6 22 rfl rfl
theorem dksX0_findOdds_8 : cX0_findOdds.data.toList.drop 188 = dktX0_findOdds_8 := dk_seg dksX0_findOdds_7 24 rfl rfl
theorem dksX0_findOdds_9 : cX0_findOdds.data.toList.drop 212 = dktX0_findOdds_9 := dk_seg dksX0_findOdds_8 24 rfl rfl
theorem dksX0_findOdds_10 : cX0_findOdds.data.toList.drop 236 = dktX0_findOdds_10 := dk_seg dksX0_findOdds_9 24 rfl rfl
theorem dksX0_findOdds_11 : cX0_findOdds.data.toList.drop 260 = dktX0_findOdds_11 := dk_seg dksX0_findOdds_10 24 rfl rfl
theorem dX0_findOdds_0 : decode cX0_findOdds 0 = .ok (.iconst 0, 1) := dk_3 (dk_at dksX0_findOdds_0 0 rfl rfl)
theorem dX0_findOdds_1 : decode cX0_findOdds 1 = .ok (.istore_n 3, 1) := dk_62 (dk_at dksX0_findOdds_0 1 rfl rfl)
theorem dX0_findOdds_2 : decode cX0_findOdds 2 = .ok (.aload_n 0, 1) := dk_42 (dk_at dksX0_findOdds_0 2 rfl rfl)
theorem dX0_findOdds_3 : decode cX0_findOdds 3 = .ok (.lconst 0, 1) := dk_9 (dk_at dksX0_findOdds_0 3 rfl rfl)
theorem dX0_findOdds_4 : decode cX0_findOdds 4 = .ok (.putfield 276, 3) := dk_181 1 20 (dk_at dksX0_findOdds_0 4 rfl rfl)
theorem dX0_findOdds_7 : decode cX0_findOdds 7 = .ok (.aload_n 0, 1) := dk_42 (dk_at dksX0_findOdds_0 7 rfl rfl)
theorem dX0_findOdds_8 : decode cX0_findOdds 8 = .ok (.lconst 0, 1) := dk_9 (dk_at dksX0_findOdds_0 8 rfl rfl)
theorem dX0_findOdds_9 : decode cX0_findOdds 9 = .ok (.putfield 280, 3) := dk_181 1 24 (dk_at dksX0_findOdds_0 9 rfl rfl)
theorem dX0_findOdds_12 : decode cX0_findOdds 12 = .ok (.aload_n 0, 1) := dk_42 (dk_at dksX0_findOdds_0 12 rfl rfl)
theorem dX0_findOdds_13 : decode cX0_findOdds 13 = .ok (.lconst 1, 1) := dk_10 (dk_at dksX0_findOdds_0 13 rfl rfl)
theorem dX0_findOdds_14 : decode cX0_findOdds 14 = .ok (.putfield 283, 3) := dk_181 1 27 (dk_at dksX0_findOdds_0 14 rfl rfl)
theorem dX0_findOdds_17 : decode cX0_findOdds 17 = .ok (.iconst 0, 1) := dk_3 (dk_at dksX0_findOdds_0 17 rfl rfl)
theorem dX0_findOdds_18 : decode cX0_findOdds 18 = .ok (.istore 4, 2) := dk_54 4 (dk_at dksX0_findOdds_0 18 rfl rfl)
theorem dX0_findOdds_20 : decode cX0_findOdds 20 = .ok (.iload 4, 2) := dk_21 4 (dk_at dksX0_findOdds_0 20 rfl rfl)
theorem dX0_findOdds_22 : decode cX0_findOdds 22 = .ok (.aload_n 0, 1) := dk_42 (dk_at dksX0_findOdds_0 22 rfl rfl)
theorem dX0_findOdds_23 : decode cX0_findOdds 23 = .ok (.getfield 83, 3) := dk_180 0 83 (dk_at dksX0_findOdds_1 0 rfl rfl)
theorem dX0_findOdds_26 : decode cX0_findOdds 26 = .ok (.getfield 48, 3) := dk_180 0 48 (dk_at dksX0_findOdds_1 3 rfl rfl)
theorem dX0_findOdds_29 : decode cX0_findOdds 29 = .ok (.if_icmp .ge 79, 3) := dk_162 0 79 (dk_at dksX0_findOdds_1 6 rfl rfl)
theorem dX0_findOdds_32 : decode cX0_findOdds 32 = .ok (.aload_n 0, 1) := dk_42 (dk_at dksX0_findOdds_1 9 rfl rfl)
theorem dX0_findOdds_33 : decode cX0_findOdds 33 = .ok (.getfield 83, 3) := dk_180 0 83 (dk_at dksX0_findOdds_1 10 rfl rfl)
theorem dX0_findOdds_36 : decode cX0_findOdds 36 = .ok (.aload_n 0, 1) := dk_42 (dk_at dksX0_findOdds_1 13 rfl rfl)
theorem dX0_findOdds_37 : decode cX0_findOdds 37 = .ok (.getfield 83, 3) := dk_180 0 83 (dk_at dksX0_findOdds_1 14 rfl rfl)
theorem dX0_findOdds_40 : decode cX0_findOdds 40 = .ok (.getfield 51, 3) := dk_180 0 51 (dk_at dksX0_findOdds_1 17 rfl rfl)
theorem dX0_findOdds_43 : decode cX0_findOdds 43 = .ok (.iconst 3, 1) := dk_6 (dk_at dksX0_findOdds_1 20 rfl rfl)
theorem dX0_findOdds_44 : decode cX0_findOdds 44 = .ok (.iload 4, 2) := dk_21 4 (dk_at dksX0_findOdds_1 21 rfl rfl)
theorem dX0_findOdds_46 : decode cX0_findOdds 46 = .ok (.imul, 1) := dk_104 (dk_at dksX0_findOdds_1 23 rfl rfl)
theorem dX0_findOdds_47 : decode cX0_findOdds 47 = .ok (.iconst 1, 1) := dk_4 (dk_at dksX0_findOdds_2 0 rfl rfl)
theorem dX0_findOdds_48 : decode cX0_findOdds 48 = .ok (.iadd, 1) := dk_96 (dk_at dksX0_findOdds_2 1 rfl rfl)
theorem dX0_findOdds_49 : decode cX0_findOdds 49 = .ok (.baload, 1) := dk_51 (dk_at dksX0_findOdds_2 2 rfl rfl)
theorem dX0_findOdds_50 : decode cX0_findOdds 50 = .ok (.iconst 0, 1) := dk_3 (dk_at dksX0_findOdds_2 3 rfl rfl)
theorem dX0_findOdds_51 : decode cX0_findOdds 51 = .ok (.invokevirtual 3, 3) := dk_182 0 3 (dk_at dksX0_findOdds_2 4 rfl rfl)
theorem dX0_findOdds_54 : decode cX0_findOdds 54 = .ok (.iconst 1, 1) := dk_4 (dk_at dksX0_findOdds_2 7 rfl rfl)
theorem dX0_findOdds_55 : decode cX0_findOdds 55 = .ok (.if_icmp .ne 7, 3) := dk_160 0 7 (dk_at dksX0_findOdds_2 8 rfl rfl)
theorem dX0_findOdds_58 : decode cX0_findOdds 58 = .ok (.iconst 1, 1) := dk_4 (dk_at dksX0_findOdds_2 11 rfl rfl)
theorem dX0_findOdds_59 : decode cX0_findOdds 59 = .ok (.goto 4, 3) := dk_167 0 4 (dk_at dksX0_findOdds_2 12 rfl rfl)
theorem dX0_findOdds_62 : decode cX0_findOdds 62 = .ok (.iconst 0, 1) := dk_3 (dk_at dksX0_findOdds_2 15 rfl rfl)
theorem dX0_findOdds_63 : decode cX0_findOdds 63 = .ok (.istore 5, 2) := dk_54 5 (dk_at dksX0_findOdds_2 16 rfl rfl)
theorem dX0_findOdds_65 : decode cX0_findOdds 65 = .ok (.iload_n 3, 1) := dk_29 (dk_at dksX0_findOdds_2 18 rfl rfl)
theorem dX0_findOdds_66 : decode cX0_findOdds 66 = .ok (.iload 5, 2) := dk_21 5 (dk_at dksX0_findOdds_2 19 rfl rfl)
theorem dX0_findOdds_68 : decode cX0_findOdds 68 = .ok (.ifCond .eq 10, 3) := dk_153 0 10 (dk_at dksX0_findOdds_2 21 rfl rfl)
theorem dX0_findOdds_71 : decode cX0_findOdds 71 = .ok (.iconst 1, 1) := dk_4 (dk_at dksX0_findOdds_3 0 rfl rfl)
theorem dX0_findOdds_72 : decode cX0_findOdds 72 = .ok (.iload 4, 2) := dk_21 4 (dk_at dksX0_findOdds_3 1 rfl rfl)
theorem dX0_findOdds_74 : decode cX0_findOdds 74 = .ok (.ishl, 1) := dk_120 (dk_at dksX0_findOdds_3 3 rfl rfl)
theorem dX0_findOdds_75 : decode cX0_findOdds 75 = .ok (.goto 4, 3) := dk_167 0 4 (dk_at dksX0_findOdds_3 4 rfl rfl)
theorem dX0_findOdds_78 : decode cX0_findOdds 78 = .ok (.iconst 0, 1) := dk_3 (dk_at dksX0_findOdds_3 7 rfl rfl)
theorem dX0_findOdds_79 : decode cX0_findOdds 79 = .ok (.ior, 1) := dk_128 (dk_at dksX0_findOdds_3 8 rfl rfl)
theorem dX0_findOdds_80 : decode cX0_findOdds 80 = .ok (.istore_n 3, 1) := dk_62 (dk_at dksX0_findOdds_3 9 rfl rfl)
theorem dX0_findOdds_81 : decode cX0_findOdds 81 = .ok (.aload_n 0, 1) := dk_42 (dk_at dksX0_findOdds_3 10 rfl rfl)
theorem dX0_findOdds_82 : decode cX0_findOdds 82 = .ok (.dup, 1) := dk_89 (dk_at dksX0_findOdds_3 11 rfl rfl)
theorem dX0_findOdds_83 : decode cX0_findOdds 83 = .ok (.getfield 283, 3) := dk_180 1 27 (dk_at dksX0_findOdds_3 12 rfl rfl)
theorem dX0_findOdds_86 : decode cX0_findOdds 86 = .ok (.iload 5, 2) := dk_21 5 (dk_at dksX0_findOdds_3 15 rfl rfl)
theorem dX0_findOdds_88 : decode cX0_findOdds 88 = .ok (.ifCond .eq 9, 3) := dk_153 0 9 (dk_at dksX0_findOdds_3 17 rfl rfl)
theorem dX0_findOdds_91 : decode cX0_findOdds 91 = .ok (.ldc2_w 166, 3) := dk_20 0 166 (dk_at dksX0_findOdds_3 20 rfl rfl)
theorem dX0_findOdds_94 : decode cX0_findOdds 94 = .ok (.goto 4, 3) := dk_167 0 4 (dk_at dksX0_findOdds_4 0 rfl rfl)
theorem dX0_findOdds_97 : decode cX0_findOdds 97 = .ok (.lconst 1, 1) := dk_10 (dk_at dksX0_findOdds_4 3 rfl rfl)
theorem dX0_findOdds_98 : decode cX0_findOdds 98 = .ok (.lmul, 1) := dk_105 (dk_at dksX0_findOdds_4 4 rfl rfl)
theorem dX0_findOdds_99 : decode cX0_findOdds 99 = .ok (.putfield 283, 3) := dk_181 1 27 (dk_at dksX0_findOdds_4 5 rfl rfl)
theorem dX0_findOdds_102 : decode cX0_findOdds 102 = .ok (.iinc 4 1, 3) := dk_132 4 1 (dk_at dksX0_findOdds_4 8 rfl rfl)
theorem dX0_findOdds_105 : decode cX0_findOdds 105 = .ok (.goto (-85), 3) := dk_167 255 171 (dk_at dksX0_findOdds_4 11 rfl rfl)
theorem dX0_findOdds_108 : decode cX0_findOdds 108 = .ok (.iconst 0, 1) := dk_3 (dk_at dksX0_findOdds_4 14 rfl rfl)
theorem dX0_findOdds_109 : decode cX0_findOdds 109 = .ok (.istore 4, 2) := dk_54 4 (dk_at dksX0_findOdds_4 15 rfl rfl)
theorem dX0_findOdds_111 : decode cX0_findOdds 111 = .ok (.iload 4, 2) := dk_21 4 (dk_at dksX0_findOdds_4 17 rfl rfl)
theorem dX0_findOdds_113 : decode cX0_findOdds 113 = .ok (.iconst 1, 1) := dk_4 (dk_at dksX0_findOdds_4 19 rfl rfl)
theorem dX0_findOdds_114 : decode cX0_findOdds 114 = .ok (.aload_n 0, 1) := dk_42 (dk_at dksX0_findOdds_4 20 rfl rfl)
theorem dX0_findOdds_115 : decode cX0_findOdds 115 = .ok (.getfield 83, 3) := dk_180 0 83 (dk_at dksX0_findOdds_4 21 rfl rfl)
theorem dX0_findOdds_118 : decode cX0_findOdds 118 = .ok (.getfield 48, 3) := dk_180 0 48 (dk_at dksX0_findOdds_5 0 rfl rfl)
theorem dX0_findOdds_121 : decode cX0_findOdds 121 = .ok (.ishl, 1) := dk_120 (dk_at dksX0_findOdds_5 3 rfl rfl)
theorem dX0_findOdds_122 : decode cX0_findOdds 122 = .ok (.if_icmp .ge 153, 3) := dk_162 0 153 (dk_at dksX0_findOdds_5 4 rfl rfl)
theorem dX0_findOdds_125 : decode cX0_findOdds 125 = .ok (.iload 4, 2) := dk_21 4 (dk_at dksX0_findOdds_5 7 rfl rfl)
theorem dX0_findOdds_127 : decode cX0_findOdds 127 = .ok (.iload_n 3, 1) := dk_29 (dk_at dksX0_findOdds_5 9 rfl rfl)
theorem dX0_findOdds_128 : decode cX0_findOdds 128 = .ok (.iconst (-1), 1) := dk_2 (dk_at dksX0_findOdds_5 10 rfl rfl)
theorem dX0_findOdds_129 : decode cX0_findOdds 129 = .ok (.ixor, 1) := dk_130 (dk_at dksX0_findOdds_5 11 rfl rfl)
theorem dX0_findOdds_130 : decode cX0_findOdds 130 = .ok (.iand, 1) := dk_126 (dk_at dksX0_findOdds_5 12 rfl rfl)
theorem dX0_findOdds_131 : decode cX0_findOdds 131 = .ok (.ifCond .ne 138, 3) := dk_154 0 138 (dk_at dksX0_findOdds_5 13 rfl rfl)
theorem dX0_findOdds_134 : decode cX0_findOdds 134 = .ok (.lconst 1, 1) := dk_10 (dk_at dksX0_findOdds_5 16 rfl rfl)
theorem dX0_findOdds_135 : decode cX0_findOdds 135 = .ok (.lstore 5, 2) := dk_55 5 (dk_at dksX0_findOdds_5 17 rfl rfl)
theorem dX0_findOdds_137 : decode cX0_findOdds 137 = .ok (.iconst 0, 1) := dk_3 (dk_at dksX0_findOdds_5 19 rfl rfl)
theorem dX0_findOdds_138 : decode cX0_findOdds 138 = .ok (.istore 7, 2) := dk_54 7 (dk_at dksX0_findOdds_5 20 rfl rfl)
theorem dX0_findOdds_140 : decode cX0_findOdds 140 = .ok (.iload 7, 2) := dk_21 7 (dk_at dksX0_findOdds_5 22 rfl rfl)
theorem dX0_findOdds_142 : decode cX0_findOdds 142 = .ok (.aload_n 0, 1) := dk_42 (dk_at dksX0_findOdds_6 0 rfl rfl)
theorem dX0_findOdds_143 : decode cX0_findOdds 143 = .ok (.getfield 83, 3) := dk_180 0 83 (dk_at dksX0_findOdds_6 1 rfl rfl)
theorem dX0_findOdds_146 : decode cX0_findOdds 146 = .ok (.getfield 48, 3) := dk_180 0 48 (dk_at dksX0_findOdds_6 4 rfl rfl)
theorem dX0_findOdds_149 : decode cX0_findOdds 149 = .ok (.if_icmp .ge 47, 3) := dk_162 0 47 (dk_at dksX0_findOdds_6 7 rfl rfl)
theorem dX0_findOdds_152 : decode cX0_findOdds 152 = .ok (.lload 5, 2) := dk_22 5 (dk_at dksX0_findOdds_6 10 rfl rfl)
theorem dX0_findOdds_154 : decode cX0_findOdds 154 = .ok (.iload_n 3, 1) := dk_29 (dk_at dksX0_findOdds_6 12 rfl rfl)
theorem dX0_findOdds_155 : decode cX0_findOdds 155 = .ok (.iload 7, 2) := dk_21 7 (dk_at dksX0_findOdds_6 13 rfl rfl)
theorem dX0_findOdds_157 : decode cX0_findOdds 157 = .ok (.invokestatic 59, 3) := dk_184 0 59 (dk_at dksX0_findOdds_6 15 rfl rfl)
theorem dX0_findOdds_160 : decode cX0_findOdds 160 = .ok (.ifCond .ne 7, 3) := dk_154 0 7 (dk_at dksX0_findOdds_6 18 rfl rfl)
theorem dX0_findOdds_163 : decode cX0_findOdds 163 = .ok (.lconst 1, 1) := dk_10 (dk_at dksX0_findOdds_6 21 rfl rfl)
theorem dX0_findOdds_164 : decode cX0_findOdds 164 = .ok (.goto 23, 3) := dk_167 0 23 (dk_at dksX0_findOdds_7 0 rfl rfl)
theorem dX0_findOdds_167 : decode cX0_findOdds 167 = .ok (.iload 4, 2) := dk_21 4 (dk_at dksX0_findOdds_7 3 rfl rfl)
theorem dX0_findOdds_169 : decode cX0_findOdds 169 = .ok (.iload 7, 2) := dk_21 7 (dk_at dksX0_findOdds_7 5 rfl rfl)
theorem dX0_findOdds_171 : decode cX0_findOdds 171 = .ok (.invokestatic 59, 3) := dk_184 0 59 (dk_at dksX0_findOdds_7 7 rfl rfl)
theorem dX0_findOdds_174 : decode cX0_findOdds 174 = .ok (.ifCond .eq 8, 3) := dk_153 0 8 (dk_at dksX0_findOdds_7 10 rfl rfl)
theorem dX0_findOdds_177 : decode cX0_findOdds 177 = .ok (.iload_n 1, 1) := dk_27 (dk_at dksX0_findOdds_7 13 rfl rfl)
theorem dX0_findOdds_178 : decode cX0_findOdds 178 = .ok (.i2l, 1) := dk_133 (dk_at dksX0_findOdds_7 14 rfl rfl)
theorem dX0_findOdds_179 : decode cX0_findOdds 179 = .ok (.goto 8, 3) := dk_167 0 8 (dk_at dksX0_findOdds_7 15 rfl rfl)
theorem dX0_findOdds_182 : decode cX0_findOdds 182 = .ok (.bipush 10, 2) := dk_16 10 (dk_at dksX0_findOdds_7 18 rfl rfl)
theorem dX0_findOdds_184 : decode cX0_findOdds 184 = .ok (.iload_n 1, 1) := dk_27 (dk_at dksX0_findOdds_7 20 rfl rfl)
theorem dX0_findOdds_185 : decode cX0_findOdds 185 = .ok (.isub, 1) := dk_100 (dk_at dksX0_findOdds_7 21 rfl rfl)
theorem dX0_findOdds_186 : decode cX0_findOdds 186 = .ok (.i2l, 1) := dk_133 (dk_at dksX0_findOdds_7 22 rfl rfl)
theorem dX0_findOdds_187 : decode cX0_findOdds 187 = .ok (.lmul, 1) := dk_105 (dk_at dksX0_findOdds_7 23 rfl rfl)
theorem dX0_findOdds_188 : decode cX0_findOdds 188 = .ok (.lstore 5, 2) := dk_55 5 (dk_at dksX0_findOdds_8 0 rfl rfl)
theorem dX0_findOdds_190 : decode cX0_findOdds 190 = .ok (.iinc 7 1, 3) := dk_132 7 1 (dk_at dksX0_findOdds_8 2 rfl rfl)
theorem dX0_findOdds_193 : decode cX0_findOdds 193 = .ok (.goto (-53), 3) := dk_167 255 203 (dk_at dksX0_findOdds_8 5 rfl rfl)
theorem dX0_findOdds_196 : decode cX0_findOdds 196 = .ok (.aload_n 0, 1) := dk_42 (dk_at dksX0_findOdds_8 8 rfl rfl)
theorem dX0_findOdds_197 : decode cX0_findOdds 197 = .ok (.getfield 87, 3) := dk_180 0 87 (dk_at dksX0_findOdds_8 9 rfl rfl)
theorem dX0_findOdds_200 : decode cX0_findOdds 200 = .ok (.aload_n 0, 1) := dk_42 (dk_at dksX0_findOdds_8 12 rfl rfl)
theorem dX0_findOdds_201 : decode cX0_findOdds 201 = .ok (.getfield 83, 3) := dk_180 0 83 (dk_at dksX0_findOdds_8 13 rfl rfl)
theorem dX0_findOdds_204 : decode cX0_findOdds 204 = .ok (.invokevirtual 144, 3) := dk_182 0 144 (dk_at dksX0_findOdds_8 16 rfl rfl)
theorem dX0_findOdds_207 : decode cX0_findOdds 207 = .ok (.aload_n 0, 1) := dk_42 (dk_at dksX0_findOdds_8 19 rfl rfl)
theorem dX0_findOdds_208 : decode cX0_findOdds 208 = .ok (.aload_n 0, 1) := dk_42 (dk_at dksX0_findOdds_8 20 rfl rfl)
theorem dX0_findOdds_209 : decode cX0_findOdds 209 = .ok (.getfield 87, 3) := dk_180 0 87 (dk_at dksX0_findOdds_8 21 rfl rfl)
theorem dX0_findOdds_212 : decode cX0_findOdds 212 = .ok (.iload 4, 2) := dk_21 4 (dk_at dksX0_findOdds_9 0 rfl rfl)
theorem dX0_findOdds_214 : decode cX0_findOdds 214 = .ok (.invokevirtual 209, 3) := dk_182 0 209 (dk_at dksX0_findOdds_9 2 rfl rfl)
theorem dX0_findOdds_217 : decode cX0_findOdds 217 = .ok (.aload_n 0, 1) := dk_42 (dk_at dksX0_findOdds_9 5 rfl rfl)
theorem dX0_findOdds_218 : decode cX0_findOdds 218 = .ok (.dup, 1) := dk_89 (dk_at dksX0_findOdds_9 6 rfl rfl)
theorem dX0_findOdds_219 : decode cX0_findOdds 219 = .ok (.getfield 276, 3) := dk_180 1 20 (dk_at dksX0_findOdds_9 7 rfl rfl)
theorem dX0_findOdds_222 : decode cX0_findOdds 222 = .ok (.aload_n 0, 1) := dk_42 (dk_at dksX0_findOdds_9 10 rfl rfl)
theorem dX0_findOdds_223 : decode cX0_findOdds 223 = .ok (.getfield 87, 3) := dk_180 0 87 (dk_at dksX0_findOdds_9 11 rfl rfl)
theorem dX0_findOdds_226 : decode cX0_findOdds 226 = .ok (.invokevirtual 173, 3) := dk_182 0 173 (dk_at dksX0_findOdds_9 14 rfl rfl)
theorem dX0_findOdds_229 : decode cX0_findOdds 229 = .ok (.iload_n 2, 1) := dk_28 (dk_at dksX0_findOdds_9 17 rfl rfl)
theorem dX0_findOdds_230 : decode cX0_findOdds 230 = .ok (.invokestatic 59, 3) := dk_184 0 59 (dk_at dksX0_findOdds_9 18 rfl rfl)
theorem dX0_findOdds_233 : decode cX0_findOdds 233 = .ok (.ifCond .eq 8, 3) := dk_153 0 8 (dk_at dksX0_findOdds_9 21 rfl rfl)
theorem dX0_findOdds_236 : decode cX0_findOdds 236 = .ok (.lload 5, 2) := dk_22 5 (dk_at dksX0_findOdds_10 0 rfl rfl)
theorem dX0_findOdds_238 : decode cX0_findOdds 238 = .ok (.goto 4, 3) := dk_167 0 4 (dk_at dksX0_findOdds_10 2 rfl rfl)
theorem dX0_findOdds_241 : decode cX0_findOdds 241 = .ok (.lconst 0, 1) := dk_9 (dk_at dksX0_findOdds_10 5 rfl rfl)
theorem dX0_findOdds_242 : decode cX0_findOdds 242 = .ok (.ladd, 1) := dk_97 (dk_at dksX0_findOdds_10 6 rfl rfl)
theorem dX0_findOdds_243 : decode cX0_findOdds 243 = .ok (.putfield 276, 3) := dk_181 1 20 (dk_at dksX0_findOdds_10 7 rfl rfl)
theorem dX0_findOdds_246 : decode cX0_findOdds 246 = .ok (.aload_n 0, 1) := dk_42 (dk_at dksX0_findOdds_10 10 rfl rfl)
theorem dX0_findOdds_247 : decode cX0_findOdds 247 = .ok (.dup, 1) := dk_89 (dk_at dksX0_findOdds_10 11 rfl rfl)
theorem dX0_findOdds_248 : decode cX0_findOdds 248 = .ok (.getfield 280, 3) := dk_180 1 24 (dk_at dksX0_findOdds_10 12 rfl rfl)
theorem dX0_findOdds_251 : decode cX0_findOdds 251 = .ok (.lload 5, 2) := dk_22 5 (dk_at dksX0_findOdds_10 15 rfl rfl)
theorem dX0_findOdds_253 : decode cX0_findOdds 253 = .ok (.aload_n 0, 1) := dk_42 (dk_at dksX0_findOdds_10 17 rfl rfl)
theorem dX0_findOdds_254 : decode cX0_findOdds 254 = .ok (.getfield 87, 3) := dk_180 0 87 (dk_at dksX0_findOdds_10 18 rfl rfl)
theorem dX0_findOdds_257 : decode cX0_findOdds 257 = .ok (.invokevirtual 173, 3) := dk_182 0 173 (dk_at dksX0_findOdds_10 21 rfl rfl)
theorem dX0_findOdds_260 : decode cX0_findOdds 260 = .ok (.invokestatic 218, 3) := dk_184 0 218 (dk_at dksX0_findOdds_11 0 rfl rfl)
theorem dX0_findOdds_263 : decode cX0_findOdds 263 = .ok (.i2l, 1) := dk_133 (dk_at dksX0_findOdds_11 3 rfl rfl)
theorem dX0_findOdds_264 : decode cX0_findOdds 264 = .ok (.lmul, 1) := dk_105 (dk_at dksX0_findOdds_11 4 rfl rfl)
theorem dX0_findOdds_265 : decode cX0_findOdds 265 = .ok (.ladd, 1) := dk_97 (dk_at dksX0_findOdds_11 5 rfl rfl)
theorem dX0_findOdds_266 : decode cX0_findOdds 266 = .ok (.putfield 280, 3) := dk_181 1 24 (dk_at dksX0_findOdds_11 6 rfl rfl)
theorem dX0_findOdds_269 : decode cX0_findOdds 269 = .ok (.iinc 4 1, 3) := dk_132 4 1 (dk_at dksX0_findOdds_11 9 rfl rfl)
theorem dX0_findOdds_272 : decode cX0_findOdds 272 = .ok (.goto (-161), 3) := dk_167 255 95 (dk_at dksX0_findOdds_11 12 rfl rfl)
theorem dX0_findOdds_275 : decode cX0_findOdds 275 = .ok (.return_, 1) := dk_177 (dk_at dksX0_findOdds_11 15 rfl rfl)
abbrev cX0_lowest : ByteArray := prog_1_method_47_code
def yX0_lowest : MethodName := ⟨RX0, "lowest", "(JJI)J"⟩
def dkwX0_lowest_1 : List UInt8 := [22, 9, 55, 7, 167, 255, 234, 21, 4, 154, 0, 10, 30, 22, 5, 109, 167, 0, 7, 32, 22, 5, 109, 173]
abbrev dktX0_lowest_1 : List UInt8 := dkwX0_lowest_1 ++ []
def dkwX0_lowest_0 : List UInt8 := [32, 55, 5, 30, 55, 7, 22, 7, 9, 148, 153, 0, 21, 22, 5, 22, 7, 113, 55, 9, 22, 7, 55, 5]
abbrev dktX0_lowest_0 : List UInt8 := dkwX0_lowest_0 ++ dktX0_lowest_1
theorem dksX0_lowest_0 : cX0_lowest.data.toList.drop 0 = dktX0_lowest_0 := by decide +kernel
theorem dksX0_lowest_1 : cX0_lowest.data.toList.drop 24 = dktX0_lowest_1 := dk_seg dksX0_lowest_0 24 rfl rfl
theorem dX0_lowest_0 : decode cX0_lowest 0 = .ok (.lload_n 2, 1) := dk_32 (dk_at dksX0_lowest_0 0 rfl rfl)
theorem dX0_lowest_1 : decode cX0_lowest 1 = .ok (.lstore 5, 2) := dk_55 5 (dk_at dksX0_lowest_0 1 rfl rfl)
theorem dX0_lowest_3 : decode cX0_lowest 3 = .ok (.lload_n 0, 1) := dk_30 (dk_at dksX0_lowest_0 3 rfl rfl)
theorem dX0_lowest_4 : decode cX0_lowest 4 = .ok (.lstore 7, 2) := dk_55 7 (dk_at dksX0_lowest_0 4 rfl rfl)
theorem dX0_lowest_6 : decode cX0_lowest 6 = .ok (.lload 7, 2) := dk_22 7 (dk_at dksX0_lowest_0 6 rfl rfl)
theorem dX0_lowest_8 : decode cX0_lowest 8 = .ok (.lconst 0, 1) := dk_9 (dk_at dksX0_lowest_0 8 rfl rfl)
theorem dX0_lowest_9 : decode cX0_lowest 9 = .ok (.lcmp, 1) := dk_148 (dk_at dksX0_lowest_0 9 rfl rfl)
theorem dX0_lowest_10 : decode cX0_lowest 10 = .ok (.ifCond .eq 21, 3) := dk_153 0 21 (dk_at dksX0_lowest_0 10 rfl rfl)
theorem dX0_lowest_13 : decode cX0_lowest 13 = .ok (.lload 5, 2) := dk_22 5 (dk_at dksX0_lowest_0 13 rfl rfl)
theorem dX0_lowest_15 : decode cX0_lowest 15 = .ok (.lload 7, 2) := dk_22 7 (dk_at dksX0_lowest_0 15 rfl rfl)
theorem dX0_lowest_17 : decode cX0_lowest 17 = .ok (.lrem, 1) := dk_113 (dk_at dksX0_lowest_0 17 rfl rfl)
theorem dX0_lowest_18 : decode cX0_lowest 18 = .ok (.lstore 9, 2) := dk_55 9 (dk_at dksX0_lowest_0 18 rfl rfl)
theorem dX0_lowest_20 : decode cX0_lowest 20 = .ok (.lload 7, 2) := dk_22 7 (dk_at dksX0_lowest_0 20 rfl rfl)
theorem dX0_lowest_22 : decode cX0_lowest 22 = .ok (.lstore 5, 2) := dk_55 5 (dk_at dksX0_lowest_0 22 rfl rfl)
theorem dX0_lowest_24 : decode cX0_lowest 24 = .ok (.lload 9, 2) := dk_22 9 (dk_at dksX0_lowest_1 0 rfl rfl)
theorem dX0_lowest_26 : decode cX0_lowest 26 = .ok (.lstore 7, 2) := dk_55 7 (dk_at dksX0_lowest_1 2 rfl rfl)
theorem dX0_lowest_28 : decode cX0_lowest 28 = .ok (.goto (-22), 3) := dk_167 255 234 (dk_at dksX0_lowest_1 4 rfl rfl)
theorem dX0_lowest_31 : decode cX0_lowest 31 = .ok (.iload 4, 2) := dk_21 4 (dk_at dksX0_lowest_1 7 rfl rfl)
theorem dX0_lowest_33 : decode cX0_lowest 33 = .ok (.ifCond .ne 10, 3) := dk_154 0 10 (dk_at dksX0_lowest_1 9 rfl rfl)
theorem dX0_lowest_36 : decode cX0_lowest 36 = .ok (.lload_n 0, 1) := dk_30 (dk_at dksX0_lowest_1 12 rfl rfl)
theorem dX0_lowest_37 : decode cX0_lowest 37 = .ok (.lload 5, 2) := dk_22 5 (dk_at dksX0_lowest_1 13 rfl rfl)
theorem dX0_lowest_39 : decode cX0_lowest 39 = .ok (.ldiv, 1) := dk_109 (dk_at dksX0_lowest_1 15 rfl rfl)
theorem dX0_lowest_40 : decode cX0_lowest 40 = .ok (.goto 7, 3) := dk_167 0 7 (dk_at dksX0_lowest_1 16 rfl rfl)
theorem dX0_lowest_43 : decode cX0_lowest 43 = .ok (.lload_n 2, 1) := dk_32 (dk_at dksX0_lowest_1 19 rfl rfl)
theorem dX0_lowest_44 : decode cX0_lowest 44 = .ok (.lload 5, 2) := dk_22 5 (dk_at dksX0_lowest_1 20 rfl rfl)
theorem dX0_lowest_46 : decode cX0_lowest 46 = .ok (.ldiv, 1) := dk_109 (dk_at dksX0_lowest_1 22 rfl rfl)
theorem dX0_lowest_47 : decode cX0_lowest 47 = .ok (.lreturn, 1) := dk_173 (dk_at dksX0_lowest_1 23 rfl rfl)
abbrev cX0_mean : ByteArray := prog_1_method_50_code
def yX0_mean : MethodName := ⟨RX0, "mean", "(II)J"⟩
def dkwX0_mean_1 : List UInt8 := [27, 3, 182, 1, 32, 42, 180, 1, 24, 42, 180, 1, 27, 28, 184, 1, 36, 173]
abbrev dktX0_mean_1 : List UInt8 := dkwX0_mean_1 ++ []
def dkwX0_mean_0 : List UInt8 := [27, 133, 9, 20, 0, 166, 184, 0, 122, 153, 0, 10, 28, 184, 0, 215, 154, 0, 7, 20, 1, 30, 173, 42]
abbrev dktX0_mean_0 : List UInt8 := dkwX0_mean_0 ++ dktX0_mean_1
theorem dksX0_mean_0 : cX0_mean.data.toList.drop 0 = dktX0_mean_0 := by decide +kernel
theorem dksX0_mean_1 : cX0_mean.data.toList.drop 24 = dktX0_mean_1 := dk_seg dksX0_mean_0 24 rfl rfl
theorem dX0_mean_0 : decode cX0_mean 0 = .ok (.iload_n 1, 1) := dk_27 (dk_at dksX0_mean_0 0 rfl rfl)
theorem dX0_mean_1 : decode cX0_mean 1 = .ok (.i2l, 1) := dk_133 (dk_at dksX0_mean_0 1 rfl rfl)
theorem dX0_mean_2 : decode cX0_mean 2 = .ok (.lconst 0, 1) := dk_9 (dk_at dksX0_mean_0 2 rfl rfl)
theorem dX0_mean_3 : decode cX0_mean 3 = .ok (.ldc2_w 166, 3) := dk_20 0 166 (dk_at dksX0_mean_0 3 rfl rfl)
theorem dX0_mean_6 : decode cX0_mean 6 = .ok (.invokestatic 122, 3) := dk_184 0 122 (dk_at dksX0_mean_0 6 rfl rfl)
theorem dX0_mean_9 : decode cX0_mean 9 = .ok (.ifCond .eq 10, 3) := dk_153 0 10 (dk_at dksX0_mean_0 9 rfl rfl)
theorem dX0_mean_12 : decode cX0_mean 12 = .ok (.iload_n 2, 1) := dk_28 (dk_at dksX0_mean_0 12 rfl rfl)
theorem dX0_mean_13 : decode cX0_mean 13 = .ok (.invokestatic 215, 3) := dk_184 0 215 (dk_at dksX0_mean_0 13 rfl rfl)
theorem dX0_mean_16 : decode cX0_mean 16 = .ok (.ifCond .ne 7, 3) := dk_154 0 7 (dk_at dksX0_mean_0 16 rfl rfl)
theorem dX0_mean_19 : decode cX0_mean 19 = .ok (.ldc2_w 286, 3) := dk_20 1 30 (dk_at dksX0_mean_0 19 rfl rfl)
theorem dX0_mean_22 : decode cX0_mean 22 = .ok (.lreturn, 1) := dk_173 (dk_at dksX0_mean_0 22 rfl rfl)
theorem dX0_mean_23 : decode cX0_mean 23 = .ok (.aload_n 0, 1) := dk_42 (dk_at dksX0_mean_0 23 rfl rfl)
theorem dX0_mean_24 : decode cX0_mean 24 = .ok (.iload_n 1, 1) := dk_27 (dk_at dksX0_mean_1 0 rfl rfl)
theorem dX0_mean_25 : decode cX0_mean 25 = .ok (.iconst 0, 1) := dk_3 (dk_at dksX0_mean_1 1 rfl rfl)
theorem dX0_mean_26 : decode cX0_mean 26 = .ok (.invokevirtual 288, 3) := dk_182 1 32 (dk_at dksX0_mean_1 2 rfl rfl)
theorem dX0_mean_29 : decode cX0_mean 29 = .ok (.aload_n 0, 1) := dk_42 (dk_at dksX0_mean_1 5 rfl rfl)
theorem dX0_mean_30 : decode cX0_mean 30 = .ok (.getfield 280, 3) := dk_180 1 24 (dk_at dksX0_mean_1 6 rfl rfl)
theorem dX0_mean_33 : decode cX0_mean 33 = .ok (.aload_n 0, 1) := dk_42 (dk_at dksX0_mean_1 9 rfl rfl)
theorem dX0_mean_34 : decode cX0_mean 34 = .ok (.getfield 283, 3) := dk_180 1 27 (dk_at dksX0_mean_1 10 rfl rfl)
theorem dX0_mean_37 : decode cX0_mean 37 = .ok (.iload_n 2, 1) := dk_28 (dk_at dksX0_mean_1 13 rfl rfl)
theorem dX0_mean_38 : decode cX0_mean 38 = .ok (.invokestatic 292, 3) := dk_184 1 36 (dk_at dksX0_mean_1 14 rfl rfl)
theorem dX0_mean_41 : decode cX0_mean 41 = .ok (.lreturn, 1) := dk_173 (dk_at dksX0_mean_1 17 rfl rfl)
abbrev cX0_see : ByteArray := prog_1_method_51_code
def yX0_see : MethodName := ⟨RX0, "see", "(III)I"⟩
def dkwX0_see_4 : List UInt8 := [96, 181, 0, 148, 42, 180, 0, 148, 172]
abbrev dktX0_see_4 : List UInt8 := dkwX0_see_4 ++ []
def dkwX0_see_3 : List UInt8 := [28, 145, 84, 42, 180, 0, 97, 6, 42, 180, 0, 148, 104, 5, 96, 29, 145, 84, 42, 89, 180, 0, 148, 4]
abbrev dktX0_see_3 : List UInt8 := dkwX0_see_3 ++ dktX0_see_4
def dkwX0_see_2 : List UInt8 := [180, 0, 97, 6, 42, 180, 0, 148, 104, 27, 145, 84, 42, 180, 0, 97, 6, 42, 180, 0, 148, 104, 4, 96]
abbrev dktX0_see_2 : List UInt8 := dkwX0_see_2 ++ dktX0_see_3
def dkwX0_see_1 : List UInt8 := [20, 1, 42, 184, 0, 122, 154, 0, 5, 2, 172, 42, 180, 0, 148, 16, 6, 160, 0, 6, 16, 253, 172, 42]
abbrev dktX0_see_1 : List UInt8 := dkwX0_see_1 ++ dktX0_see_2
def dkwX0_see_0 : List UInt8 := [42, 27, 182, 0, 162, 153, 0, 27, 28, 133, 9, 20, 1, 40, 184, 0, 122, 153, 0, 15, 29, 133, 9]
abbrev dktX0_see_0 : List UInt8 := dkwX0_see_0 ++ dktX0_see_1
theorem dksX0_see_0 : cX0_see.data.toList.drop 0 = dktX0_see_0 := by decide +kernel
theorem dksX0_see_1 : cX0_see.data.toList.drop 23 = dktX0_see_1 := dk_seg dksX0_see_0 23 rfl rfl
theorem dksX0_see_2 : cX0_see.data.toList.drop 47 = dktX0_see_2 := dk_seg dksX0_see_1 24 rfl rfl
theorem dksX0_see_3 : cX0_see.data.toList.drop 71 = dktX0_see_3 := dk_seg dksX0_see_2 24 rfl rfl
theorem dksX0_see_4 : cX0_see.data.toList.drop 95 = dktX0_see_4 := dk_seg dksX0_see_3 24 rfl rfl
theorem dX0_see_0 : decode cX0_see 0 = .ok (.aload_n 0, 1) := dk_42 (dk_at dksX0_see_0 0 rfl rfl)
theorem dX0_see_1 : decode cX0_see 1 = .ok (.iload_n 1, 1) := dk_27 (dk_at dksX0_see_0 1 rfl rfl)
theorem dX0_see_2 : decode cX0_see 2 = .ok (.invokevirtual 162, 3) := dk_182 0 162 (dk_at dksX0_see_0 2 rfl rfl)
theorem dX0_see_5 : decode cX0_see 5 = .ok (.ifCond .eq 27, 3) := dk_153 0 27 (dk_at dksX0_see_0 5 rfl rfl)
theorem dX0_see_8 : decode cX0_see 8 = .ok (.iload_n 2, 1) := dk_28 (dk_at dksX0_see_0 8 rfl rfl)
theorem dX0_see_9 : decode cX0_see 9 = .ok (.i2l, 1) := dk_133 (dk_at dksX0_see_0 9 rfl rfl)
theorem dX0_see_10 : decode cX0_see 10 = .ok (.lconst 0, 1) := dk_9 (dk_at dksX0_see_0 10 rfl rfl)
theorem dX0_see_11 : decode cX0_see 11 = .ok (.ldc2_w 296, 3) := dk_20 1 40 (dk_at dksX0_see_0 11 rfl rfl)
theorem dX0_see_14 : decode cX0_see 14 = .ok (.invokestatic 122, 3) := dk_184 0 122 (dk_at dksX0_see_0 14 rfl rfl)
theorem dX0_see_17 : decode cX0_see 17 = .ok (.ifCond .eq 15, 3) := dk_153 0 15 (dk_at dksX0_see_0 17 rfl rfl)
theorem dX0_see_20 : decode cX0_see 20 = .ok (.iload_n 3, 1) := dk_29 (dk_at dksX0_see_0 20 rfl rfl)
theorem dX0_see_21 : decode cX0_see 21 = .ok (.i2l, 1) := dk_133 (dk_at dksX0_see_0 21 rfl rfl)
theorem dX0_see_22 : decode cX0_see 22 = .ok (.lconst 0, 1) := dk_9 (dk_at dksX0_see_0 22 rfl rfl)
theorem dX0_see_23 : decode cX0_see 23 = .ok (.ldc2_w 298, 3) := dk_20 1 42 (dk_at dksX0_see_1 0 rfl rfl)
theorem dX0_see_26 : decode cX0_see 26 = .ok (.invokestatic 122, 3) := dk_184 0 122 (dk_at dksX0_see_1 3 rfl rfl)
theorem dX0_see_29 : decode cX0_see 29 = .ok (.ifCond .ne 5, 3) := dk_154 0 5 (dk_at dksX0_see_1 6 rfl rfl)
theorem dX0_see_32 : decode cX0_see 32 = .ok (.iconst (-1), 1) := dk_2 (dk_at dksX0_see_1 9 rfl rfl)
theorem dX0_see_33 : decode cX0_see 33 = .ok (.ireturn, 1) := dk_172 (dk_at dksX0_see_1 10 rfl rfl)
theorem dX0_see_34 : decode cX0_see 34 = .ok (.aload_n 0, 1) := dk_42 (dk_at dksX0_see_1 11 rfl rfl)
theorem dX0_see_35 : decode cX0_see 35 = .ok (.getfield 148, 3) := dk_180 0 148 (dk_at dksX0_see_1 12 rfl rfl)
theorem dX0_see_38 : decode cX0_see 38 = .ok (.bipush 6, 2) := dk_16 6 (dk_at dksX0_see_1 15 rfl rfl)
theorem dX0_see_40 : decode cX0_see 40 = .ok (.if_icmp .ne 6, 3) := dk_160 0 6 (dk_at dksX0_see_1 17 rfl rfl)
theorem dX0_see_43 : decode cX0_see 43 = .ok (.bipush (-3), 2) := dk_16 253 (dk_at dksX0_see_1 20 rfl rfl)
theorem dX0_see_45 : decode cX0_see 45 = .ok (.ireturn, 1) := dk_172 (dk_at dksX0_see_1 22 rfl rfl)
theorem dX0_see_46 : decode cX0_see 46 = .ok (.aload_n 0, 1) := dk_42 (dk_at dksX0_see_1 23 rfl rfl)
theorem dX0_see_47 : decode cX0_see 47 = .ok (.getfield 97, 3) := dk_180 0 97 (dk_at dksX0_see_2 0 rfl rfl)
theorem dX0_see_50 : decode cX0_see 50 = .ok (.iconst 3, 1) := dk_6 (dk_at dksX0_see_2 3 rfl rfl)
theorem dX0_see_51 : decode cX0_see 51 = .ok (.aload_n 0, 1) := dk_42 (dk_at dksX0_see_2 4 rfl rfl)
theorem dX0_see_52 : decode cX0_see 52 = .ok (.getfield 148, 3) := dk_180 0 148 (dk_at dksX0_see_2 5 rfl rfl)
theorem dX0_see_55 : decode cX0_see 55 = .ok (.imul, 1) := dk_104 (dk_at dksX0_see_2 8 rfl rfl)
theorem dX0_see_56 : decode cX0_see 56 = .ok (.iload_n 1, 1) := dk_27 (dk_at dksX0_see_2 9 rfl rfl)
theorem dX0_see_57 : decode cX0_see 57 = .ok (.i2b, 1) := dk_145 (dk_at dksX0_see_2 10 rfl rfl)
theorem dX0_see_58 : decode cX0_see 58 = .ok (.bastore, 1) := dk_84 (dk_at dksX0_see_2 11 rfl rfl)
theorem dX0_see_59 : decode cX0_see 59 = .ok (.aload_n 0, 1) := dk_42 (dk_at dksX0_see_2 12 rfl rfl)
theorem dX0_see_60 : decode cX0_see 60 = .ok (.getfield 97, 3) := dk_180 0 97 (dk_at dksX0_see_2 13 rfl rfl)
theorem dX0_see_63 : decode cX0_see 63 = .ok (.iconst 3, 1) := dk_6 (dk_at dksX0_see_2 16 rfl rfl)
theorem dX0_see_64 : decode cX0_see 64 = .ok (.aload_n 0, 1) := dk_42 (dk_at dksX0_see_2 17 rfl rfl)
theorem dX0_see_65 : decode cX0_see 65 = .ok (.getfield 148, 3) := dk_180 0 148 (dk_at dksX0_see_2 18 rfl rfl)
theorem dX0_see_68 : decode cX0_see 68 = .ok (.imul, 1) := dk_104 (dk_at dksX0_see_2 21 rfl rfl)
theorem dX0_see_69 : decode cX0_see 69 = .ok (.iconst 1, 1) := dk_4 (dk_at dksX0_see_2 22 rfl rfl)
theorem dX0_see_70 : decode cX0_see 70 = .ok (.iadd, 1) := dk_96 (dk_at dksX0_see_2 23 rfl rfl)
theorem dX0_see_71 : decode cX0_see 71 = .ok (.iload_n 2, 1) := dk_28 (dk_at dksX0_see_3 0 rfl rfl)
theorem dX0_see_72 : decode cX0_see 72 = .ok (.i2b, 1) := dk_145 (dk_at dksX0_see_3 1 rfl rfl)
theorem dX0_see_73 : decode cX0_see 73 = .ok (.bastore, 1) := dk_84 (dk_at dksX0_see_3 2 rfl rfl)
theorem dX0_see_74 : decode cX0_see 74 = .ok (.aload_n 0, 1) := dk_42 (dk_at dksX0_see_3 3 rfl rfl)
theorem dX0_see_75 : decode cX0_see 75 = .ok (.getfield 97, 3) := dk_180 0 97 (dk_at dksX0_see_3 4 rfl rfl)
theorem dX0_see_78 : decode cX0_see 78 = .ok (.iconst 3, 1) := dk_6 (dk_at dksX0_see_3 7 rfl rfl)
theorem dX0_see_79 : decode cX0_see 79 = .ok (.aload_n 0, 1) := dk_42 (dk_at dksX0_see_3 8 rfl rfl)
theorem dX0_see_80 : decode cX0_see 80 = .ok (.getfield 148, 3) := dk_180 0 148 (dk_at dksX0_see_3 9 rfl rfl)
theorem dX0_see_83 : decode cX0_see 83 = .ok (.imul, 1) := dk_104 (dk_at dksX0_see_3 12 rfl rfl)
theorem dX0_see_84 : decode cX0_see 84 = .ok (.iconst 2, 1) := dk_5 (dk_at dksX0_see_3 13 rfl rfl)
theorem dX0_see_85 : decode cX0_see 85 = .ok (.iadd, 1) := dk_96 (dk_at dksX0_see_3 14 rfl rfl)
theorem dX0_see_86 : decode cX0_see 86 = .ok (.iload_n 3, 1) := dk_29 (dk_at dksX0_see_3 15 rfl rfl)
theorem dX0_see_87 : decode cX0_see 87 = .ok (.i2b, 1) := dk_145 (dk_at dksX0_see_3 16 rfl rfl)
theorem dX0_see_88 : decode cX0_see 88 = .ok (.bastore, 1) := dk_84 (dk_at dksX0_see_3 17 rfl rfl)
theorem dX0_see_89 : decode cX0_see 89 = .ok (.aload_n 0, 1) := dk_42 (dk_at dksX0_see_3 18 rfl rfl)
theorem dX0_see_90 : decode cX0_see 90 = .ok (.dup, 1) := dk_89 (dk_at dksX0_see_3 19 rfl rfl)
theorem dX0_see_91 : decode cX0_see 91 = .ok (.getfield 148, 3) := dk_180 0 148 (dk_at dksX0_see_3 20 rfl rfl)
theorem dX0_see_94 : decode cX0_see 94 = .ok (.iconst 1, 1) := dk_4 (dk_at dksX0_see_3 23 rfl rfl)
theorem dX0_see_95 : decode cX0_see 95 = .ok (.iadd, 1) := dk_96 (dk_at dksX0_see_4 0 rfl rfl)
theorem dX0_see_96 : decode cX0_see 96 = .ok (.putfield 148, 3) := dk_181 0 148 (dk_at dksX0_see_4 1 rfl rfl)
theorem dX0_see_99 : decode cX0_see 99 = .ok (.aload_n 0, 1) := dk_42 (dk_at dksX0_see_4 4 rfl rfl)
theorem dX0_see_100 : decode cX0_see 100 = .ok (.getfield 148, 3) := dk_180 0 148 (dk_at dksX0_see_4 5 rfl rfl)
theorem dX0_see_103 : decode cX0_see 103 = .ok (.ireturn, 1) := dk_172 (dk_at dksX0_see_4 8 rfl rfl)
abbrev cX0_forget : ByteArray := prog_1_method_52_code
def yX0_forget : MethodName := ⟨RX0, "forget", "(I)I"⟩
def dkwX0_forget_1 : List UInt8 := [181, 0, 148, 28, 172]
abbrev dktX0_forget_1 : List UInt8 := dkwX0_forget_1 ++ []
def dkwX0_forget_0 : List UInt8 := [27, 133, 9, 42, 180, 0, 148, 133, 184, 0, 122, 154, 0, 5, 2, 172, 42, 180, 0, 148, 61, 42, 27]
abbrev dktX0_forget_0 : List UInt8 := dkwX0_forget_0 ++ dktX0_forget_1
theorem dksX0_forget_0 : cX0_forget.data.toList.drop 0 = dktX0_forget_0 := by decide +kernel
theorem dksX0_forget_1 : cX0_forget.data.toList.drop 23 = dktX0_forget_1 := dk_seg dksX0_forget_0 23 rfl rfl
theorem dX0_forget_0 : decode cX0_forget 0 = .ok (.iload_n 1, 1) := dk_27 (dk_at dksX0_forget_0 0 rfl rfl)
theorem dX0_forget_1 : decode cX0_forget 1 = .ok (.i2l, 1) := dk_133 (dk_at dksX0_forget_0 1 rfl rfl)
theorem dX0_forget_2 : decode cX0_forget 2 = .ok (.lconst 0, 1) := dk_9 (dk_at dksX0_forget_0 2 rfl rfl)
theorem dX0_forget_3 : decode cX0_forget 3 = .ok (.aload_n 0, 1) := dk_42 (dk_at dksX0_forget_0 3 rfl rfl)
theorem dX0_forget_4 : decode cX0_forget 4 = .ok (.getfield 148, 3) := dk_180 0 148 (dk_at dksX0_forget_0 4 rfl rfl)
theorem dX0_forget_7 : decode cX0_forget 7 = .ok (.i2l, 1) := dk_133 (dk_at dksX0_forget_0 7 rfl rfl)
theorem dX0_forget_8 : decode cX0_forget 8 = .ok (.invokestatic 122, 3) := dk_184 0 122 (dk_at dksX0_forget_0 8 rfl rfl)
theorem dX0_forget_11 : decode cX0_forget 11 = .ok (.ifCond .ne 5, 3) := dk_154 0 5 (dk_at dksX0_forget_0 11 rfl rfl)
theorem dX0_forget_14 : decode cX0_forget 14 = .ok (.iconst (-1), 1) := dk_2 (dk_at dksX0_forget_0 14 rfl rfl)
theorem dX0_forget_15 : decode cX0_forget 15 = .ok (.ireturn, 1) := dk_172 (dk_at dksX0_forget_0 15 rfl rfl)
theorem dX0_forget_16 : decode cX0_forget 16 = .ok (.aload_n 0, 1) := dk_42 (dk_at dksX0_forget_0 16 rfl rfl)
theorem dX0_forget_17 : decode cX0_forget 17 = .ok (.getfield 148, 3) := dk_180 0 148 (dk_at dksX0_forget_0 17 rfl rfl)
theorem dX0_forget_20 : decode cX0_forget 20 = .ok (.istore_n 2, 1) := dk_61 (dk_at dksX0_forget_0 20 rfl rfl)
theorem dX0_forget_21 : decode cX0_forget 21 = .ok (.aload_n 0, 1) := dk_42 (dk_at dksX0_forget_0 21 rfl rfl)
theorem dX0_forget_22 : decode cX0_forget 22 = .ok (.iload_n 1, 1) := dk_27 (dk_at dksX0_forget_0 22 rfl rfl)
theorem dX0_forget_23 : decode cX0_forget 23 = .ok (.putfield 148, 3) := dk_181 0 148 (dk_at dksX0_forget_1 0 rfl rfl)
theorem dX0_forget_26 : decode cX0_forget 26 = .ok (.iload_n 2, 1) := dk_28 (dk_at dksX0_forget_1 3 rfl rfl)
theorem dX0_forget_27 : decode cX0_forget 27 = .ok (.ireturn, 1) := dk_172 (dk_at dksX0_forget_1 4 rfl rfl)
abbrev cX0_kinds : ByteArray := prog_1_method_55_code
def yX0_kinds : MethodName := ⟨RX0, "kinds", "(I)I"⟩
def dkwX0_kinds_0 : List UInt8 := [42, 27, 182, 0, 162, 153, 0, 12, 42, 27, 3, 182, 1, 47, 167, 0, 4, 2, 172]
abbrev dktX0_kinds_0 : List UInt8 := dkwX0_kinds_0 ++ []
theorem dksX0_kinds_0 : cX0_kinds.data.toList.drop 0 = dktX0_kinds_0 := by decide +kernel
theorem dX0_kinds_0 : decode cX0_kinds 0 = .ok (.aload_n 0, 1) := dk_42 (dk_at dksX0_kinds_0 0 rfl rfl)
theorem dX0_kinds_1 : decode cX0_kinds 1 = .ok (.iload_n 1, 1) := dk_27 (dk_at dksX0_kinds_0 1 rfl rfl)
theorem dX0_kinds_2 : decode cX0_kinds 2 = .ok (.invokevirtual 162, 3) := dk_182 0 162 (dk_at dksX0_kinds_0 2 rfl rfl)
theorem dX0_kinds_5 : decode cX0_kinds 5 = .ok (.ifCond .eq 12, 3) := dk_153 0 12 (dk_at dksX0_kinds_0 5 rfl rfl)
theorem dX0_kinds_8 : decode cX0_kinds 8 = .ok (.aload_n 0, 1) := dk_42 (dk_at dksX0_kinds_0 8 rfl rfl)
theorem dX0_kinds_9 : decode cX0_kinds 9 = .ok (.iload_n 1, 1) := dk_27 (dk_at dksX0_kinds_0 9 rfl rfl)
theorem dX0_kinds_10 : decode cX0_kinds 10 = .ok (.iconst 0, 1) := dk_3 (dk_at dksX0_kinds_0 10 rfl rfl)
theorem dX0_kinds_11 : decode cX0_kinds 11 = .ok (.invokevirtual 303, 3) := dk_182 1 47 (dk_at dksX0_kinds_0 11 rfl rfl)
theorem dX0_kinds_14 : decode cX0_kinds 14 = .ok (.goto 4, 3) := dk_167 0 4 (dk_at dksX0_kinds_0 14 rfl rfl)
theorem dX0_kinds_17 : decode cX0_kinds 17 = .ok (.iconst (-1), 1) := dk_2 (dk_at dksX0_kinds_0 17 rfl rfl)
theorem dX0_kinds_18 : decode cX0_kinds 18 = .ok (.ireturn, 1) := dk_172 (dk_at dksX0_kinds_0 18 rfl rfl)
abbrev cX0_which : ByteArray := prog_1_method_54_code
def yX0_which : MethodName := ⟨RX0, "which", "(II)I"⟩
def dkwX0_which_1 : List UInt8 := [153, 0, 10, 4, 21, 4, 120, 167, 0, 4, 3, 128, 62, 132, 4, 1, 167, 255, 222, 29, 172]
abbrev dktX0_which_1 : List UInt8 := dkwX0_which_1 ++ []
def dkwX0_which_0 : List UInt8 := [3, 62, 3, 54, 4, 21, 4, 28, 184, 0, 194, 163, 0, 31, 29, 42, 27, 28, 21, 4, 182, 1, 44]
abbrev dktX0_which_0 : List UInt8 := dkwX0_which_0 ++ dktX0_which_1
theorem dksX0_which_0 : cX0_which.data.toList.drop 0 = dktX0_which_0 := by decide +kernel
theorem dksX0_which_1 : cX0_which.data.toList.drop 23 = dktX0_which_1 := dk_seg dksX0_which_0 23 rfl rfl
theorem dX0_which_0 : decode cX0_which 0 = .ok (.iconst 0, 1) := dk_3 (dk_at dksX0_which_0 0 rfl rfl)
theorem dX0_which_1 : decode cX0_which 1 = .ok (.istore_n 3, 1) := dk_62 (dk_at dksX0_which_0 1 rfl rfl)
theorem dX0_which_2 : decode cX0_which 2 = .ok (.iconst 0, 1) := dk_3 (dk_at dksX0_which_0 2 rfl rfl)
theorem dX0_which_3 : decode cX0_which 3 = .ok (.istore 4, 2) := dk_54 4 (dk_at dksX0_which_0 3 rfl rfl)
theorem dX0_which_5 : decode cX0_which 5 = .ok (.iload 4, 2) := dk_21 4 (dk_at dksX0_which_0 5 rfl rfl)
theorem dX0_which_7 : decode cX0_which 7 = .ok (.iload_n 2, 1) := dk_28 (dk_at dksX0_which_0 7 rfl rfl)
theorem dX0_which_8 : decode cX0_which 8 = .ok (.invokestatic 194, 3) := dk_184 0 194 (dk_at dksX0_which_0 8 rfl rfl)
theorem dX0_which_11 : decode cX0_which 11 = .ok (.if_icmp .gt 31, 3) := dk_163 0 31 (dk_at dksX0_which_0 11 rfl rfl)
theorem dX0_which_14 : decode cX0_which 14 = .ok (.iload_n 3, 1) := dk_29 (dk_at dksX0_which_0 14 rfl rfl)
theorem dX0_which_15 : decode cX0_which 15 = .ok (.aload_n 0, 1) := dk_42 (dk_at dksX0_which_0 15 rfl rfl)
theorem dX0_which_16 : decode cX0_which 16 = .ok (.iload_n 1, 1) := dk_27 (dk_at dksX0_which_0 16 rfl rfl)
theorem dX0_which_17 : decode cX0_which 17 = .ok (.iload_n 2, 1) := dk_28 (dk_at dksX0_which_0 17 rfl rfl)
theorem dX0_which_18 : decode cX0_which 18 = .ok (.iload 4, 2) := dk_21 4 (dk_at dksX0_which_0 18 rfl rfl)
theorem dX0_which_20 : decode cX0_which 20 = .ok (.invokevirtual 300, 3) := dk_182 1 44 (dk_at dksX0_which_0 20 rfl rfl)
theorem dX0_which_23 : decode cX0_which 23 = .ok (.ifCond .eq 10, 3) := dk_153 0 10 (dk_at dksX0_which_1 0 rfl rfl)
theorem dX0_which_26 : decode cX0_which 26 = .ok (.iconst 1, 1) := dk_4 (dk_at dksX0_which_1 3 rfl rfl)
theorem dX0_which_27 : decode cX0_which 27 = .ok (.iload 4, 2) := dk_21 4 (dk_at dksX0_which_1 4 rfl rfl)
theorem dX0_which_29 : decode cX0_which 29 = .ok (.ishl, 1) := dk_120 (dk_at dksX0_which_1 6 rfl rfl)
theorem dX0_which_30 : decode cX0_which 30 = .ok (.goto 4, 3) := dk_167 0 4 (dk_at dksX0_which_1 7 rfl rfl)
theorem dX0_which_33 : decode cX0_which 33 = .ok (.iconst 0, 1) := dk_3 (dk_at dksX0_which_1 10 rfl rfl)
theorem dX0_which_34 : decode cX0_which 34 = .ok (.ior, 1) := dk_128 (dk_at dksX0_which_1 11 rfl rfl)
theorem dX0_which_35 : decode cX0_which 35 = .ok (.istore_n 3, 1) := dk_62 (dk_at dksX0_which_1 12 rfl rfl)
theorem dX0_which_36 : decode cX0_which 36 = .ok (.iinc 4 1, 3) := dk_132 4 1 (dk_at dksX0_which_1 13 rfl rfl)
theorem dX0_which_39 : decode cX0_which 39 = .ok (.goto (-34), 3) := dk_167 255 222 (dk_at dksX0_which_1 16 rfl rfl)
theorem dX0_which_42 : decode cX0_which 42 = .ok (.iload_n 3, 1) := dk_29 (dk_at dksX0_which_1 19 rfl rfl)
theorem dX0_which_43 : decode cX0_which 43 = .ok (.ireturn, 1) := dk_172 (dk_at dksX0_which_1 20 rfl rfl)
abbrev cX0_isSo : ByteArray := prog_1_method_53_code
def yX0_isSo : MethodName := ⟨RX0, "isSo", "(III)Z"⟩
def dkwX0_isSo_7 : List UInt8 := [21, 4, 172]
abbrev dktX0_isSo_7 : List UInt8 := dkwX0_isSo_7 ++ []
def dkwX0_isSo_6 : List UInt8 := [21, 5, 104, 5, 96, 51, 160, 0, 7, 4, 167, 0, 4, 3, 126, 54, 4, 132, 5, 1, 167, 255, 192]
abbrev dktX0_isSo_6 : List UInt8 := dkwX0_isSo_6 ++ dktX0_isSo_7
def dkwX0_isSo_5 : List UInt8 := [21, 5, 104, 4, 96, 51, 104, 42, 180, 0, 97, 6, 21, 5, 104, 51, 96, 51, 42, 180, 0, 97, 6]
abbrev dktX0_isSo_5 : List UInt8 := dkwX0_isSo_5 ++ dktX0_isSo_6
def dkwX0_isSo_4 : List UInt8 := [54, 5, 21, 5, 42, 180, 0, 148, 162, 0, 61, 21, 4, 42, 180, 0, 107, 8, 42, 180, 0, 97, 6]
abbrev dktX0_isSo_4 : List UInt8 := dkwX0_isSo_4 ++ dktX0_isSo_5
def dkwX0_isSo_3 : List UInt8 := [132, 5, 1, 167, 255, 218, 42, 42, 180, 0, 87, 182, 0, 206, 132, 4, 1, 167, 255, 194, 4, 54, 4, 3]
abbrev dktX0_isSo_3 : List UInt8 := dkwX0_isSo_3 ++ dktX0_isSo_4
def dkwX0_isSo_2 : List UInt8 := [180, 0, 107, 8, 21, 4, 104, 21, 5, 96, 42, 180, 0, 87, 21, 5, 6, 182, 0, 3, 145, 84]
abbrev dktX0_isSo_2 : List UInt8 := dkwX0_isSo_2 ++ dktX0_isSo_3
def dkwX0_isSo_1 : List UInt8 := [21, 4, 16, 20, 163, 0, 61, 3, 54, 5, 21, 5, 42, 180, 0, 83, 180, 0, 27, 162, 0, 32, 42]
abbrev dktX0_isSo_1 : List UInt8 := dkwX0_isSo_1 ++ dktX0_isSo_2
def dkwX0_isSo_0 : List UInt8 := [42, 180, 0, 87, 42, 180, 0, 83, 182, 0, 144, 42, 180, 0, 87, 27, 28, 29, 182, 0, 35, 3, 54, 4]
abbrev dktX0_isSo_0 : List UInt8 := dkwX0_isSo_0 ++ dktX0_isSo_1
theorem dksX0_isSo_0 : cX0_isSo.data.toList.drop 0 = dktX0_isSo_0 := by decide +kernel
theorem dksX0_isSo_1 : cX0_isSo.data.toList.drop 24 = dktX0_isSo_1 := dk_seg dksX0_isSo_0 24 rfl rfl
theorem dksX0_isSo_2 : cX0_isSo.data.toList.drop 47 = dktX0_isSo_2 := dk_seg dksX0_isSo_1 23 rfl rfl
theorem dksX0_isSo_3 : cX0_isSo.data.toList.drop 69 = dktX0_isSo_3 := dk_seg dksX0_isSo_2 22 rfl rfl
theorem dksX0_isSo_4 : cX0_isSo.data.toList.drop 93 = dktX0_isSo_4 := dk_seg dksX0_isSo_3 24 rfl rfl
theorem dksX0_isSo_5 : cX0_isSo.data.toList.drop 116 = dktX0_isSo_5 := dk_seg dksX0_isSo_4 23 rfl rfl
theorem dksX0_isSo_6 : cX0_isSo.data.toList.drop 139 = dktX0_isSo_6 := dk_seg dksX0_isSo_5 23 rfl rfl
theorem dksX0_isSo_7 : cX0_isSo.data.toList.drop 162 = dktX0_isSo_7 := dk_seg dksX0_isSo_6 23 rfl rfl
theorem dX0_isSo_0 : decode cX0_isSo 0 = .ok (.aload_n 0, 1) := dk_42 (dk_at dksX0_isSo_0 0 rfl rfl)
theorem dX0_isSo_1 : decode cX0_isSo 1 = .ok (.getfield 87, 3) := dk_180 0 87 (dk_at dksX0_isSo_0 1 rfl rfl)
theorem dX0_isSo_4 : decode cX0_isSo 4 = .ok (.aload_n 0, 1) := dk_42 (dk_at dksX0_isSo_0 4 rfl rfl)
theorem dX0_isSo_5 : decode cX0_isSo 5 = .ok (.getfield 83, 3) := dk_180 0 83 (dk_at dksX0_isSo_0 5 rfl rfl)
theorem dX0_isSo_8 : decode cX0_isSo 8 = .ok (.invokevirtual 144, 3) := dk_182 0 144 (dk_at dksX0_isSo_0 8 rfl rfl)
theorem dX0_isSo_11 : decode cX0_isSo 11 = .ok (.aload_n 0, 1) := dk_42 (dk_at dksX0_isSo_0 11 rfl rfl)
theorem dX0_isSo_12 : decode cX0_isSo 12 = .ok (.getfield 87, 3) := dk_180 0 87 (dk_at dksX0_isSo_0 12 rfl rfl)
theorem dX0_isSo_15 : decode cX0_isSo 15 = .ok (.iload_n 1, 1) := dk_27 (dk_at dksX0_isSo_0 15 rfl rfl)
theorem dX0_isSo_16 : decode cX0_isSo 16 = .ok (.iload_n 2, 1) := dk_28 (dk_at dksX0_isSo_0 16 rfl rfl)
theorem dX0_isSo_17 : decode cX0_isSo 17 = .ok (.iload_n 3, 1) := dk_29 (dk_at dksX0_isSo_0 17 rfl rfl)
theorem dX0_isSo_18 : decode cX0_isSo 18 = .ok (.invokevirtual 35, 3) := dk_182 0 35 (dk_at dksX0_isSo_0 18 rfl rfl)
theorem dX0_isSo_21 : decode cX0_isSo 21 = .ok (.iconst 0, 1) := dk_3 (dk_at dksX0_isSo_0 21 rfl rfl)
theorem dX0_isSo_22 : decode cX0_isSo 22 = .ok (.istore 4, 2) := dk_54 4 (dk_at dksX0_isSo_0 22 rfl rfl)
theorem dX0_isSo_24 : decode cX0_isSo 24 = .ok (.iload 4, 2) := dk_21 4 (dk_at dksX0_isSo_1 0 rfl rfl)
theorem dX0_isSo_26 : decode cX0_isSo 26 = .ok (.bipush 20, 2) := dk_16 20 (dk_at dksX0_isSo_1 2 rfl rfl)
theorem dX0_isSo_28 : decode cX0_isSo 28 = .ok (.if_icmp .gt 61, 3) := dk_163 0 61 (dk_at dksX0_isSo_1 4 rfl rfl)
theorem dX0_isSo_31 : decode cX0_isSo 31 = .ok (.iconst 0, 1) := dk_3 (dk_at dksX0_isSo_1 7 rfl rfl)
theorem dX0_isSo_32 : decode cX0_isSo 32 = .ok (.istore 5, 2) := dk_54 5 (dk_at dksX0_isSo_1 8 rfl rfl)
theorem dX0_isSo_34 : decode cX0_isSo 34 = .ok (.iload 5, 2) := dk_21 5 (dk_at dksX0_isSo_1 10 rfl rfl)
theorem dX0_isSo_36 : decode cX0_isSo 36 = .ok (.aload_n 0, 1) := dk_42 (dk_at dksX0_isSo_1 12 rfl rfl)
theorem dX0_isSo_37 : decode cX0_isSo 37 = .ok (.getfield 83, 3) := dk_180 0 83 (dk_at dksX0_isSo_1 13 rfl rfl)
theorem dX0_isSo_40 : decode cX0_isSo 40 = .ok (.getfield 27, 3) := dk_180 0 27 (dk_at dksX0_isSo_1 16 rfl rfl)
theorem dX0_isSo_43 : decode cX0_isSo 43 = .ok (.if_icmp .ge 32, 3) := dk_162 0 32 (dk_at dksX0_isSo_1 19 rfl rfl)
theorem dX0_isSo_46 : decode cX0_isSo 46 = .ok (.aload_n 0, 1) := dk_42 (dk_at dksX0_isSo_1 22 rfl rfl)
theorem dX0_isSo_47 : decode cX0_isSo 47 = .ok (.getfield 107, 3) := dk_180 0 107 (dk_at dksX0_isSo_2 0 rfl rfl)
theorem dX0_isSo_50 : decode cX0_isSo 50 = .ok (.iconst 5, 1) := dk_8 (dk_at dksX0_isSo_2 3 rfl rfl)
theorem dX0_isSo_51 : decode cX0_isSo 51 = .ok (.iload 4, 2) := dk_21 4 (dk_at dksX0_isSo_2 4 rfl rfl)
theorem dX0_isSo_53 : decode cX0_isSo 53 = .ok (.imul, 1) := dk_104 (dk_at dksX0_isSo_2 6 rfl rfl)
theorem dX0_isSo_54 : decode cX0_isSo 54 = .ok (.iload 5, 2) := dk_21 5 (dk_at dksX0_isSo_2 7 rfl rfl)
theorem dX0_isSo_56 : decode cX0_isSo 56 = .ok (.iadd, 1) := dk_96 (dk_at dksX0_isSo_2 9 rfl rfl)
theorem dX0_isSo_57 : decode cX0_isSo 57 = .ok (.aload_n 0, 1) := dk_42 (dk_at dksX0_isSo_2 10 rfl rfl)
theorem dX0_isSo_58 : decode cX0_isSo 58 = .ok (.getfield 87, 3) := dk_180 0 87 (dk_at dksX0_isSo_2 11 rfl rfl)
theorem dX0_isSo_61 : decode cX0_isSo 61 = .ok (.iload 5, 2) := dk_21 5 (dk_at dksX0_isSo_2 14 rfl rfl)
theorem dX0_isSo_63 : decode cX0_isSo 63 = .ok (.iconst 3, 1) := dk_6 (dk_at dksX0_isSo_2 16 rfl rfl)
theorem dX0_isSo_64 : decode cX0_isSo 64 = .ok (.invokevirtual 3, 3) := dk_182 0 3 (dk_at dksX0_isSo_2 17 rfl rfl)
theorem dX0_isSo_67 : decode cX0_isSo 67 = .ok (.i2b, 1) := dk_145 (dk_at dksX0_isSo_2 20 rfl rfl)
theorem dX0_isSo_68 : decode cX0_isSo 68 = .ok (.bastore, 1) := dk_84 (dk_at dksX0_isSo_2 21 rfl rfl)
theorem dX0_isSo_69 : decode cX0_isSo 69 = .ok (.iinc 5 1, 3) := dk_132 5 1 (dk_at dksX0_isSo_3 0 rfl rfl)
theorem dX0_isSo_72 : decode cX0_isSo 72 = .ok (.goto (-38), 3) := dk_167 255 218 (dk_at dksX0_isSo_3 3 rfl rfl)
theorem dX0_isSo_75 : decode cX0_isSo 75 = .ok (.aload_n 0, 1) := dk_42 (dk_at dksX0_isSo_3 6 rfl rfl)
theorem dX0_isSo_76 : decode cX0_isSo 76 = .ok (.aload_n 0, 1) := dk_42 (dk_at dksX0_isSo_3 7 rfl rfl)
theorem dX0_isSo_77 : decode cX0_isSo 77 = .ok (.getfield 87, 3) := dk_180 0 87 (dk_at dksX0_isSo_3 8 rfl rfl)
theorem dX0_isSo_80 : decode cX0_isSo 80 = .ok (.invokevirtual 206, 3) := dk_182 0 206 (dk_at dksX0_isSo_3 11 rfl rfl)
theorem dX0_isSo_83 : decode cX0_isSo 83 = .ok (.iinc 4 1, 3) := dk_132 4 1 (dk_at dksX0_isSo_3 14 rfl rfl)
theorem dX0_isSo_86 : decode cX0_isSo 86 = .ok (.goto (-62), 3) := dk_167 255 194 (dk_at dksX0_isSo_3 17 rfl rfl)
theorem dX0_isSo_89 : decode cX0_isSo 89 = .ok (.iconst 1, 1) := dk_4 (dk_at dksX0_isSo_3 20 rfl rfl)
theorem dX0_isSo_90 : decode cX0_isSo 90 = .ok (.istore 4, 2) := dk_54 4 (dk_at dksX0_isSo_3 21 rfl rfl)
theorem dX0_isSo_92 : decode cX0_isSo 92 = .ok (.iconst 0, 1) := dk_3 (dk_at dksX0_isSo_3 23 rfl rfl)
theorem dX0_isSo_93 : decode cX0_isSo 93 = .ok (.istore 5, 2) := dk_54 5 (dk_at dksX0_isSo_4 0 rfl rfl)
theorem dX0_isSo_95 : decode cX0_isSo 95 = .ok (.iload 5, 2) := dk_21 5 (dk_at dksX0_isSo_4 2 rfl rfl)
theorem dX0_isSo_97 : decode cX0_isSo 97 = .ok (.aload_n 0, 1) := dk_42 (dk_at dksX0_isSo_4 4 rfl rfl)
theorem dX0_isSo_98 : decode cX0_isSo 98 = .ok (.getfield 148, 3) := dk_180 0 148 (dk_at dksX0_isSo_4 5 rfl rfl)
theorem dX0_isSo_101 : decode cX0_isSo 101 = .ok (.if_icmp .ge 61, 3) := dk_162 0 61 (dk_at dksX0_isSo_4 8 rfl rfl)
theorem dX0_isSo_104 : decode cX0_isSo 104 = .ok (.iload 4, 2) := dk_21 4 (dk_at dksX0_isSo_4 11 rfl rfl)
theorem dX0_isSo_106 : decode cX0_isSo 106 = .ok (.aload_n 0, 1) := dk_42 (dk_at dksX0_isSo_4 13 rfl rfl)
theorem dX0_isSo_107 : decode cX0_isSo 107 = .ok (.getfield 107, 3) := dk_180 0 107 (dk_at dksX0_isSo_4 14 rfl rfl)
theorem dX0_isSo_110 : decode cX0_isSo 110 = .ok (.iconst 5, 1) := dk_8 (dk_at dksX0_isSo_4 17 rfl rfl)
theorem dX0_isSo_111 : decode cX0_isSo 111 = .ok (.aload_n 0, 1) := dk_42 (dk_at dksX0_isSo_4 18 rfl rfl)
theorem dX0_isSo_112 : decode cX0_isSo 112 = .ok (.getfield 97, 3) := dk_180 0 97 (dk_at dksX0_isSo_4 19 rfl rfl)
theorem dX0_isSo_115 : decode cX0_isSo 115 = .ok (.iconst 3, 1) := dk_6 (dk_at dksX0_isSo_4 22 rfl rfl)
theorem dX0_isSo_116 : decode cX0_isSo 116 = .ok (.iload 5, 2) := dk_21 5 (dk_at dksX0_isSo_5 0 rfl rfl)
theorem dX0_isSo_118 : decode cX0_isSo 118 = .ok (.imul, 1) := dk_104 (dk_at dksX0_isSo_5 2 rfl rfl)
theorem dX0_isSo_119 : decode cX0_isSo 119 = .ok (.iconst 1, 1) := dk_4 (dk_at dksX0_isSo_5 3 rfl rfl)
theorem dX0_isSo_120 : decode cX0_isSo 120 = .ok (.iadd, 1) := dk_96 (dk_at dksX0_isSo_5 4 rfl rfl)
theorem dX0_isSo_121 : decode cX0_isSo 121 = .ok (.baload, 1) := dk_51 (dk_at dksX0_isSo_5 5 rfl rfl)
theorem dX0_isSo_122 : decode cX0_isSo 122 = .ok (.imul, 1) := dk_104 (dk_at dksX0_isSo_5 6 rfl rfl)
theorem dX0_isSo_123 : decode cX0_isSo 123 = .ok (.aload_n 0, 1) := dk_42 (dk_at dksX0_isSo_5 7 rfl rfl)
theorem dX0_isSo_124 : decode cX0_isSo 124 = .ok (.getfield 97, 3) := dk_180 0 97 (dk_at dksX0_isSo_5 8 rfl rfl)
theorem dX0_isSo_127 : decode cX0_isSo 127 = .ok (.iconst 3, 1) := dk_6 (dk_at dksX0_isSo_5 11 rfl rfl)
theorem dX0_isSo_128 : decode cX0_isSo 128 = .ok (.iload 5, 2) := dk_21 5 (dk_at dksX0_isSo_5 12 rfl rfl)
theorem dX0_isSo_130 : decode cX0_isSo 130 = .ok (.imul, 1) := dk_104 (dk_at dksX0_isSo_5 14 rfl rfl)
theorem dX0_isSo_131 : decode cX0_isSo 131 = .ok (.baload, 1) := dk_51 (dk_at dksX0_isSo_5 15 rfl rfl)
theorem dX0_isSo_132 : decode cX0_isSo 132 = .ok (.iadd, 1) := dk_96 (dk_at dksX0_isSo_5 16 rfl rfl)
theorem dX0_isSo_133 : decode cX0_isSo 133 = .ok (.baload, 1) := dk_51 (dk_at dksX0_isSo_5 17 rfl rfl)
theorem dX0_isSo_134 : decode cX0_isSo 134 = .ok (.aload_n 0, 1) := dk_42 (dk_at dksX0_isSo_5 18 rfl rfl)
theorem dX0_isSo_135 : decode cX0_isSo 135 = .ok (.getfield 97, 3) := dk_180 0 97 (dk_at dksX0_isSo_5 19 rfl rfl)
theorem dX0_isSo_138 : decode cX0_isSo 138 = .ok (.iconst 3, 1) := dk_6 (dk_at dksX0_isSo_5 22 rfl rfl)
theorem dX0_isSo_139 : decode cX0_isSo 139 = .ok (.iload 5, 2) := dk_21 5 (dk_at dksX0_isSo_6 0 rfl rfl)
theorem dX0_isSo_141 : decode cX0_isSo 141 = .ok (.imul, 1) := dk_104 (dk_at dksX0_isSo_6 2 rfl rfl)
theorem dX0_isSo_142 : decode cX0_isSo 142 = .ok (.iconst 2, 1) := dk_5 (dk_at dksX0_isSo_6 3 rfl rfl)
theorem dX0_isSo_143 : decode cX0_isSo 143 = .ok (.iadd, 1) := dk_96 (dk_at dksX0_isSo_6 4 rfl rfl)
theorem dX0_isSo_144 : decode cX0_isSo 144 = .ok (.baload, 1) := dk_51 (dk_at dksX0_isSo_6 5 rfl rfl)
theorem dX0_isSo_145 : decode cX0_isSo 145 = .ok (.if_icmp .ne 7, 3) := dk_160 0 7 (dk_at dksX0_isSo_6 6 rfl rfl)
theorem dX0_isSo_148 : decode cX0_isSo 148 = .ok (.iconst 1, 1) := dk_4 (dk_at dksX0_isSo_6 9 rfl rfl)
theorem dX0_isSo_149 : decode cX0_isSo 149 = .ok (.goto 4, 3) := dk_167 0 4 (dk_at dksX0_isSo_6 10 rfl rfl)
theorem dX0_isSo_152 : decode cX0_isSo 152 = .ok (.iconst 0, 1) := dk_3 (dk_at dksX0_isSo_6 13 rfl rfl)
theorem dX0_isSo_153 : decode cX0_isSo 153 = .ok (.iand, 1) := dk_126 (dk_at dksX0_isSo_6 14 rfl rfl)
theorem dX0_isSo_154 : decode cX0_isSo 154 = .ok (.istore 4, 2) := dk_54 4 (dk_at dksX0_isSo_6 15 rfl rfl)
theorem dX0_isSo_156 : decode cX0_isSo 156 = .ok (.iinc 5 1, 3) := dk_132 5 1 (dk_at dksX0_isSo_6 17 rfl rfl)
theorem dX0_isSo_159 : decode cX0_isSo 159 = .ok (.goto (-64), 3) := dk_167 255 192 (dk_at dksX0_isSo_6 20 rfl rfl)
theorem dX0_isSo_162 : decode cX0_isSo 162 = .ok (.iload 4, 2) := dk_21 4 (dk_at dksX0_isSo_7 0 rfl rfl)
theorem dX0_isSo_164 : decode cX0_isSo 164 = .ok (.ireturn, 1) := dk_172 (dk_at dksX0_isSo_7 2 rfl rfl)
abbrev cX0_rates : ByteArray := prog_1_method_56_code
def yX0_rates : MethodName := ⟨RX0, "rates", "(I)I"⟩
def dkwX0_rates_0 : List UInt8 := [42, 27, 182, 0, 162, 153, 0, 12, 42, 27, 5, 182, 1, 47, 167, 0, 4, 2, 172]
abbrev dktX0_rates_0 : List UInt8 := dkwX0_rates_0 ++ []
theorem dksX0_rates_0 : cX0_rates.data.toList.drop 0 = dktX0_rates_0 := by decide +kernel
theorem dX0_rates_0 : decode cX0_rates 0 = .ok (.aload_n 0, 1) := dk_42 (dk_at dksX0_rates_0 0 rfl rfl)
theorem dX0_rates_1 : decode cX0_rates 1 = .ok (.iload_n 1, 1) := dk_27 (dk_at dksX0_rates_0 1 rfl rfl)
theorem dX0_rates_2 : decode cX0_rates 2 = .ok (.invokevirtual 162, 3) := dk_182 0 162 (dk_at dksX0_rates_0 2 rfl rfl)
theorem dX0_rates_5 : decode cX0_rates 5 = .ok (.ifCond .eq 12, 3) := dk_153 0 12 (dk_at dksX0_rates_0 5 rfl rfl)
theorem dX0_rates_8 : decode cX0_rates 8 = .ok (.aload_n 0, 1) := dk_42 (dk_at dksX0_rates_0 8 rfl rfl)
theorem dX0_rates_9 : decode cX0_rates 9 = .ok (.iload_n 1, 1) := dk_27 (dk_at dksX0_rates_0 9 rfl rfl)
theorem dX0_rates_10 : decode cX0_rates 10 = .ok (.iconst 2, 1) := dk_5 (dk_at dksX0_rates_0 10 rfl rfl)
theorem dX0_rates_11 : decode cX0_rates 11 = .ok (.invokevirtual 303, 3) := dk_182 1 47 (dk_at dksX0_rates_0 11 rfl rfl)
theorem dX0_rates_14 : decode cX0_rates 14 = .ok (.goto 4, 3) := dk_167 0 4 (dk_at dksX0_rates_0 14 rfl rfl)
theorem dX0_rates_17 : decode cX0_rates 17 = .ok (.iconst (-1), 1) := dk_2 (dk_at dksX0_rates_0 17 rfl rfl)
theorem dX0_rates_18 : decode cX0_rates 18 = .ok (.ireturn, 1) := dk_172 (dk_at dksX0_rates_0 18 rfl rfl)
abbrev cX0_look : ByteArray := prog_1_method_58_code
def yX0_look : MethodName := ⟨RX0, "look", "(II)I"⟩
def dkwX0_look_4 : List UInt8 := [154, 0, 8, 21, 4, 167, 0, 4, 29, 172]
abbrev dktX0_look_4 : List UInt8 := dkwX0_look_4 ++ []
def dkwX0_look_3 : List UInt8 := [184, 0, 19, 62, 132, 5, 1, 167, 255, 215, 21, 4, 16, 252, 160, 0, 8, 16, 252, 167, 0, 13, 28]
abbrev dktX0_look_3 : List UInt8 := dkwX0_look_3 ++ dktX0_look_4
def dkwX0_look_2 : List UInt8 := [182, 1, 53, 54, 6, 21, 6, 29, 162, 0, 8, 21, 5, 167, 0, 5, 21, 4, 54, 4, 29, 21, 6]
abbrev dktX0_look_2 : List UInt8 := dkwX0_look_2 ++ dktX0_look_3
def dkwX0_look_1 : List UInt8 := [184, 0, 218, 62, 16, 252, 54, 4, 3, 54, 5, 21, 5, 16, 20, 163, 0, 40, 42, 27, 21, 5]
abbrev dktX0_look_1 : List UInt8 := dkwX0_look_1 ++ dktX0_look_2
def dkwX0_look_0 : List UInt8 := [42, 27, 182, 0, 162, 153, 0, 10, 28, 184, 0, 215, 154, 0, 5, 2, 172, 42, 27, 182, 1, 50]
abbrev dktX0_look_0 : List UInt8 := dkwX0_look_0 ++ dktX0_look_1
theorem dksX0_look_0 : cX0_look.data.toList.drop 0 = dktX0_look_0 := by decide +kernel
theorem dksX0_look_1 : cX0_look.data.toList.drop 22 = dktX0_look_1 := dk_seg dksX0_look_0 22 rfl rfl
theorem dksX0_look_2 : cX0_look.data.toList.drop 44 = dktX0_look_2 := dk_seg dksX0_look_1 22 rfl rfl
theorem dksX0_look_3 : cX0_look.data.toList.drop 67 = dktX0_look_3 := dk_seg dksX0_look_2 23 rfl rfl
theorem dksX0_look_4 : cX0_look.data.toList.drop 90 = dktX0_look_4 := dk_seg dksX0_look_3 23 rfl rfl
theorem dX0_look_0 : decode cX0_look 0 = .ok (.aload_n 0, 1) := dk_42 (dk_at dksX0_look_0 0 rfl rfl)
theorem dX0_look_1 : decode cX0_look 1 = .ok (.iload_n 1, 1) := dk_27 (dk_at dksX0_look_0 1 rfl rfl)
theorem dX0_look_2 : decode cX0_look 2 = .ok (.invokevirtual 162, 3) := dk_182 0 162 (dk_at dksX0_look_0 2 rfl rfl)
theorem dX0_look_5 : decode cX0_look 5 = .ok (.ifCond .eq 10, 3) := dk_153 0 10 (dk_at dksX0_look_0 5 rfl rfl)
theorem dX0_look_8 : decode cX0_look 8 = .ok (.iload_n 2, 1) := dk_28 (dk_at dksX0_look_0 8 rfl rfl)
theorem dX0_look_9 : decode cX0_look 9 = .ok (.invokestatic 215, 3) := dk_184 0 215 (dk_at dksX0_look_0 9 rfl rfl)
theorem dX0_look_12 : decode cX0_look 12 = .ok (.ifCond .ne 5, 3) := dk_154 0 5 (dk_at dksX0_look_0 12 rfl rfl)
theorem dX0_look_15 : decode cX0_look 15 = .ok (.iconst (-1), 1) := dk_2 (dk_at dksX0_look_0 15 rfl rfl)
theorem dX0_look_16 : decode cX0_look 16 = .ok (.ireturn, 1) := dk_172 (dk_at dksX0_look_0 16 rfl rfl)
theorem dX0_look_17 : decode cX0_look 17 = .ok (.aload_n 0, 1) := dk_42 (dk_at dksX0_look_0 17 rfl rfl)
theorem dX0_look_18 : decode cX0_look 18 = .ok (.iload_n 1, 1) := dk_27 (dk_at dksX0_look_0 18 rfl rfl)
theorem dX0_look_19 : decode cX0_look 19 = .ok (.invokevirtual 306, 3) := dk_182 1 50 (dk_at dksX0_look_0 19 rfl rfl)
theorem dX0_look_22 : decode cX0_look 22 = .ok (.invokestatic 218, 3) := dk_184 0 218 (dk_at dksX0_look_1 0 rfl rfl)
theorem dX0_look_25 : decode cX0_look 25 = .ok (.istore_n 3, 1) := dk_62 (dk_at dksX0_look_1 3 rfl rfl)
theorem dX0_look_26 : decode cX0_look 26 = .ok (.bipush (-4), 2) := dk_16 252 (dk_at dksX0_look_1 4 rfl rfl)
theorem dX0_look_28 : decode cX0_look 28 = .ok (.istore 4, 2) := dk_54 4 (dk_at dksX0_look_1 6 rfl rfl)
theorem dX0_look_30 : decode cX0_look 30 = .ok (.iconst 0, 1) := dk_3 (dk_at dksX0_look_1 8 rfl rfl)
theorem dX0_look_31 : decode cX0_look 31 = .ok (.istore 5, 2) := dk_54 5 (dk_at dksX0_look_1 9 rfl rfl)
theorem dX0_look_33 : decode cX0_look 33 = .ok (.iload 5, 2) := dk_21 5 (dk_at dksX0_look_1 11 rfl rfl)
theorem dX0_look_35 : decode cX0_look 35 = .ok (.bipush 20, 2) := dk_16 20 (dk_at dksX0_look_1 13 rfl rfl)
theorem dX0_look_37 : decode cX0_look 37 = .ok (.if_icmp .gt 40, 3) := dk_163 0 40 (dk_at dksX0_look_1 15 rfl rfl)
theorem dX0_look_40 : decode cX0_look 40 = .ok (.aload_n 0, 1) := dk_42 (dk_at dksX0_look_1 18 rfl rfl)
theorem dX0_look_41 : decode cX0_look 41 = .ok (.iload_n 1, 1) := dk_27 (dk_at dksX0_look_1 19 rfl rfl)
theorem dX0_look_42 : decode cX0_look 42 = .ok (.iload 5, 2) := dk_21 5 (dk_at dksX0_look_1 20 rfl rfl)
theorem dX0_look_44 : decode cX0_look 44 = .ok (.invokevirtual 309, 3) := dk_182 1 53 (dk_at dksX0_look_2 0 rfl rfl)
theorem dX0_look_47 : decode cX0_look 47 = .ok (.istore 6, 2) := dk_54 6 (dk_at dksX0_look_2 3 rfl rfl)
theorem dX0_look_49 : decode cX0_look 49 = .ok (.iload 6, 2) := dk_21 6 (dk_at dksX0_look_2 5 rfl rfl)
theorem dX0_look_51 : decode cX0_look 51 = .ok (.iload_n 3, 1) := dk_29 (dk_at dksX0_look_2 7 rfl rfl)
theorem dX0_look_52 : decode cX0_look 52 = .ok (.if_icmp .ge 8, 3) := dk_162 0 8 (dk_at dksX0_look_2 8 rfl rfl)
theorem dX0_look_55 : decode cX0_look 55 = .ok (.iload 5, 2) := dk_21 5 (dk_at dksX0_look_2 11 rfl rfl)
theorem dX0_look_57 : decode cX0_look 57 = .ok (.goto 5, 3) := dk_167 0 5 (dk_at dksX0_look_2 13 rfl rfl)
theorem dX0_look_60 : decode cX0_look 60 = .ok (.iload 4, 2) := dk_21 4 (dk_at dksX0_look_2 16 rfl rfl)
theorem dX0_look_62 : decode cX0_look 62 = .ok (.istore 4, 2) := dk_54 4 (dk_at dksX0_look_2 18 rfl rfl)
theorem dX0_look_64 : decode cX0_look 64 = .ok (.iload_n 3, 1) := dk_29 (dk_at dksX0_look_2 20 rfl rfl)
theorem dX0_look_65 : decode cX0_look 65 = .ok (.iload 6, 2) := dk_21 6 (dk_at dksX0_look_2 21 rfl rfl)
theorem dX0_look_67 : decode cX0_look 67 = .ok (.invokestatic 19, 3) := dk_184 0 19 (dk_at dksX0_look_3 0 rfl rfl)
theorem dX0_look_70 : decode cX0_look 70 = .ok (.istore_n 3, 1) := dk_62 (dk_at dksX0_look_3 3 rfl rfl)
theorem dX0_look_71 : decode cX0_look 71 = .ok (.iinc 5 1, 3) := dk_132 5 1 (dk_at dksX0_look_3 4 rfl rfl)
theorem dX0_look_74 : decode cX0_look 74 = .ok (.goto (-41), 3) := dk_167 255 215 (dk_at dksX0_look_3 7 rfl rfl)
theorem dX0_look_77 : decode cX0_look 77 = .ok (.iload 4, 2) := dk_21 4 (dk_at dksX0_look_3 10 rfl rfl)
theorem dX0_look_79 : decode cX0_look 79 = .ok (.bipush (-4), 2) := dk_16 252 (dk_at dksX0_look_3 12 rfl rfl)
theorem dX0_look_81 : decode cX0_look 81 = .ok (.if_icmp .ne 8, 3) := dk_160 0 8 (dk_at dksX0_look_3 14 rfl rfl)
theorem dX0_look_84 : decode cX0_look 84 = .ok (.bipush (-4), 2) := dk_16 252 (dk_at dksX0_look_3 17 rfl rfl)
theorem dX0_look_86 : decode cX0_look 86 = .ok (.goto 13, 3) := dk_167 0 13 (dk_at dksX0_look_3 19 rfl rfl)
theorem dX0_look_89 : decode cX0_look 89 = .ok (.iload_n 2, 1) := dk_28 (dk_at dksX0_look_3 22 rfl rfl)
theorem dX0_look_90 : decode cX0_look 90 = .ok (.ifCond .ne 8, 3) := dk_154 0 8 (dk_at dksX0_look_4 0 rfl rfl)
theorem dX0_look_93 : decode cX0_look 93 = .ok (.iload 4, 2) := dk_21 4 (dk_at dksX0_look_4 3 rfl rfl)
theorem dX0_look_95 : decode cX0_look 95 = .ok (.goto 4, 3) := dk_167 0 4 (dk_at dksX0_look_4 5 rfl rfl)
theorem dX0_look_98 : decode cX0_look 98 = .ok (.iload_n 3, 1) := dk_29 (dk_at dksX0_look_4 8 rfl rfl)
theorem dX0_look_99 : decode cX0_look 99 = .ok (.ireturn, 1) := dk_172 (dk_at dksX0_look_4 9 rfl rfl)
abbrev cX0_worstOf : ByteArray := prog_1_method_57_code
def yX0_worstOf : MethodName := ⟨RX0, "worstOf", "(II)I"⟩
def dkwX0_worstOf_3 : List UInt8 := [29, 42, 180, 0, 110, 21, 5, 51, 184, 0, 24, 62, 132, 4, 1, 167, 255, 199, 29, 172]
abbrev dktX0_worstOf_3 : List UInt8 := dkwX0_worstOf_3 ++ []
def dkwX0_worstOf_2 : List UInt8 := [42, 180, 0, 107, 8, 28, 104, 27, 96, 51, 54, 5, 42, 180, 0, 110, 21, 5, 92, 51, 4, 96, 145, 84]
abbrev dktX0_worstOf_2 : List UInt8 := dkwX0_worstOf_2 ++ dktX0_worstOf_3
def dkwX0_worstOf_1 : List UInt8 := [167, 255, 238, 3, 54, 4, 21, 4, 16, 6, 163, 0, 56, 42, 27, 5, 21, 4, 182, 1, 44, 153, 0, 39]
abbrev dktX0_worstOf_1 : List UInt8 := dkwX0_worstOf_1 ++ dktX0_worstOf_2
def dkwX0_worstOf_0 : List UInt8 := [3, 62, 3, 54, 4, 21, 4, 16, 99, 163, 0, 17, 42, 180, 0, 110, 21, 4, 3, 84, 132, 4, 1]
abbrev dktX0_worstOf_0 : List UInt8 := dkwX0_worstOf_0 ++ dktX0_worstOf_1
theorem dksX0_worstOf_0 : cX0_worstOf.data.toList.drop 0 = dktX0_worstOf_0 := by decide +kernel
theorem dksX0_worstOf_1 : cX0_worstOf.data.toList.drop 23 = dktX0_worstOf_1 := dk_seg dksX0_worstOf_0 23 rfl rfl
theorem dksX0_worstOf_2 : cX0_worstOf.data.toList.drop 47 = dktX0_worstOf_2 := dk_seg dksX0_worstOf_1 24 rfl rfl
theorem dksX0_worstOf_3 : cX0_worstOf.data.toList.drop 71 = dktX0_worstOf_3 := dk_seg dksX0_worstOf_2 24 rfl rfl
theorem dX0_worstOf_0 : decode cX0_worstOf 0 = .ok (.iconst 0, 1) := dk_3 (dk_at dksX0_worstOf_0 0 rfl rfl)
theorem dX0_worstOf_1 : decode cX0_worstOf 1 = .ok (.istore_n 3, 1) := dk_62 (dk_at dksX0_worstOf_0 1 rfl rfl)
theorem dX0_worstOf_2 : decode cX0_worstOf 2 = .ok (.iconst 0, 1) := dk_3 (dk_at dksX0_worstOf_0 2 rfl rfl)
theorem dX0_worstOf_3 : decode cX0_worstOf 3 = .ok (.istore 4, 2) := dk_54 4 (dk_at dksX0_worstOf_0 3 rfl rfl)
theorem dX0_worstOf_5 : decode cX0_worstOf 5 = .ok (.iload 4, 2) := dk_21 4 (dk_at dksX0_worstOf_0 5 rfl rfl)
theorem dX0_worstOf_7 : decode cX0_worstOf 7 = .ok (.bipush 99, 2) := dk_16 99 (dk_at dksX0_worstOf_0 7 rfl rfl)
theorem dX0_worstOf_9 : decode cX0_worstOf 9 = .ok (.if_icmp .gt 17, 3) := dk_163 0 17 (dk_at dksX0_worstOf_0 9 rfl rfl)
theorem dX0_worstOf_12 : decode cX0_worstOf 12 = .ok (.aload_n 0, 1) := dk_42 (dk_at dksX0_worstOf_0 12 rfl rfl)
theorem dX0_worstOf_13 : decode cX0_worstOf 13 = .ok (.getfield 110, 3) := dk_180 0 110 (dk_at dksX0_worstOf_0 13 rfl rfl)
theorem dX0_worstOf_16 : decode cX0_worstOf 16 = .ok (.iload 4, 2) := dk_21 4 (dk_at dksX0_worstOf_0 16 rfl rfl)
theorem dX0_worstOf_18 : decode cX0_worstOf 18 = .ok (.iconst 0, 1) := dk_3 (dk_at dksX0_worstOf_0 18 rfl rfl)
theorem dX0_worstOf_19 : decode cX0_worstOf 19 = .ok (.bastore, 1) := dk_84 (dk_at dksX0_worstOf_0 19 rfl rfl)
theorem dX0_worstOf_20 : decode cX0_worstOf 20 = .ok (.iinc 4 1, 3) := dk_132 4 1 (dk_at dksX0_worstOf_0 20 rfl rfl)
theorem dX0_worstOf_23 : decode cX0_worstOf 23 = .ok (.goto (-18), 3) := dk_167 255 238 (dk_at dksX0_worstOf_1 0 rfl rfl)
theorem dX0_worstOf_26 : decode cX0_worstOf 26 = .ok (.iconst 0, 1) := dk_3 (dk_at dksX0_worstOf_1 3 rfl rfl)
theorem dX0_worstOf_27 : decode cX0_worstOf 27 = .ok (.istore 4, 2) := dk_54 4 (dk_at dksX0_worstOf_1 4 rfl rfl)
theorem dX0_worstOf_29 : decode cX0_worstOf 29 = .ok (.iload 4, 2) := dk_21 4 (dk_at dksX0_worstOf_1 6 rfl rfl)
theorem dX0_worstOf_31 : decode cX0_worstOf 31 = .ok (.bipush 6, 2) := dk_16 6 (dk_at dksX0_worstOf_1 8 rfl rfl)
theorem dX0_worstOf_33 : decode cX0_worstOf 33 = .ok (.if_icmp .gt 56, 3) := dk_163 0 56 (dk_at dksX0_worstOf_1 10 rfl rfl)
theorem dX0_worstOf_36 : decode cX0_worstOf 36 = .ok (.aload_n 0, 1) := dk_42 (dk_at dksX0_worstOf_1 13 rfl rfl)
theorem dX0_worstOf_37 : decode cX0_worstOf 37 = .ok (.iload_n 1, 1) := dk_27 (dk_at dksX0_worstOf_1 14 rfl rfl)
theorem dX0_worstOf_38 : decode cX0_worstOf 38 = .ok (.iconst 2, 1) := dk_5 (dk_at dksX0_worstOf_1 15 rfl rfl)
theorem dX0_worstOf_39 : decode cX0_worstOf 39 = .ok (.iload 4, 2) := dk_21 4 (dk_at dksX0_worstOf_1 16 rfl rfl)
theorem dX0_worstOf_41 : decode cX0_worstOf 41 = .ok (.invokevirtual 300, 3) := dk_182 1 44 (dk_at dksX0_worstOf_1 18 rfl rfl)
theorem dX0_worstOf_44 : decode cX0_worstOf 44 = .ok (.ifCond .eq 39, 3) := dk_153 0 39 (dk_at dksX0_worstOf_1 21 rfl rfl)
theorem dX0_worstOf_47 : decode cX0_worstOf 47 = .ok (.aload_n 0, 1) := dk_42 (dk_at dksX0_worstOf_2 0 rfl rfl)
theorem dX0_worstOf_48 : decode cX0_worstOf 48 = .ok (.getfield 107, 3) := dk_180 0 107 (dk_at dksX0_worstOf_2 1 rfl rfl)
theorem dX0_worstOf_51 : decode cX0_worstOf 51 = .ok (.iconst 5, 1) := dk_8 (dk_at dksX0_worstOf_2 4 rfl rfl)
theorem dX0_worstOf_52 : decode cX0_worstOf 52 = .ok (.iload_n 2, 1) := dk_28 (dk_at dksX0_worstOf_2 5 rfl rfl)
theorem dX0_worstOf_53 : decode cX0_worstOf 53 = .ok (.imul, 1) := dk_104 (dk_at dksX0_worstOf_2 6 rfl rfl)
theorem dX0_worstOf_54 : decode cX0_worstOf 54 = .ok (.iload_n 1, 1) := dk_27 (dk_at dksX0_worstOf_2 7 rfl rfl)
theorem dX0_worstOf_55 : decode cX0_worstOf 55 = .ok (.iadd, 1) := dk_96 (dk_at dksX0_worstOf_2 8 rfl rfl)
theorem dX0_worstOf_56 : decode cX0_worstOf 56 = .ok (.baload, 1) := dk_51 (dk_at dksX0_worstOf_2 9 rfl rfl)
theorem dX0_worstOf_57 : decode cX0_worstOf 57 = .ok (.istore 5, 2) := dk_54 5 (dk_at dksX0_worstOf_2 10 rfl rfl)
theorem dX0_worstOf_59 : decode cX0_worstOf 59 = .ok (.aload_n 0, 1) := dk_42 (dk_at dksX0_worstOf_2 12 rfl rfl)
theorem dX0_worstOf_60 : decode cX0_worstOf 60 = .ok (.getfield 110, 3) := dk_180 0 110 (dk_at dksX0_worstOf_2 13 rfl rfl)
theorem dX0_worstOf_63 : decode cX0_worstOf 63 = .ok (.iload 5, 2) := dk_21 5 (dk_at dksX0_worstOf_2 16 rfl rfl)
theorem dX0_worstOf_65 : decode cX0_worstOf 65 = .ok (.dup2, 1) := dk_92 (dk_at dksX0_worstOf_2 18 rfl rfl)
theorem dX0_worstOf_66 : decode cX0_worstOf 66 = .ok (.baload, 1) := dk_51 (dk_at dksX0_worstOf_2 19 rfl rfl)
theorem dX0_worstOf_67 : decode cX0_worstOf 67 = .ok (.iconst 1, 1) := dk_4 (dk_at dksX0_worstOf_2 20 rfl rfl)
theorem dX0_worstOf_68 : decode cX0_worstOf 68 = .ok (.iadd, 1) := dk_96 (dk_at dksX0_worstOf_2 21 rfl rfl)
theorem dX0_worstOf_69 : decode cX0_worstOf 69 = .ok (.i2b, 1) := dk_145 (dk_at dksX0_worstOf_2 22 rfl rfl)
theorem dX0_worstOf_70 : decode cX0_worstOf 70 = .ok (.bastore, 1) := dk_84 (dk_at dksX0_worstOf_2 23 rfl rfl)
theorem dX0_worstOf_71 : decode cX0_worstOf 71 = .ok (.iload_n 3, 1) := dk_29 (dk_at dksX0_worstOf_3 0 rfl rfl)
theorem dX0_worstOf_72 : decode cX0_worstOf 72 = .ok (.aload_n 0, 1) := dk_42 (dk_at dksX0_worstOf_3 1 rfl rfl)
theorem dX0_worstOf_73 : decode cX0_worstOf 73 = .ok (.getfield 110, 3) := dk_180 0 110 (dk_at dksX0_worstOf_3 2 rfl rfl)
theorem dX0_worstOf_76 : decode cX0_worstOf 76 = .ok (.iload 5, 2) := dk_21 5 (dk_at dksX0_worstOf_3 5 rfl rfl)
theorem dX0_worstOf_78 : decode cX0_worstOf 78 = .ok (.baload, 1) := dk_51 (dk_at dksX0_worstOf_3 7 rfl rfl)
theorem dX0_worstOf_79 : decode cX0_worstOf 79 = .ok (.invokestatic 24, 3) := dk_184 0 24 (dk_at dksX0_worstOf_3 8 rfl rfl)
theorem dX0_worstOf_82 : decode cX0_worstOf 82 = .ok (.istore_n 3, 1) := dk_62 (dk_at dksX0_worstOf_3 11 rfl rfl)
theorem dX0_worstOf_83 : decode cX0_worstOf 83 = .ok (.iinc 4 1, 3) := dk_132 4 1 (dk_at dksX0_worstOf_3 12 rfl rfl)
theorem dX0_worstOf_86 : decode cX0_worstOf 86 = .ok (.goto (-57), 3) := dk_167 255 199 (dk_at dksX0_worstOf_3 15 rfl rfl)
theorem dX0_worstOf_89 : decode cX0_worstOf 89 = .ok (.iload_n 3, 1) := dk_29 (dk_at dksX0_worstOf_3 18 rfl rfl)
theorem dX0_worstOf_90 : decode cX0_worstOf 90 = .ok (.ireturn, 1) := dk_172 (dk_at dksX0_worstOf_3 19 rfl rfl)
abbrev cX0_drift : ByteArray := prog_1_method_59_code
def yX0_drift : MethodName := ⟨RX0, "drift", "(III)I"⟩
def dkwX0_drift_8 : List UInt8 := [167, 0, 10, 42, 180, 0, 87, 182, 0, 173, 172]
abbrev dktX0_drift_8 : List UInt8 := dkwX0_drift_8 ++ []
def dkwX0_drift_7 : List UInt8 := [167, 0, 11, 42, 42, 180, 0, 87, 182, 0, 206, 132, 6, 1, 167, 255, 135, 29, 154, 0, 8, 21, 5]
abbrev dktX0_drift_7 : List UInt8 := dkwX0_drift_7 ++ dktX0_drift_8
def dkwX0_drift_6 : List UInt8 := [182, 0, 55, 153, 0, 22, 42, 180, 0, 87, 21, 8, 21, 9, 21, 10, 182, 0, 63, 132, 5, 1]
abbrev dktX0_drift_6 : List UInt8 := dkwX0_drift_6 ++ dktX0_drift_7
def dkwX0_drift_5 : List UInt8 := [16, 9, 112, 96, 54, 10, 21, 8, 21, 9, 159, 0, 38, 42, 180, 0, 87, 21, 8, 21, 9, 21, 10]
abbrev dktX0_drift_5 : List UInt8 := dkwX0_drift_5 ++ dktX0_drift_6
def dkwX0_drift_4 : List UInt8 := [54, 8, 21, 7, 16, 8, 108, 42, 180, 0, 83, 180, 0, 27, 112, 54, 9, 4, 21, 7, 16, 64, 108]
abbrev dktX0_drift_4 : List UInt8 := dkwX0_drift_4 ++ dktX0_drift_5
def dkwX0_drift_3 : List UInt8 := [54, 4, 21, 4, 16, 16, 124, 17, 127, 255, 126, 54, 7, 21, 7, 42, 180, 0, 83, 180, 0, 27, 112]
abbrev dktX0_drift_3 : List UInt8 := dkwX0_drift_3 ++ dktX0_drift_4
def dkwX0_drift_2 : List UInt8 := [54, 4, 3, 54, 5, 3, 54, 6, 21, 6, 28, 162, 0, 121, 21, 4, 19, 1, 56, 104, 17, 48, 57, 96]
abbrev dktX0_drift_2 : List UInt8 := dkwX0_drift_2 ++ dktX0_drift_3
def dkwX0_drift_1 : List UInt8 := [180, 0, 83, 180, 0, 27, 154, 0, 6, 16, 254, 172, 42, 180, 0, 87, 42, 180, 0, 83, 182, 0, 144, 27]
abbrev dktX0_drift_1 : List UInt8 := dkwX0_drift_1 ++ dktX0_drift_2
def dkwX0_drift_0 : List UInt8 := [28, 133, 10, 20, 0, 213, 184, 0, 122, 153, 0, 10, 29, 184, 0, 215, 154, 0, 5, 2, 172, 42]
abbrev dktX0_drift_0 : List UInt8 := dkwX0_drift_0 ++ dktX0_drift_1
theorem dksX0_drift_0 : cX0_drift.data.toList.drop 0 = dktX0_drift_0 := by decide +kernel
theorem dksX0_drift_1 : cX0_drift.data.toList.drop 22 = dktX0_drift_1 := dk_seg dksX0_drift_0 22 rfl rfl
theorem dksX0_drift_2 : cX0_drift.data.toList.drop 46 = dktX0_drift_2 := dk_seg dksX0_drift_1 24 rfl rfl
theorem dksX0_drift_3 : cX0_drift.data.toList.drop 70 = dktX0_drift_3 := dk_seg dksX0_drift_2 24 rfl rfl
theorem dksX0_drift_4 : cX0_drift.data.toList.drop 93 = dktX0_drift_4 := dk_seg dksX0_drift_3 23 rfl rfl
theorem dksX0_drift_5 : cX0_drift.data.toList.drop 116 = dktX0_drift_5 := dk_seg dksX0_drift_4 23 rfl rfl
theorem dksX0_drift_6 : cX0_drift.data.toList.drop 139 = dktX0_drift_6 := dk_seg dksX0_drift_5 23 rfl rfl
theorem dksX0_drift_7 : cX0_drift.data.toList.drop 161 = dktX0_drift_7 := dk_seg dksX0_drift_6 22 rfl rfl
theorem dksX0_drift_8 : cX0_drift.data.toList.drop 184 = dktX0_drift_8 := dk_seg dksX0_drift_7 23 rfl rfl
theorem dX0_drift_0 : decode cX0_drift 0 = .ok (.iload_n 2, 1) := dk_28 (dk_at dksX0_drift_0 0 rfl rfl)
theorem dX0_drift_1 : decode cX0_drift 1 = .ok (.i2l, 1) := dk_133 (dk_at dksX0_drift_0 1 rfl rfl)
theorem dX0_drift_2 : decode cX0_drift 2 = .ok (.lconst 1, 1) := dk_10 (dk_at dksX0_drift_0 2 rfl rfl)
theorem dX0_drift_3 : decode cX0_drift 3 = .ok (.ldc2_w 213, 3) := dk_20 0 213 (dk_at dksX0_drift_0 3 rfl rfl)
theorem dX0_drift_6 : decode cX0_drift 6 = .ok (.invokestatic 122, 3) := dk_184 0 122 (dk_at dksX0_drift_0 6 rfl rfl)
theorem dX0_drift_9 : decode cX0_drift 9 = .ok (.ifCond .eq 10, 3) := dk_153 0 10 (dk_at dksX0_drift_0 9 rfl rfl)
theorem dX0_drift_12 : decode cX0_drift 12 = .ok (.iload_n 3, 1) := dk_29 (dk_at dksX0_drift_0 12 rfl rfl)
theorem dX0_drift_13 : decode cX0_drift 13 = .ok (.invokestatic 215, 3) := dk_184 0 215 (dk_at dksX0_drift_0 13 rfl rfl)
theorem dX0_drift_16 : decode cX0_drift 16 = .ok (.ifCond .ne 5, 3) := dk_154 0 5 (dk_at dksX0_drift_0 16 rfl rfl)
theorem dX0_drift_19 : decode cX0_drift 19 = .ok (.iconst (-1), 1) := dk_2 (dk_at dksX0_drift_0 19 rfl rfl)
theorem dX0_drift_20 : decode cX0_drift 20 = .ok (.ireturn, 1) := dk_172 (dk_at dksX0_drift_0 20 rfl rfl)
theorem dX0_drift_21 : decode cX0_drift 21 = .ok (.aload_n 0, 1) := dk_42 (dk_at dksX0_drift_0 21 rfl rfl)
theorem dX0_drift_22 : decode cX0_drift 22 = .ok (.getfield 83, 3) := dk_180 0 83 (dk_at dksX0_drift_1 0 rfl rfl)
theorem dX0_drift_25 : decode cX0_drift 25 = .ok (.getfield 27, 3) := dk_180 0 27 (dk_at dksX0_drift_1 3 rfl rfl)
theorem dX0_drift_28 : decode cX0_drift 28 = .ok (.ifCond .ne 6, 3) := dk_154 0 6 (dk_at dksX0_drift_1 6 rfl rfl)
theorem dX0_drift_31 : decode cX0_drift 31 = .ok (.bipush (-2), 2) := dk_16 254 (dk_at dksX0_drift_1 9 rfl rfl)
theorem dX0_drift_33 : decode cX0_drift 33 = .ok (.ireturn, 1) := dk_172 (dk_at dksX0_drift_1 11 rfl rfl)
theorem dX0_drift_34 : decode cX0_drift 34 = .ok (.aload_n 0, 1) := dk_42 (dk_at dksX0_drift_1 12 rfl rfl)
theorem dX0_drift_35 : decode cX0_drift 35 = .ok (.getfield 87, 3) := dk_180 0 87 (dk_at dksX0_drift_1 13 rfl rfl)
theorem dX0_drift_38 : decode cX0_drift 38 = .ok (.aload_n 0, 1) := dk_42 (dk_at dksX0_drift_1 16 rfl rfl)
theorem dX0_drift_39 : decode cX0_drift 39 = .ok (.getfield 83, 3) := dk_180 0 83 (dk_at dksX0_drift_1 17 rfl rfl)
theorem dX0_drift_42 : decode cX0_drift 42 = .ok (.invokevirtual 144, 3) := dk_182 0 144 (dk_at dksX0_drift_1 20 rfl rfl)
theorem dX0_drift_45 : decode cX0_drift 45 = .ok (.iload_n 1, 1) := dk_27 (dk_at dksX0_drift_1 23 rfl rfl)
theorem dX0_drift_46 : decode cX0_drift 46 = .ok (.istore 4, 2) := dk_54 4 (dk_at dksX0_drift_2 0 rfl rfl)
theorem dX0_drift_48 : decode cX0_drift 48 = .ok (.iconst 0, 1) := dk_3 (dk_at dksX0_drift_2 2 rfl rfl)
theorem dX0_drift_49 : decode cX0_drift 49 = .ok (.istore 5, 2) := dk_54 5 (dk_at dksX0_drift_2 3 rfl rfl)
theorem dX0_drift_51 : decode cX0_drift 51 = .ok (.iconst 0, 1) := dk_3 (dk_at dksX0_drift_2 5 rfl rfl)
theorem dX0_drift_52 : decode cX0_drift 52 = .ok (.istore 6, 2) := dk_54 6 (dk_at dksX0_drift_2 6 rfl rfl)
theorem dX0_drift_54 : decode cX0_drift 54 = .ok (.iload 6, 2) := dk_21 6 (dk_at dksX0_drift_2 8 rfl rfl)
theorem dX0_drift_56 : decode cX0_drift 56 = .ok (.iload_n 2, 1) := dk_28 (dk_at dksX0_drift_2 10 rfl rfl)
theorem dX0_drift_57 : decode cX0_drift 57 = .ok (.if_icmp .ge 121, 3) := dk_162 0 121 (dk_at dksX0_drift_2 11 rfl rfl)
theorem dX0_drift_60 : decode cX0_drift 60 = .ok (.iload 4, 2) := dk_21 4 (dk_at dksX0_drift_2 14 rfl rfl)
theorem dX0_drift_62 : decode cX0_drift 62 = .ok (.ldc_w 312, 3) := dk_19 1 56 (dk_at dksX0_drift_2 16 rfl rfl)
theorem dX0_drift_65 : decode cX0_drift 65 = .ok (.imul, 1) := dk_104 (dk_at dksX0_drift_2 19 rfl rfl)
theorem dX0_drift_66 : decode cX0_drift 66 = .ok (.sipush 12345, 3) := dk_17 48 57 (dk_at dksX0_drift_2 20 rfl rfl)
theorem dX0_drift_69 : decode cX0_drift 69 = .ok (.iadd, 1) := dk_96 (dk_at dksX0_drift_2 23 rfl rfl)
theorem dX0_drift_70 : decode cX0_drift 70 = .ok (.istore 4, 2) := dk_54 4 (dk_at dksX0_drift_3 0 rfl rfl)
theorem dX0_drift_72 : decode cX0_drift 72 = .ok (.iload 4, 2) := dk_21 4 (dk_at dksX0_drift_3 2 rfl rfl)
theorem dX0_drift_74 : decode cX0_drift 74 = .ok (.bipush 16, 2) := dk_16 16 (dk_at dksX0_drift_3 4 rfl rfl)
theorem dX0_drift_76 : decode cX0_drift 76 = .ok (.iushr, 1) := dk_124 (dk_at dksX0_drift_3 6 rfl rfl)
theorem dX0_drift_77 : decode cX0_drift 77 = .ok (.sipush 32767, 3) := dk_17 127 255 (dk_at dksX0_drift_3 7 rfl rfl)
theorem dX0_drift_80 : decode cX0_drift 80 = .ok (.iand, 1) := dk_126 (dk_at dksX0_drift_3 10 rfl rfl)
theorem dX0_drift_81 : decode cX0_drift 81 = .ok (.istore 7, 2) := dk_54 7 (dk_at dksX0_drift_3 11 rfl rfl)
theorem dX0_drift_83 : decode cX0_drift 83 = .ok (.iload 7, 2) := dk_21 7 (dk_at dksX0_drift_3 13 rfl rfl)
theorem dX0_drift_85 : decode cX0_drift 85 = .ok (.aload_n 0, 1) := dk_42 (dk_at dksX0_drift_3 15 rfl rfl)
theorem dX0_drift_86 : decode cX0_drift 86 = .ok (.getfield 83, 3) := dk_180 0 83 (dk_at dksX0_drift_3 16 rfl rfl)
theorem dX0_drift_89 : decode cX0_drift 89 = .ok (.getfield 27, 3) := dk_180 0 27 (dk_at dksX0_drift_3 19 rfl rfl)
theorem dX0_drift_92 : decode cX0_drift 92 = .ok (.irem, 1) := dk_112 (dk_at dksX0_drift_3 22 rfl rfl)
theorem dX0_drift_93 : decode cX0_drift 93 = .ok (.istore 8, 2) := dk_54 8 (dk_at dksX0_drift_4 0 rfl rfl)
theorem dX0_drift_95 : decode cX0_drift 95 = .ok (.iload 7, 2) := dk_21 7 (dk_at dksX0_drift_4 2 rfl rfl)
theorem dX0_drift_97 : decode cX0_drift 97 = .ok (.bipush 8, 2) := dk_16 8 (dk_at dksX0_drift_4 4 rfl rfl)
theorem dX0_drift_99 : decode cX0_drift 99 = .ok (.idiv, 1) := dk_108 (dk_at dksX0_drift_4 6 rfl rfl)
theorem dX0_drift_100 : decode cX0_drift 100 = .ok (.aload_n 0, 1) := dk_42 (dk_at dksX0_drift_4 7 rfl rfl)
theorem dX0_drift_101 : decode cX0_drift 101 = .ok (.getfield 83, 3) := dk_180 0 83 (dk_at dksX0_drift_4 8 rfl rfl)
theorem dX0_drift_104 : decode cX0_drift 104 = .ok (.getfield 27, 3) := dk_180 0 27 (dk_at dksX0_drift_4 11 rfl rfl)
theorem dX0_drift_107 : decode cX0_drift 107 = .ok (.irem, 1) := dk_112 (dk_at dksX0_drift_4 14 rfl rfl)
theorem dX0_drift_108 : decode cX0_drift 108 = .ok (.istore 9, 2) := dk_54 9 (dk_at dksX0_drift_4 15 rfl rfl)
theorem dX0_drift_110 : decode cX0_drift 110 = .ok (.iconst 1, 1) := dk_4 (dk_at dksX0_drift_4 17 rfl rfl)
theorem dX0_drift_111 : decode cX0_drift 111 = .ok (.iload 7, 2) := dk_21 7 (dk_at dksX0_drift_4 18 rfl rfl)
theorem dX0_drift_113 : decode cX0_drift 113 = .ok (.bipush 64, 2) := dk_16 64 (dk_at dksX0_drift_4 20 rfl rfl)
theorem dX0_drift_115 : decode cX0_drift 115 = .ok (.idiv, 1) := dk_108 (dk_at dksX0_drift_4 22 rfl rfl)
theorem dX0_drift_116 : decode cX0_drift 116 = .ok (.bipush 9, 2) := dk_16 9 (dk_at dksX0_drift_5 0 rfl rfl)
theorem dX0_drift_118 : decode cX0_drift 118 = .ok (.irem, 1) := dk_112 (dk_at dksX0_drift_5 2 rfl rfl)
theorem dX0_drift_119 : decode cX0_drift 119 = .ok (.iadd, 1) := dk_96 (dk_at dksX0_drift_5 3 rfl rfl)
theorem dX0_drift_120 : decode cX0_drift 120 = .ok (.istore 10, 2) := dk_54 10 (dk_at dksX0_drift_5 4 rfl rfl)
theorem dX0_drift_122 : decode cX0_drift 122 = .ok (.iload 8, 2) := dk_21 8 (dk_at dksX0_drift_5 6 rfl rfl)
theorem dX0_drift_124 : decode cX0_drift 124 = .ok (.iload 9, 2) := dk_21 9 (dk_at dksX0_drift_5 8 rfl rfl)
theorem dX0_drift_126 : decode cX0_drift 126 = .ok (.if_icmp .eq 38, 3) := dk_159 0 38 (dk_at dksX0_drift_5 10 rfl rfl)
theorem dX0_drift_129 : decode cX0_drift 129 = .ok (.aload_n 0, 1) := dk_42 (dk_at dksX0_drift_5 13 rfl rfl)
theorem dX0_drift_130 : decode cX0_drift 130 = .ok (.getfield 87, 3) := dk_180 0 87 (dk_at dksX0_drift_5 14 rfl rfl)
theorem dX0_drift_133 : decode cX0_drift 133 = .ok (.iload 8, 2) := dk_21 8 (dk_at dksX0_drift_5 17 rfl rfl)
theorem dX0_drift_135 : decode cX0_drift 135 = .ok (.iload 9, 2) := dk_21 9 (dk_at dksX0_drift_5 19 rfl rfl)
theorem dX0_drift_137 : decode cX0_drift 137 = .ok (.iload 10, 2) := dk_21 10 (dk_at dksX0_drift_5 21 rfl rfl)
theorem dX0_drift_139 : decode cX0_drift 139 = .ok (.invokevirtual 55, 3) := dk_182 0 55 (dk_at dksX0_drift_6 0 rfl rfl)
theorem dX0_drift_142 : decode cX0_drift 142 = .ok (.ifCond .eq 22, 3) := dk_153 0 22 (dk_at dksX0_drift_6 3 rfl rfl)
theorem dX0_drift_145 : decode cX0_drift 145 = .ok (.aload_n 0, 1) := dk_42 (dk_at dksX0_drift_6 6 rfl rfl)
theorem dX0_drift_146 : decode cX0_drift 146 = .ok (.getfield 87, 3) := dk_180 0 87 (dk_at dksX0_drift_6 7 rfl rfl)
theorem dX0_drift_149 : decode cX0_drift 149 = .ok (.iload 8, 2) := dk_21 8 (dk_at dksX0_drift_6 10 rfl rfl)
theorem dX0_drift_151 : decode cX0_drift 151 = .ok (.iload 9, 2) := dk_21 9 (dk_at dksX0_drift_6 12 rfl rfl)
theorem dX0_drift_153 : decode cX0_drift 153 = .ok (.iload 10, 2) := dk_21 10 (dk_at dksX0_drift_6 14 rfl rfl)
theorem dX0_drift_155 : decode cX0_drift 155 = .ok (.invokevirtual 63, 3) := dk_182 0 63 (dk_at dksX0_drift_6 16 rfl rfl)
theorem dX0_drift_158 : decode cX0_drift 158 = .ok (.iinc 5 1, 3) := dk_132 5 1 (dk_at dksX0_drift_6 19 rfl rfl)
theorem dX0_drift_161 : decode cX0_drift 161 = .ok (.goto 11, 3) := dk_167 0 11 (dk_at dksX0_drift_7 0 rfl rfl)
theorem dX0_drift_164 : decode cX0_drift 164 = .ok (.aload_n 0, 1) := dk_42 (dk_at dksX0_drift_7 3 rfl rfl)
theorem dX0_drift_165 : decode cX0_drift 165 = .ok (.aload_n 0, 1) := dk_42 (dk_at dksX0_drift_7 4 rfl rfl)
theorem dX0_drift_166 : decode cX0_drift 166 = .ok (.getfield 87, 3) := dk_180 0 87 (dk_at dksX0_drift_7 5 rfl rfl)
theorem dX0_drift_169 : decode cX0_drift 169 = .ok (.invokevirtual 206, 3) := dk_182 0 206 (dk_at dksX0_drift_7 8 rfl rfl)
theorem dX0_drift_172 : decode cX0_drift 172 = .ok (.iinc 6 1, 3) := dk_132 6 1 (dk_at dksX0_drift_7 11 rfl rfl)
theorem dX0_drift_175 : decode cX0_drift 175 = .ok (.goto (-121), 3) := dk_167 255 135 (dk_at dksX0_drift_7 14 rfl rfl)
theorem dX0_drift_178 : decode cX0_drift 178 = .ok (.iload_n 3, 1) := dk_29 (dk_at dksX0_drift_7 17 rfl rfl)
theorem dX0_drift_179 : decode cX0_drift 179 = .ok (.ifCond .ne 8, 3) := dk_154 0 8 (dk_at dksX0_drift_7 18 rfl rfl)
theorem dX0_drift_182 : decode cX0_drift 182 = .ok (.iload 5, 2) := dk_21 5 (dk_at dksX0_drift_7 21 rfl rfl)
theorem dX0_drift_184 : decode cX0_drift 184 = .ok (.goto 10, 3) := dk_167 0 10 (dk_at dksX0_drift_8 0 rfl rfl)
theorem dX0_drift_187 : decode cX0_drift 187 = .ok (.aload_n 0, 1) := dk_42 (dk_at dksX0_drift_8 3 rfl rfl)
theorem dX0_drift_188 : decode cX0_drift 188 = .ok (.getfield 87, 3) := dk_180 0 87 (dk_at dksX0_drift_8 4 rfl rfl)
theorem dX0_drift_191 : decode cX0_drift 191 = .ok (.invokevirtual 173, 3) := dk_182 0 173 (dk_at dksX0_drift_8 7 rfl rfl)
theorem dX0_drift_194 : decode cX0_drift 194 = .ok (.ireturn, 1) := dk_172 (dk_at dksX0_drift_8 10 rfl rfl)
abbrev cX0_keep : ByteArray := prog_1_method_60_code
def yX0_keep : MethodName := ⟨RX0, "keep", "(I)I"⟩
def dkwX0_keep_2 : List UInt8 := [28, 172]
abbrev dktX0_keep_2 : List UInt8 := dkwX0_keep_2 ++ []
def dkwX0_keep_1 : List UInt8 := [180, 0, 93, 27, 50, 42, 180, 0, 83, 182, 0, 144, 42, 89, 180, 0, 151, 4, 27, 120, 128, 181, 0, 151]
abbrev dktX0_keep_1 : List UInt8 := dkwX0_keep_1 ++ dktX0_keep_2
def dkwX0_keep_0 : List UInt8 := [27, 133, 9, 10, 184, 0, 122, 154, 0, 5, 2, 172, 42, 180, 0, 151, 27, 122, 4, 126, 61, 42]
abbrev dktX0_keep_0 : List UInt8 := dkwX0_keep_0 ++ dktX0_keep_1
theorem dksX0_keep_0 : cX0_keep.data.toList.drop 0 = dktX0_keep_0 := by decide +kernel
theorem dksX0_keep_1 : cX0_keep.data.toList.drop 22 = dktX0_keep_1 := dk_seg dksX0_keep_0 22 rfl rfl
theorem dksX0_keep_2 : cX0_keep.data.toList.drop 46 = dktX0_keep_2 := dk_seg dksX0_keep_1 24 rfl rfl
theorem dX0_keep_0 : decode cX0_keep 0 = .ok (.iload_n 1, 1) := dk_27 (dk_at dksX0_keep_0 0 rfl rfl)
theorem dX0_keep_1 : decode cX0_keep 1 = .ok (.i2l, 1) := dk_133 (dk_at dksX0_keep_0 1 rfl rfl)
theorem dX0_keep_2 : decode cX0_keep 2 = .ok (.lconst 0, 1) := dk_9 (dk_at dksX0_keep_0 2 rfl rfl)
theorem dX0_keep_3 : decode cX0_keep 3 = .ok (.lconst 1, 1) := dk_10 (dk_at dksX0_keep_0 3 rfl rfl)
theorem dX0_keep_4 : decode cX0_keep 4 = .ok (.invokestatic 122, 3) := dk_184 0 122 (dk_at dksX0_keep_0 4 rfl rfl)
theorem dX0_keep_7 : decode cX0_keep 7 = .ok (.ifCond .ne 5, 3) := dk_154 0 5 (dk_at dksX0_keep_0 7 rfl rfl)
theorem dX0_keep_10 : decode cX0_keep 10 = .ok (.iconst (-1), 1) := dk_2 (dk_at dksX0_keep_0 10 rfl rfl)
theorem dX0_keep_11 : decode cX0_keep 11 = .ok (.ireturn, 1) := dk_172 (dk_at dksX0_keep_0 11 rfl rfl)
theorem dX0_keep_12 : decode cX0_keep 12 = .ok (.aload_n 0, 1) := dk_42 (dk_at dksX0_keep_0 12 rfl rfl)
theorem dX0_keep_13 : decode cX0_keep 13 = .ok (.getfield 151, 3) := dk_180 0 151 (dk_at dksX0_keep_0 13 rfl rfl)
theorem dX0_keep_16 : decode cX0_keep 16 = .ok (.iload_n 1, 1) := dk_27 (dk_at dksX0_keep_0 16 rfl rfl)
theorem dX0_keep_17 : decode cX0_keep 17 = .ok (.ishr, 1) := dk_122 (dk_at dksX0_keep_0 17 rfl rfl)
theorem dX0_keep_18 : decode cX0_keep 18 = .ok (.iconst 1, 1) := dk_4 (dk_at dksX0_keep_0 18 rfl rfl)
theorem dX0_keep_19 : decode cX0_keep 19 = .ok (.iand, 1) := dk_126 (dk_at dksX0_keep_0 19 rfl rfl)
theorem dX0_keep_20 : decode cX0_keep 20 = .ok (.istore_n 2, 1) := dk_61 (dk_at dksX0_keep_0 20 rfl rfl)
theorem dX0_keep_21 : decode cX0_keep 21 = .ok (.aload_n 0, 1) := dk_42 (dk_at dksX0_keep_0 21 rfl rfl)
theorem dX0_keep_22 : decode cX0_keep 22 = .ok (.getfield 93, 3) := dk_180 0 93 (dk_at dksX0_keep_1 0 rfl rfl)
theorem dX0_keep_25 : decode cX0_keep 25 = .ok (.iload_n 1, 1) := dk_27 (dk_at dksX0_keep_1 3 rfl rfl)
theorem dX0_keep_26 : decode cX0_keep 26 = .ok (.aaload, 1) := dk_50 (dk_at dksX0_keep_1 4 rfl rfl)
theorem dX0_keep_27 : decode cX0_keep 27 = .ok (.aload_n 0, 1) := dk_42 (dk_at dksX0_keep_1 5 rfl rfl)
theorem dX0_keep_28 : decode cX0_keep 28 = .ok (.getfield 83, 3) := dk_180 0 83 (dk_at dksX0_keep_1 6 rfl rfl)
theorem dX0_keep_31 : decode cX0_keep 31 = .ok (.invokevirtual 144, 3) := dk_182 0 144 (dk_at dksX0_keep_1 9 rfl rfl)
theorem dX0_keep_34 : decode cX0_keep 34 = .ok (.aload_n 0, 1) := dk_42 (dk_at dksX0_keep_1 12 rfl rfl)
theorem dX0_keep_35 : decode cX0_keep 35 = .ok (.dup, 1) := dk_89 (dk_at dksX0_keep_1 13 rfl rfl)
theorem dX0_keep_36 : decode cX0_keep 36 = .ok (.getfield 151, 3) := dk_180 0 151 (dk_at dksX0_keep_1 14 rfl rfl)
theorem dX0_keep_39 : decode cX0_keep 39 = .ok (.iconst 1, 1) := dk_4 (dk_at dksX0_keep_1 17 rfl rfl)
theorem dX0_keep_40 : decode cX0_keep 40 = .ok (.iload_n 1, 1) := dk_27 (dk_at dksX0_keep_1 18 rfl rfl)
theorem dX0_keep_41 : decode cX0_keep 41 = .ok (.ishl, 1) := dk_120 (dk_at dksX0_keep_1 19 rfl rfl)
theorem dX0_keep_42 : decode cX0_keep 42 = .ok (.ior, 1) := dk_128 (dk_at dksX0_keep_1 20 rfl rfl)
theorem dX0_keep_43 : decode cX0_keep 43 = .ok (.putfield 151, 3) := dk_181 0 151 (dk_at dksX0_keep_1 21 rfl rfl)
theorem dX0_keep_46 : decode cX0_keep 46 = .ok (.iload_n 2, 1) := dk_28 (dk_at dksX0_keep_2 0 rfl rfl)
theorem dX0_keep_47 : decode cX0_keep 47 = .ok (.ireturn, 1) := dk_172 (dk_at dksX0_keep_2 1 rfl rfl)
abbrev cX0_back : ByteArray := prog_1_method_61_code
def yX0_back : MethodName := ⟨RX0, "back", "(I)I"⟩
def dkwX0_back_1 : List UInt8 := [16, 254, 172, 42, 180, 0, 83, 42, 180, 0, 93, 27, 50, 182, 0, 144, 42, 180, 0, 83, 180, 0, 39, 172]
abbrev dktX0_back_1 : List UInt8 := dkwX0_back_1 ++ []
def dkwX0_back_0 : List UInt8 := [27, 133, 9, 10, 184, 0, 122, 154, 0, 5, 2, 172, 42, 180, 0, 151, 27, 184, 0, 59, 154, 0, 6]
abbrev dktX0_back_0 : List UInt8 := dkwX0_back_0 ++ dktX0_back_1
theorem dksX0_back_0 : cX0_back.data.toList.drop 0 = dktX0_back_0 := by decide +kernel
theorem dksX0_back_1 : cX0_back.data.toList.drop 23 = dktX0_back_1 := dk_seg dksX0_back_0 23 rfl rfl
theorem dX0_back_0 : decode cX0_back 0 = .ok (.iload_n 1, 1) := dk_27 (dk_at dksX0_back_0 0 rfl rfl)
theorem dX0_back_1 : decode cX0_back 1 = .ok (.i2l, 1) := dk_133 (dk_at dksX0_back_0 1 rfl rfl)
theorem dX0_back_2 : decode cX0_back 2 = .ok (.lconst 0, 1) := dk_9 (dk_at dksX0_back_0 2 rfl rfl)
theorem dX0_back_3 : decode cX0_back 3 = .ok (.lconst 1, 1) := dk_10 (dk_at dksX0_back_0 3 rfl rfl)
theorem dX0_back_4 : decode cX0_back 4 = .ok (.invokestatic 122, 3) := dk_184 0 122 (dk_at dksX0_back_0 4 rfl rfl)
theorem dX0_back_7 : decode cX0_back 7 = .ok (.ifCond .ne 5, 3) := dk_154 0 5 (dk_at dksX0_back_0 7 rfl rfl)
theorem dX0_back_10 : decode cX0_back 10 = .ok (.iconst (-1), 1) := dk_2 (dk_at dksX0_back_0 10 rfl rfl)
theorem dX0_back_11 : decode cX0_back 11 = .ok (.ireturn, 1) := dk_172 (dk_at dksX0_back_0 11 rfl rfl)
theorem dX0_back_12 : decode cX0_back 12 = .ok (.aload_n 0, 1) := dk_42 (dk_at dksX0_back_0 12 rfl rfl)
theorem dX0_back_13 : decode cX0_back 13 = .ok (.getfield 151, 3) := dk_180 0 151 (dk_at dksX0_back_0 13 rfl rfl)
theorem dX0_back_16 : decode cX0_back 16 = .ok (.iload_n 1, 1) := dk_27 (dk_at dksX0_back_0 16 rfl rfl)
theorem dX0_back_17 : decode cX0_back 17 = .ok (.invokestatic 59, 3) := dk_184 0 59 (dk_at dksX0_back_0 17 rfl rfl)
theorem dX0_back_20 : decode cX0_back 20 = .ok (.ifCond .ne 6, 3) := dk_154 0 6 (dk_at dksX0_back_0 20 rfl rfl)
theorem dX0_back_23 : decode cX0_back 23 = .ok (.bipush (-2), 2) := dk_16 254 (dk_at dksX0_back_1 0 rfl rfl)
theorem dX0_back_25 : decode cX0_back 25 = .ok (.ireturn, 1) := dk_172 (dk_at dksX0_back_1 2 rfl rfl)
theorem dX0_back_26 : decode cX0_back 26 = .ok (.aload_n 0, 1) := dk_42 (dk_at dksX0_back_1 3 rfl rfl)
theorem dX0_back_27 : decode cX0_back 27 = .ok (.getfield 83, 3) := dk_180 0 83 (dk_at dksX0_back_1 4 rfl rfl)
theorem dX0_back_30 : decode cX0_back 30 = .ok (.aload_n 0, 1) := dk_42 (dk_at dksX0_back_1 7 rfl rfl)
theorem dX0_back_31 : decode cX0_back 31 = .ok (.getfield 93, 3) := dk_180 0 93 (dk_at dksX0_back_1 8 rfl rfl)
theorem dX0_back_34 : decode cX0_back 34 = .ok (.iload_n 1, 1) := dk_27 (dk_at dksX0_back_1 11 rfl rfl)
theorem dX0_back_35 : decode cX0_back 35 = .ok (.aaload, 1) := dk_50 (dk_at dksX0_back_1 12 rfl rfl)
theorem dX0_back_36 : decode cX0_back 36 = .ok (.invokevirtual 144, 3) := dk_182 0 144 (dk_at dksX0_back_1 13 rfl rfl)
theorem dX0_back_39 : decode cX0_back 39 = .ok (.aload_n 0, 1) := dk_42 (dk_at dksX0_back_1 16 rfl rfl)
theorem dX0_back_40 : decode cX0_back 40 = .ok (.getfield 83, 3) := dk_180 0 83 (dk_at dksX0_back_1 17 rfl rfl)
theorem dX0_back_43 : decode cX0_back 43 = .ok (.getfield 39, 3) := dk_180 0 39 (dk_at dksX0_back_1 20 rfl rfl)
theorem dX0_back_46 : decode cX0_back 46 = .ok (.ireturn, 1) := dk_172 (dk_at dksX0_back_1 23 rfl rfl)
abbrev cX0_sheet : ByteArray := prog_1_method_63_code
def yX0_sheet : MethodName := ⟨RX0, "sheet", "(III)I"⟩
def dkwX0_sheet_2 : List UInt8 := [181, 1, 60, 4, 172, 58, 4, 16, 242, 172]
abbrev dktX0_sheet_2 : List UInt8 := dkwX0_sheet_2 ++ []
def dkwX0_sheet_1 : List UInt8 := [154, 0, 9, 29, 188, 8, 167, 0, 17, 28, 4, 160, 0, 9, 29, 188, 9, 167, 0, 6, 29, 188, 10]
abbrev dktX0_sheet_1 : List UInt8 := dkwX0_sheet_1 ++ dktX0_sheet_2
def dkwX0_sheet_0 : List UInt8 := [27, 28, 184, 1, 57, 153, 0, 9, 29, 16, 40, 164, 0, 5, 2, 172, 42, 180, 0, 115, 27, 50, 28]
abbrev dktX0_sheet_0 : List UInt8 := dkwX0_sheet_0 ++ dktX0_sheet_1
theorem dksX0_sheet_0 : cX0_sheet.data.toList.drop 0 = dktX0_sheet_0 := by decide +kernel
theorem dksX0_sheet_1 : cX0_sheet.data.toList.drop 23 = dktX0_sheet_1 := dk_seg dksX0_sheet_0 23 rfl rfl
theorem dksX0_sheet_2 : cX0_sheet.data.toList.drop 46 = dktX0_sheet_2 := dk_seg dksX0_sheet_1 23 rfl rfl
theorem dX0_sheet_0 : decode cX0_sheet 0 = .ok (.iload_n 1, 1) := dk_27 (dk_at dksX0_sheet_0 0 rfl rfl)
theorem dX0_sheet_1 : decode cX0_sheet 1 = .ok (.iload_n 2, 1) := dk_28 (dk_at dksX0_sheet_0 1 rfl rfl)
theorem dX0_sheet_2 : decode cX0_sheet 2 = .ok (.invokestatic 313, 3) := dk_184 1 57 (dk_at dksX0_sheet_0 2 rfl rfl)
theorem dX0_sheet_5 : decode cX0_sheet 5 = .ok (.ifCond .eq 9, 3) := dk_153 0 9 (dk_at dksX0_sheet_0 5 rfl rfl)
theorem dX0_sheet_8 : decode cX0_sheet 8 = .ok (.iload_n 3, 1) := dk_29 (dk_at dksX0_sheet_0 8 rfl rfl)
theorem dX0_sheet_9 : decode cX0_sheet 9 = .ok (.bipush 40, 2) := dk_16 40 (dk_at dksX0_sheet_0 9 rfl rfl)
theorem dX0_sheet_11 : decode cX0_sheet 11 = .ok (.if_icmp .le 5, 3) := dk_164 0 5 (dk_at dksX0_sheet_0 11 rfl rfl)
theorem dX0_sheet_14 : decode cX0_sheet 14 = .ok (.iconst (-1), 1) := dk_2 (dk_at dksX0_sheet_0 14 rfl rfl)
theorem dX0_sheet_15 : decode cX0_sheet 15 = .ok (.ireturn, 1) := dk_172 (dk_at dksX0_sheet_0 15 rfl rfl)
theorem dX0_sheet_16 : decode cX0_sheet 16 = .ok (.aload_n 0, 1) := dk_42 (dk_at dksX0_sheet_0 16 rfl rfl)
theorem dX0_sheet_17 : decode cX0_sheet 17 = .ok (.getfield 115, 3) := dk_180 0 115 (dk_at dksX0_sheet_0 17 rfl rfl)
theorem dX0_sheet_20 : decode cX0_sheet 20 = .ok (.iload_n 1, 1) := dk_27 (dk_at dksX0_sheet_0 20 rfl rfl)
theorem dX0_sheet_21 : decode cX0_sheet 21 = .ok (.aaload, 1) := dk_50 (dk_at dksX0_sheet_0 21 rfl rfl)
theorem dX0_sheet_22 : decode cX0_sheet 22 = .ok (.iload_n 2, 1) := dk_28 (dk_at dksX0_sheet_0 22 rfl rfl)
theorem dX0_sheet_23 : decode cX0_sheet 23 = .ok (.ifCond .ne 9, 3) := dk_154 0 9 (dk_at dksX0_sheet_1 0 rfl rfl)
theorem dX0_sheet_26 : decode cX0_sheet 26 = .ok (.iload_n 3, 1) := dk_29 (dk_at dksX0_sheet_1 3 rfl rfl)
theorem dX0_sheet_27 : decode cX0_sheet 27 = .ok (.newarray .byte, 2) := dk_188_8 (dk_at dksX0_sheet_1 4 rfl rfl)
theorem dX0_sheet_29 : decode cX0_sheet 29 = .ok (.goto 17, 3) := dk_167 0 17 (dk_at dksX0_sheet_1 6 rfl rfl)
theorem dX0_sheet_32 : decode cX0_sheet 32 = .ok (.iload_n 2, 1) := dk_28 (dk_at dksX0_sheet_1 9 rfl rfl)
theorem dX0_sheet_33 : decode cX0_sheet 33 = .ok (.iconst 1, 1) := dk_4 (dk_at dksX0_sheet_1 10 rfl rfl)
theorem dX0_sheet_34 : decode cX0_sheet 34 = .ok (.if_icmp .ne 9, 3) := dk_160 0 9 (dk_at dksX0_sheet_1 11 rfl rfl)
theorem dX0_sheet_37 : decode cX0_sheet 37 = .ok (.iload_n 3, 1) := dk_29 (dk_at dksX0_sheet_1 14 rfl rfl)
theorem dX0_sheet_38 : decode cX0_sheet 38 = .ok (.newarray .short, 2) := dk_188_9 (dk_at dksX0_sheet_1 15 rfl rfl)
theorem dX0_sheet_40 : decode cX0_sheet 40 = .ok (.goto 6, 3) := dk_167 0 6 (dk_at dksX0_sheet_1 17 rfl rfl)
theorem dX0_sheet_43 : decode cX0_sheet 43 = .ok (.iload_n 3, 1) := dk_29 (dk_at dksX0_sheet_1 20 rfl rfl)
theorem dX0_sheet_44 : decode cX0_sheet 44 = .ok (.newarray .int, 2) := dk_188_10 (dk_at dksX0_sheet_1 21 rfl rfl)
theorem dX0_sheet_46 : decode cX0_sheet 46 = .ok (.putfield 316, 3) := dk_181 1 60 (dk_at dksX0_sheet_2 0 rfl rfl)
theorem dX0_sheet_49 : decode cX0_sheet 49 = .ok (.iconst 1, 1) := dk_4 (dk_at dksX0_sheet_2 3 rfl rfl)
theorem dX0_sheet_50 : decode cX0_sheet 50 = .ok (.ireturn, 1) := dk_172 (dk_at dksX0_sheet_2 4 rfl rfl)
theorem dX0_sheet_51 : decode cX0_sheet 51 = .ok (.astore 4, 2) := dk_58 4 (dk_at dksX0_sheet_2 5 rfl rfl)
theorem dX0_sheet_53 : decode cX0_sheet 53 = .ok (.bipush (-14), 2) := dk_16 242 (dk_at dksX0_sheet_2 7 rfl rfl)
theorem dX0_sheet_55 : decode cX0_sheet 55 = .ok (.ireturn, 1) := dk_172 (dk_at dksX0_sheet_2 9 rfl rfl)
abbrev cX0_isSheet : ByteArray := prog_1_method_62_code
def yX0_isSheet : MethodName := ⟨RX0, "isSheet", "(II)Z"⟩
def dkwX0_isSheet_1 : List UInt8 := [4, 167, 0, 4, 3, 172]
abbrev dktX0_isSheet_1 : List UInt8 := dkwX0_isSheet_1 ++ []
def dkwX0_isSheet_0 : List UInt8 := [26, 133, 9, 20, 0, 192, 184, 0, 122, 153, 0, 19, 27, 133, 9, 20, 0, 190, 184, 0, 122, 153, 0, 7]
abbrev dktX0_isSheet_0 : List UInt8 := dkwX0_isSheet_0 ++ dktX0_isSheet_1
theorem dksX0_isSheet_0 : cX0_isSheet.data.toList.drop 0 = dktX0_isSheet_0 := by decide +kernel
theorem dksX0_isSheet_1 : cX0_isSheet.data.toList.drop 24 = dktX0_isSheet_1 := dk_seg dksX0_isSheet_0 24 rfl rfl
theorem dX0_isSheet_0 : decode cX0_isSheet 0 = .ok (.iload_n 0, 1) := dk_26 (dk_at dksX0_isSheet_0 0 rfl rfl)
theorem dX0_isSheet_1 : decode cX0_isSheet 1 = .ok (.i2l, 1) := dk_133 (dk_at dksX0_isSheet_0 1 rfl rfl)
theorem dX0_isSheet_2 : decode cX0_isSheet 2 = .ok (.lconst 0, 1) := dk_9 (dk_at dksX0_isSheet_0 2 rfl rfl)
theorem dX0_isSheet_3 : decode cX0_isSheet 3 = .ok (.ldc2_w 192, 3) := dk_20 0 192 (dk_at dksX0_isSheet_0 3 rfl rfl)
theorem dX0_isSheet_6 : decode cX0_isSheet 6 = .ok (.invokestatic 122, 3) := dk_184 0 122 (dk_at dksX0_isSheet_0 6 rfl rfl)
theorem dX0_isSheet_9 : decode cX0_isSheet 9 = .ok (.ifCond .eq 19, 3) := dk_153 0 19 (dk_at dksX0_isSheet_0 9 rfl rfl)
theorem dX0_isSheet_12 : decode cX0_isSheet 12 = .ok (.iload_n 1, 1) := dk_27 (dk_at dksX0_isSheet_0 12 rfl rfl)
theorem dX0_isSheet_13 : decode cX0_isSheet 13 = .ok (.i2l, 1) := dk_133 (dk_at dksX0_isSheet_0 13 rfl rfl)
theorem dX0_isSheet_14 : decode cX0_isSheet 14 = .ok (.lconst 0, 1) := dk_9 (dk_at dksX0_isSheet_0 14 rfl rfl)
theorem dX0_isSheet_15 : decode cX0_isSheet 15 = .ok (.ldc2_w 190, 3) := dk_20 0 190 (dk_at dksX0_isSheet_0 15 rfl rfl)
theorem dX0_isSheet_18 : decode cX0_isSheet 18 = .ok (.invokestatic 122, 3) := dk_184 0 122 (dk_at dksX0_isSheet_0 18 rfl rfl)
theorem dX0_isSheet_21 : decode cX0_isSheet 21 = .ok (.ifCond .eq 7, 3) := dk_153 0 7 (dk_at dksX0_isSheet_0 21 rfl rfl)
theorem dX0_isSheet_24 : decode cX0_isSheet 24 = .ok (.iconst 1, 1) := dk_4 (dk_at dksX0_isSheet_1 0 rfl rfl)
theorem dX0_isSheet_25 : decode cX0_isSheet 25 = .ok (.goto 4, 3) := dk_167 0 4 (dk_at dksX0_isSheet_1 1 rfl rfl)
theorem dX0_isSheet_28 : decode cX0_isSheet 28 = .ok (.iconst 0, 1) := dk_3 (dk_at dksX0_isSheet_1 4 rfl rfl)
theorem dX0_isSheet_29 : decode cX0_isSheet 29 = .ok (.ireturn, 1) := dk_172 (dk_at dksX0_isSheet_1 5 rfl rfl)
abbrev cX0_lay : ByteArray := prog_1_method_64_code
def yX0_lay : MethodName := ⟨RX0, "lay", "(III)I"⟩
def dkwX0_lay_3 : List UInt8 := [29, 79, 4, 172, 58, 5, 16, 245, 172, 58, 5, 16, 244, 172]
abbrev dktX0_lay_3 : List UInt8 := dkwX0_lay_3 ++ []
def dkwX0_lay_2 : List UInt8 := [193, 1, 67, 153, 0, 15, 25, 4, 192, 1, 67, 28, 29, 147, 86, 167, 0, 11, 25, 4, 192, 1, 69, 28]
abbrev dktX0_lay_2 : List UInt8 := dkwX0_lay_2 ++ dktX0_lay_3
def dkwX0_lay_1 : List UInt8 := [58, 4, 25, 4, 193, 1, 66, 153, 0, 15, 25, 4, 192, 1, 66, 28, 29, 145, 84, 167, 0, 31, 25, 4]
abbrev dktX0_lay_1 : List UInt8 := dkwX0_lay_1 ++ dktX0_lay_2
def dkwX0_lay_0 : List UInt8 := [27, 133, 9, 20, 0, 192, 184, 0, 122, 154, 0, 5, 2, 172, 42, 180, 0, 115, 27, 50, 180, 1, 60]
abbrev dktX0_lay_0 : List UInt8 := dkwX0_lay_0 ++ dktX0_lay_1
theorem dksX0_lay_0 : cX0_lay.data.toList.drop 0 = dktX0_lay_0 := by decide +kernel
theorem dksX0_lay_1 : cX0_lay.data.toList.drop 23 = dktX0_lay_1 := dk_seg dksX0_lay_0 23 rfl rfl
theorem dksX0_lay_2 : cX0_lay.data.toList.drop 47 = dktX0_lay_2 := dk_seg dksX0_lay_1 24 rfl rfl
theorem dksX0_lay_3 : cX0_lay.data.toList.drop 71 = dktX0_lay_3 := dk_seg dksX0_lay_2 24 rfl rfl
theorem dX0_lay_0 : decode cX0_lay 0 = .ok (.iload_n 1, 1) := dk_27 (dk_at dksX0_lay_0 0 rfl rfl)
theorem dX0_lay_1 : decode cX0_lay 1 = .ok (.i2l, 1) := dk_133 (dk_at dksX0_lay_0 1 rfl rfl)
theorem dX0_lay_2 : decode cX0_lay 2 = .ok (.lconst 0, 1) := dk_9 (dk_at dksX0_lay_0 2 rfl rfl)
theorem dX0_lay_3 : decode cX0_lay 3 = .ok (.ldc2_w 192, 3) := dk_20 0 192 (dk_at dksX0_lay_0 3 rfl rfl)
theorem dX0_lay_6 : decode cX0_lay 6 = .ok (.invokestatic 122, 3) := dk_184 0 122 (dk_at dksX0_lay_0 6 rfl rfl)
theorem dX0_lay_9 : decode cX0_lay 9 = .ok (.ifCond .ne 5, 3) := dk_154 0 5 (dk_at dksX0_lay_0 9 rfl rfl)
theorem dX0_lay_12 : decode cX0_lay 12 = .ok (.iconst (-1), 1) := dk_2 (dk_at dksX0_lay_0 12 rfl rfl)
theorem dX0_lay_13 : decode cX0_lay 13 = .ok (.ireturn, 1) := dk_172 (dk_at dksX0_lay_0 13 rfl rfl)
theorem dX0_lay_14 : decode cX0_lay 14 = .ok (.aload_n 0, 1) := dk_42 (dk_at dksX0_lay_0 14 rfl rfl)
theorem dX0_lay_15 : decode cX0_lay 15 = .ok (.getfield 115, 3) := dk_180 0 115 (dk_at dksX0_lay_0 15 rfl rfl)
theorem dX0_lay_18 : decode cX0_lay 18 = .ok (.iload_n 1, 1) := dk_27 (dk_at dksX0_lay_0 18 rfl rfl)
theorem dX0_lay_19 : decode cX0_lay 19 = .ok (.aaload, 1) := dk_50 (dk_at dksX0_lay_0 19 rfl rfl)
theorem dX0_lay_20 : decode cX0_lay 20 = .ok (.getfield 316, 3) := dk_180 1 60 (dk_at dksX0_lay_0 20 rfl rfl)
theorem dX0_lay_23 : decode cX0_lay 23 = .ok (.astore 4, 2) := dk_58 4 (dk_at dksX0_lay_1 0 rfl rfl)
theorem dX0_lay_25 : decode cX0_lay 25 = .ok (.aload 4, 2) := dk_25 4 (dk_at dksX0_lay_1 2 rfl rfl)
theorem dX0_lay_27 : decode cX0_lay 27 = .ok (.instanceof 322, 3) := dk_193 1 66 (dk_at dksX0_lay_1 4 rfl rfl)
theorem dX0_lay_30 : decode cX0_lay 30 = .ok (.ifCond .eq 15, 3) := dk_153 0 15 (dk_at dksX0_lay_1 7 rfl rfl)
theorem dX0_lay_33 : decode cX0_lay 33 = .ok (.aload 4, 2) := dk_25 4 (dk_at dksX0_lay_1 10 rfl rfl)
theorem dX0_lay_35 : decode cX0_lay 35 = .ok (.checkcast 322, 3) := dk_192 1 66 (dk_at dksX0_lay_1 12 rfl rfl)
theorem dX0_lay_38 : decode cX0_lay 38 = .ok (.iload_n 2, 1) := dk_28 (dk_at dksX0_lay_1 15 rfl rfl)
theorem dX0_lay_39 : decode cX0_lay 39 = .ok (.iload_n 3, 1) := dk_29 (dk_at dksX0_lay_1 16 rfl rfl)
theorem dX0_lay_40 : decode cX0_lay 40 = .ok (.i2b, 1) := dk_145 (dk_at dksX0_lay_1 17 rfl rfl)
theorem dX0_lay_41 : decode cX0_lay 41 = .ok (.bastore, 1) := dk_84 (dk_at dksX0_lay_1 18 rfl rfl)
theorem dX0_lay_42 : decode cX0_lay 42 = .ok (.goto 31, 3) := dk_167 0 31 (dk_at dksX0_lay_1 19 rfl rfl)
theorem dX0_lay_45 : decode cX0_lay 45 = .ok (.aload 4, 2) := dk_25 4 (dk_at dksX0_lay_1 22 rfl rfl)
theorem dX0_lay_47 : decode cX0_lay 47 = .ok (.instanceof 323, 3) := dk_193 1 67 (dk_at dksX0_lay_2 0 rfl rfl)
theorem dX0_lay_50 : decode cX0_lay 50 = .ok (.ifCond .eq 15, 3) := dk_153 0 15 (dk_at dksX0_lay_2 3 rfl rfl)
theorem dX0_lay_53 : decode cX0_lay 53 = .ok (.aload 4, 2) := dk_25 4 (dk_at dksX0_lay_2 6 rfl rfl)
theorem dX0_lay_55 : decode cX0_lay 55 = .ok (.checkcast 323, 3) := dk_192 1 67 (dk_at dksX0_lay_2 8 rfl rfl)
theorem dX0_lay_58 : decode cX0_lay 58 = .ok (.iload_n 2, 1) := dk_28 (dk_at dksX0_lay_2 11 rfl rfl)
theorem dX0_lay_59 : decode cX0_lay 59 = .ok (.iload_n 3, 1) := dk_29 (dk_at dksX0_lay_2 12 rfl rfl)
theorem dX0_lay_60 : decode cX0_lay 60 = .ok (.i2s, 1) := dk_147 (dk_at dksX0_lay_2 13 rfl rfl)
theorem dX0_lay_61 : decode cX0_lay 61 = .ok (.sastore, 1) := dk_86 (dk_at dksX0_lay_2 14 rfl rfl)
theorem dX0_lay_62 : decode cX0_lay 62 = .ok (.goto 11, 3) := dk_167 0 11 (dk_at dksX0_lay_2 15 rfl rfl)
theorem dX0_lay_65 : decode cX0_lay 65 = .ok (.aload 4, 2) := dk_25 4 (dk_at dksX0_lay_2 18 rfl rfl)
theorem dX0_lay_67 : decode cX0_lay 67 = .ok (.checkcast 325, 3) := dk_192 1 69 (dk_at dksX0_lay_2 20 rfl rfl)
theorem dX0_lay_70 : decode cX0_lay 70 = .ok (.iload_n 2, 1) := dk_28 (dk_at dksX0_lay_2 23 rfl rfl)
theorem dX0_lay_71 : decode cX0_lay 71 = .ok (.iload_n 3, 1) := dk_29 (dk_at dksX0_lay_3 0 rfl rfl)
theorem dX0_lay_72 : decode cX0_lay 72 = .ok (.iastore, 1) := dk_79 (dk_at dksX0_lay_3 1 rfl rfl)
theorem dX0_lay_73 : decode cX0_lay 73 = .ok (.iconst 1, 1) := dk_4 (dk_at dksX0_lay_3 2 rfl rfl)
theorem dX0_lay_74 : decode cX0_lay 74 = .ok (.ireturn, 1) := dk_172 (dk_at dksX0_lay_3 3 rfl rfl)
theorem dX0_lay_75 : decode cX0_lay 75 = .ok (.astore 5, 2) := dk_58 5 (dk_at dksX0_lay_3 4 rfl rfl)
theorem dX0_lay_77 : decode cX0_lay 77 = .ok (.bipush (-11), 2) := dk_16 245 (dk_at dksX0_lay_3 6 rfl rfl)
theorem dX0_lay_79 : decode cX0_lay 79 = .ok (.ireturn, 1) := dk_172 (dk_at dksX0_lay_3 8 rfl rfl)
theorem dX0_lay_80 : decode cX0_lay 80 = .ok (.astore 5, 2) := dk_58 5 (dk_at dksX0_lay_3 9 rfl rfl)
theorem dX0_lay_82 : decode cX0_lay 82 = .ok (.bipush (-12), 2) := dk_16 244 (dk_at dksX0_lay_3 11 rfl rfl)
theorem dX0_lay_84 : decode cX0_lay 84 = .ok (.ireturn, 1) := dk_172 (dk_at dksX0_lay_3 13 rfl rfl)
abbrev cX0_read : ByteArray := prog_1_method_66_code
def yX0_read : MethodName := ⟨RX0, "read", "(IIII)I"⟩
def dkwX0_read_6 : List UInt8 := [167, 0, 8, 58, 7, 5, 54, 5, 42, 21, 5, 181, 1, 84, 21, 6, 172]
abbrev dktX0_read_6 : List UInt8 := dkwX0_read_6 ++ []
def dkwX0_read_5 : List UInt8 := [132, 6, 1, 167, 255, 174, 167, 0, 24, 58, 7, 4, 54, 5, 167, 0, 16, 58, 7, 6, 54, 5]
abbrev dktX0_read_5 : List UInt8 := dkwX0_read_5 ++ dktX0_read_6
def dkwX0_read_4 : List UInt8 := [182, 1, 79, 156, 0, 20, 42, 180, 0, 83, 42, 180, 0, 87, 182, 0, 144, 16, 236, 21, 6, 100, 172]
abbrev dktX0_read_4 : List UInt8 := dkwX0_read_4 ++ dktX0_read_5
def dkwX0_read_3 : List UInt8 := [182, 1, 76, 54, 8, 42, 21, 7, 21, 8, 42, 27, 28, 29, 6, 21, 6, 104, 96, 5, 96, 182, 1, 76]
abbrev dktX0_read_3 : List UInt8 := dkwX0_read_3 ++ dktX0_read_4
def dkwX0_read_2 : List UInt8 := [27, 28, 29, 6, 21, 6, 104, 96, 182, 1, 76, 54, 7, 42, 27, 28, 29, 6, 21, 6, 104, 96, 4, 96]
abbrev dktX0_read_2 : List UInt8 := dkwX0_read_2 ++ dktX0_read_3
def dkwX0_read_1 : List UInt8 := [180, 0, 87, 42, 180, 0, 83, 182, 0, 144, 3, 54, 5, 3, 54, 6, 21, 6, 21, 4, 162, 0, 81, 42]
abbrev dktX0_read_1 : List UInt8 := dkwX0_read_1 ++ dktX0_read_2
def dkwX0_read_0 : List UInt8 := [27, 28, 184, 1, 57, 153, 0, 16, 21, 4, 133, 9, 20, 1, 74, 184, 0, 122, 154, 0, 5, 2, 172, 42]
abbrev dktX0_read_0 : List UInt8 := dkwX0_read_0 ++ dktX0_read_1
theorem dksX0_read_0 : cX0_read.data.toList.drop 0 = dktX0_read_0 := by decide +kernel
theorem dksX0_read_1 : cX0_read.data.toList.drop 24 = dktX0_read_1 := dk_seg dksX0_read_0 24 rfl rfl
theorem dksX0_read_2 : cX0_read.data.toList.drop 48 = dktX0_read_2 := dk_seg dksX0_read_1 24 rfl rfl
theorem dksX0_read_3 : cX0_read.data.toList.drop 72 = dktX0_read_3 := dk_seg dksX0_read_2 24 rfl rfl
theorem dksX0_read_4 : cX0_read.data.toList.drop 96 = dktX0_read_4 := dk_seg dksX0_read_3 24 rfl rfl
theorem dksX0_read_5 : cX0_read.data.toList.drop 119 = dktX0_read_5 := dk_seg dksX0_read_4 23 rfl rfl
theorem dksX0_read_6 : cX0_read.data.toList.drop 141 = dktX0_read_6 := dk_seg dksX0_read_5 22 rfl rfl
theorem dX0_read_0 : decode cX0_read 0 = .ok (.iload_n 1, 1) := dk_27 (dk_at dksX0_read_0 0 rfl rfl)
theorem dX0_read_1 : decode cX0_read 1 = .ok (.iload_n 2, 1) := dk_28 (dk_at dksX0_read_0 1 rfl rfl)
theorem dX0_read_2 : decode cX0_read 2 = .ok (.invokestatic 313, 3) := dk_184 1 57 (dk_at dksX0_read_0 2 rfl rfl)
theorem dX0_read_5 : decode cX0_read 5 = .ok (.ifCond .eq 16, 3) := dk_153 0 16 (dk_at dksX0_read_0 5 rfl rfl)
theorem dX0_read_8 : decode cX0_read 8 = .ok (.iload 4, 2) := dk_21 4 (dk_at dksX0_read_0 8 rfl rfl)
theorem dX0_read_10 : decode cX0_read 10 = .ok (.i2l, 1) := dk_133 (dk_at dksX0_read_0 10 rfl rfl)
theorem dX0_read_11 : decode cX0_read 11 = .ok (.lconst 0, 1) := dk_9 (dk_at dksX0_read_0 11 rfl rfl)
theorem dX0_read_12 : decode cX0_read 12 = .ok (.ldc2_w 330, 3) := dk_20 1 74 (dk_at dksX0_read_0 12 rfl rfl)
theorem dX0_read_15 : decode cX0_read 15 = .ok (.invokestatic 122, 3) := dk_184 0 122 (dk_at dksX0_read_0 15 rfl rfl)
theorem dX0_read_18 : decode cX0_read 18 = .ok (.ifCond .ne 5, 3) := dk_154 0 5 (dk_at dksX0_read_0 18 rfl rfl)
theorem dX0_read_21 : decode cX0_read 21 = .ok (.iconst (-1), 1) := dk_2 (dk_at dksX0_read_0 21 rfl rfl)
theorem dX0_read_22 : decode cX0_read 22 = .ok (.ireturn, 1) := dk_172 (dk_at dksX0_read_0 22 rfl rfl)
theorem dX0_read_23 : decode cX0_read 23 = .ok (.aload_n 0, 1) := dk_42 (dk_at dksX0_read_0 23 rfl rfl)
theorem dX0_read_24 : decode cX0_read 24 = .ok (.getfield 87, 3) := dk_180 0 87 (dk_at dksX0_read_1 0 rfl rfl)
theorem dX0_read_27 : decode cX0_read 27 = .ok (.aload_n 0, 1) := dk_42 (dk_at dksX0_read_1 3 rfl rfl)
theorem dX0_read_28 : decode cX0_read 28 = .ok (.getfield 83, 3) := dk_180 0 83 (dk_at dksX0_read_1 4 rfl rfl)
theorem dX0_read_31 : decode cX0_read 31 = .ok (.invokevirtual 144, 3) := dk_182 0 144 (dk_at dksX0_read_1 7 rfl rfl)
theorem dX0_read_34 : decode cX0_read 34 = .ok (.iconst 0, 1) := dk_3 (dk_at dksX0_read_1 10 rfl rfl)
theorem dX0_read_35 : decode cX0_read 35 = .ok (.istore 5, 2) := dk_54 5 (dk_at dksX0_read_1 11 rfl rfl)
theorem dX0_read_37 : decode cX0_read 37 = .ok (.iconst 0, 1) := dk_3 (dk_at dksX0_read_1 13 rfl rfl)
theorem dX0_read_38 : decode cX0_read 38 = .ok (.istore 6, 2) := dk_54 6 (dk_at dksX0_read_1 14 rfl rfl)
theorem dX0_read_40 : decode cX0_read 40 = .ok (.iload 6, 2) := dk_21 6 (dk_at dksX0_read_1 16 rfl rfl)
theorem dX0_read_42 : decode cX0_read 42 = .ok (.iload 4, 2) := dk_21 4 (dk_at dksX0_read_1 18 rfl rfl)
theorem dX0_read_44 : decode cX0_read 44 = .ok (.if_icmp .ge 81, 3) := dk_162 0 81 (dk_at dksX0_read_1 20 rfl rfl)
theorem dX0_read_47 : decode cX0_read 47 = .ok (.aload_n 0, 1) := dk_42 (dk_at dksX0_read_1 23 rfl rfl)
theorem dX0_read_48 : decode cX0_read 48 = .ok (.iload_n 1, 1) := dk_27 (dk_at dksX0_read_2 0 rfl rfl)
theorem dX0_read_49 : decode cX0_read 49 = .ok (.iload_n 2, 1) := dk_28 (dk_at dksX0_read_2 1 rfl rfl)
theorem dX0_read_50 : decode cX0_read 50 = .ok (.iload_n 3, 1) := dk_29 (dk_at dksX0_read_2 2 rfl rfl)
theorem dX0_read_51 : decode cX0_read 51 = .ok (.iconst 3, 1) := dk_6 (dk_at dksX0_read_2 3 rfl rfl)
theorem dX0_read_52 : decode cX0_read 52 = .ok (.iload 6, 2) := dk_21 6 (dk_at dksX0_read_2 4 rfl rfl)
theorem dX0_read_54 : decode cX0_read 54 = .ok (.imul, 1) := dk_104 (dk_at dksX0_read_2 6 rfl rfl)
theorem dX0_read_55 : decode cX0_read 55 = .ok (.iadd, 1) := dk_96 (dk_at dksX0_read_2 7 rfl rfl)
theorem dX0_read_56 : decode cX0_read 56 = .ok (.invokevirtual 332, 3) := dk_182 1 76 (dk_at dksX0_read_2 8 rfl rfl)
theorem dX0_read_59 : decode cX0_read 59 = .ok (.istore 7, 2) := dk_54 7 (dk_at dksX0_read_2 11 rfl rfl)
theorem dX0_read_61 : decode cX0_read 61 = .ok (.aload_n 0, 1) := dk_42 (dk_at dksX0_read_2 13 rfl rfl)
theorem dX0_read_62 : decode cX0_read 62 = .ok (.iload_n 1, 1) := dk_27 (dk_at dksX0_read_2 14 rfl rfl)
theorem dX0_read_63 : decode cX0_read 63 = .ok (.iload_n 2, 1) := dk_28 (dk_at dksX0_read_2 15 rfl rfl)
theorem dX0_read_64 : decode cX0_read 64 = .ok (.iload_n 3, 1) := dk_29 (dk_at dksX0_read_2 16 rfl rfl)
theorem dX0_read_65 : decode cX0_read 65 = .ok (.iconst 3, 1) := dk_6 (dk_at dksX0_read_2 17 rfl rfl)
theorem dX0_read_66 : decode cX0_read 66 = .ok (.iload 6, 2) := dk_21 6 (dk_at dksX0_read_2 18 rfl rfl)
theorem dX0_read_68 : decode cX0_read 68 = .ok (.imul, 1) := dk_104 (dk_at dksX0_read_2 20 rfl rfl)
theorem dX0_read_69 : decode cX0_read 69 = .ok (.iadd, 1) := dk_96 (dk_at dksX0_read_2 21 rfl rfl)
theorem dX0_read_70 : decode cX0_read 70 = .ok (.iconst 1, 1) := dk_4 (dk_at dksX0_read_2 22 rfl rfl)
theorem dX0_read_71 : decode cX0_read 71 = .ok (.iadd, 1) := dk_96 (dk_at dksX0_read_2 23 rfl rfl)
theorem dX0_read_72 : decode cX0_read 72 = .ok (.invokevirtual 332, 3) := dk_182 1 76 (dk_at dksX0_read_3 0 rfl rfl)
theorem dX0_read_75 : decode cX0_read 75 = .ok (.istore 8, 2) := dk_54 8 (dk_at dksX0_read_3 3 rfl rfl)
theorem dX0_read_77 : decode cX0_read 77 = .ok (.aload_n 0, 1) := dk_42 (dk_at dksX0_read_3 5 rfl rfl)
theorem dX0_read_78 : decode cX0_read 78 = .ok (.iload 7, 2) := dk_21 7 (dk_at dksX0_read_3 6 rfl rfl)
theorem dX0_read_80 : decode cX0_read 80 = .ok (.iload 8, 2) := dk_21 8 (dk_at dksX0_read_3 8 rfl rfl)
theorem dX0_read_82 : decode cX0_read 82 = .ok (.aload_n 0, 1) := dk_42 (dk_at dksX0_read_3 10 rfl rfl)
theorem dX0_read_83 : decode cX0_read 83 = .ok (.iload_n 1, 1) := dk_27 (dk_at dksX0_read_3 11 rfl rfl)
theorem dX0_read_84 : decode cX0_read 84 = .ok (.iload_n 2, 1) := dk_28 (dk_at dksX0_read_3 12 rfl rfl)
theorem dX0_read_85 : decode cX0_read 85 = .ok (.iload_n 3, 1) := dk_29 (dk_at dksX0_read_3 13 rfl rfl)
theorem dX0_read_86 : decode cX0_read 86 = .ok (.iconst 3, 1) := dk_6 (dk_at dksX0_read_3 14 rfl rfl)
theorem dX0_read_87 : decode cX0_read 87 = .ok (.iload 6, 2) := dk_21 6 (dk_at dksX0_read_3 15 rfl rfl)
theorem dX0_read_89 : decode cX0_read 89 = .ok (.imul, 1) := dk_104 (dk_at dksX0_read_3 17 rfl rfl)
theorem dX0_read_90 : decode cX0_read 90 = .ok (.iadd, 1) := dk_96 (dk_at dksX0_read_3 18 rfl rfl)
theorem dX0_read_91 : decode cX0_read 91 = .ok (.iconst 2, 1) := dk_5 (dk_at dksX0_read_3 19 rfl rfl)
theorem dX0_read_92 : decode cX0_read 92 = .ok (.iadd, 1) := dk_96 (dk_at dksX0_read_3 20 rfl rfl)
theorem dX0_read_93 : decode cX0_read 93 = .ok (.invokevirtual 332, 3) := dk_182 1 76 (dk_at dksX0_read_3 21 rfl rfl)
theorem dX0_read_96 : decode cX0_read 96 = .ok (.invokevirtual 335, 3) := dk_182 1 79 (dk_at dksX0_read_4 0 rfl rfl)
theorem dX0_read_99 : decode cX0_read 99 = .ok (.ifCond .ge 20, 3) := dk_156 0 20 (dk_at dksX0_read_4 3 rfl rfl)
theorem dX0_read_102 : decode cX0_read 102 = .ok (.aload_n 0, 1) := dk_42 (dk_at dksX0_read_4 6 rfl rfl)
theorem dX0_read_103 : decode cX0_read 103 = .ok (.getfield 83, 3) := dk_180 0 83 (dk_at dksX0_read_4 7 rfl rfl)
theorem dX0_read_106 : decode cX0_read 106 = .ok (.aload_n 0, 1) := dk_42 (dk_at dksX0_read_4 10 rfl rfl)
theorem dX0_read_107 : decode cX0_read 107 = .ok (.getfield 87, 3) := dk_180 0 87 (dk_at dksX0_read_4 11 rfl rfl)
theorem dX0_read_110 : decode cX0_read 110 = .ok (.invokevirtual 144, 3) := dk_182 0 144 (dk_at dksX0_read_4 14 rfl rfl)
theorem dX0_read_113 : decode cX0_read 113 = .ok (.bipush (-20), 2) := dk_16 236 (dk_at dksX0_read_4 17 rfl rfl)
theorem dX0_read_115 : decode cX0_read 115 = .ok (.iload 6, 2) := dk_21 6 (dk_at dksX0_read_4 19 rfl rfl)
theorem dX0_read_117 : decode cX0_read 117 = .ok (.isub, 1) := dk_100 (dk_at dksX0_read_4 21 rfl rfl)
theorem dX0_read_118 : decode cX0_read 118 = .ok (.ireturn, 1) := dk_172 (dk_at dksX0_read_4 22 rfl rfl)
theorem dX0_read_119 : decode cX0_read 119 = .ok (.iinc 6 1, 3) := dk_132 6 1 (dk_at dksX0_read_5 0 rfl rfl)
theorem dX0_read_122 : decode cX0_read 122 = .ok (.goto (-82), 3) := dk_167 255 174 (dk_at dksX0_read_5 3 rfl rfl)
theorem dX0_read_125 : decode cX0_read 125 = .ok (.goto 24, 3) := dk_167 0 24 (dk_at dksX0_read_5 6 rfl rfl)
theorem dX0_read_128 : decode cX0_read 128 = .ok (.astore 7, 2) := dk_58 7 (dk_at dksX0_read_5 9 rfl rfl)
theorem dX0_read_130 : decode cX0_read 130 = .ok (.iconst 1, 1) := dk_4 (dk_at dksX0_read_5 11 rfl rfl)
theorem dX0_read_131 : decode cX0_read 131 = .ok (.istore 5, 2) := dk_54 5 (dk_at dksX0_read_5 12 rfl rfl)
theorem dX0_read_133 : decode cX0_read 133 = .ok (.goto 16, 3) := dk_167 0 16 (dk_at dksX0_read_5 14 rfl rfl)
theorem dX0_read_136 : decode cX0_read 136 = .ok (.astore 7, 2) := dk_58 7 (dk_at dksX0_read_5 17 rfl rfl)
theorem dX0_read_138 : decode cX0_read 138 = .ok (.iconst 3, 1) := dk_6 (dk_at dksX0_read_5 19 rfl rfl)
theorem dX0_read_139 : decode cX0_read 139 = .ok (.istore 5, 2) := dk_54 5 (dk_at dksX0_read_5 20 rfl rfl)
theorem dX0_read_141 : decode cX0_read 141 = .ok (.goto 8, 3) := dk_167 0 8 (dk_at dksX0_read_6 0 rfl rfl)
theorem dX0_read_144 : decode cX0_read 144 = .ok (.astore 7, 2) := dk_58 7 (dk_at dksX0_read_6 3 rfl rfl)
theorem dX0_read_146 : decode cX0_read 146 = .ok (.iconst 2, 1) := dk_5 (dk_at dksX0_read_6 5 rfl rfl)
theorem dX0_read_147 : decode cX0_read 147 = .ok (.istore 5, 2) := dk_54 5 (dk_at dksX0_read_6 6 rfl rfl)
theorem dX0_read_149 : decode cX0_read 149 = .ok (.aload_n 0, 1) := dk_42 (dk_at dksX0_read_6 8 rfl rfl)
theorem dX0_read_150 : decode cX0_read 150 = .ok (.iload 5, 2) := dk_21 5 (dk_at dksX0_read_6 9 rfl rfl)
theorem dX0_read_152 : decode cX0_read 152 = .ok (.putfield 340, 3) := dk_181 1 84 (dk_at dksX0_read_6 11 rfl rfl)
theorem dX0_read_155 : decode cX0_read 155 = .ok (.iload 6, 2) := dk_21 6 (dk_at dksX0_read_6 14 rfl rfl)
theorem dX0_read_157 : decode cX0_read 157 = .ok (.ireturn, 1) := dk_172 (dk_at dksX0_read_6 16 rfl rfl)
abbrev cX0_takenOf : ByteArray := prog_1_method_65_code
def yX0_takenOf : MethodName := ⟨RX0, "takenOf", "(III)I"⟩
def dkwX0_takenOf_2 : List UInt8 := [46, 172]
abbrev dktX0_takenOf_2 : List UInt8 := dkwX0_takenOf_2 ++ []
def dkwX0_takenOf_1 : List UInt8 := [167, 0, 25, 28, 4, 160, 0, 13, 25, 4, 192, 1, 67, 29, 53, 167, 0, 10, 25, 4, 192, 1, 69, 29]
abbrev dktX0_takenOf_1 : List UInt8 := dkwX0_takenOf_1 ++ dktX0_takenOf_2
def dkwX0_takenOf_0 : List UInt8 := [42, 180, 0, 115, 27, 50, 180, 1, 60, 58, 4, 28, 154, 0, 13, 25, 4, 192, 1, 66, 29, 51]
abbrev dktX0_takenOf_0 : List UInt8 := dkwX0_takenOf_0 ++ dktX0_takenOf_1
theorem dksX0_takenOf_0 : cX0_takenOf.data.toList.drop 0 = dktX0_takenOf_0 := by decide +kernel
theorem dksX0_takenOf_1 : cX0_takenOf.data.toList.drop 22 = dktX0_takenOf_1 := dk_seg dksX0_takenOf_0 22 rfl rfl
theorem dksX0_takenOf_2 : cX0_takenOf.data.toList.drop 46 = dktX0_takenOf_2 := dk_seg dksX0_takenOf_1 24 rfl rfl
theorem dX0_takenOf_0 : decode cX0_takenOf 0 = .ok (.aload_n 0, 1) := dk_42 (dk_at dksX0_takenOf_0 0 rfl rfl)
theorem dX0_takenOf_1 : decode cX0_takenOf 1 = .ok (.getfield 115, 3) := dk_180 0 115 (dk_at dksX0_takenOf_0 1 rfl rfl)
theorem dX0_takenOf_4 : decode cX0_takenOf 4 = .ok (.iload_n 1, 1) := dk_27 (dk_at dksX0_takenOf_0 4 rfl rfl)
theorem dX0_takenOf_5 : decode cX0_takenOf 5 = .ok (.aaload, 1) := dk_50 (dk_at dksX0_takenOf_0 5 rfl rfl)
theorem dX0_takenOf_6 : decode cX0_takenOf 6 = .ok (.getfield 316, 3) := dk_180 1 60 (dk_at dksX0_takenOf_0 6 rfl rfl)
theorem dX0_takenOf_9 : decode cX0_takenOf 9 = .ok (.astore 4, 2) := dk_58 4 (dk_at dksX0_takenOf_0 9 rfl rfl)
theorem dX0_takenOf_11 : decode cX0_takenOf 11 = .ok (.iload_n 2, 1) := dk_28 (dk_at dksX0_takenOf_0 11 rfl rfl)
theorem dX0_takenOf_12 : decode cX0_takenOf 12 = .ok (.ifCond .ne 13, 3) := dk_154 0 13 (dk_at dksX0_takenOf_0 12 rfl rfl)
theorem dX0_takenOf_15 : decode cX0_takenOf 15 = .ok (.aload 4, 2) := dk_25 4 (dk_at dksX0_takenOf_0 15 rfl rfl)
theorem dX0_takenOf_17 : decode cX0_takenOf 17 = .ok (.checkcast 322, 3) := dk_192 1 66 (dk_at dksX0_takenOf_0 17 rfl rfl)
theorem dX0_takenOf_20 : decode cX0_takenOf 20 = .ok (.iload_n 3, 1) := dk_29 (dk_at dksX0_takenOf_0 20 rfl rfl)
theorem dX0_takenOf_21 : decode cX0_takenOf 21 = .ok (.baload, 1) := dk_51 (dk_at dksX0_takenOf_0 21 rfl rfl)
theorem dX0_takenOf_22 : decode cX0_takenOf 22 = .ok (.goto 25, 3) := dk_167 0 25 (dk_at dksX0_takenOf_1 0 rfl rfl)
theorem dX0_takenOf_25 : decode cX0_takenOf 25 = .ok (.iload_n 2, 1) := dk_28 (dk_at dksX0_takenOf_1 3 rfl rfl)
theorem dX0_takenOf_26 : decode cX0_takenOf 26 = .ok (.iconst 1, 1) := dk_4 (dk_at dksX0_takenOf_1 4 rfl rfl)
theorem dX0_takenOf_27 : decode cX0_takenOf 27 = .ok (.if_icmp .ne 13, 3) := dk_160 0 13 (dk_at dksX0_takenOf_1 5 rfl rfl)
theorem dX0_takenOf_30 : decode cX0_takenOf 30 = .ok (.aload 4, 2) := dk_25 4 (dk_at dksX0_takenOf_1 8 rfl rfl)
theorem dX0_takenOf_32 : decode cX0_takenOf 32 = .ok (.checkcast 323, 3) := dk_192 1 67 (dk_at dksX0_takenOf_1 10 rfl rfl)
theorem dX0_takenOf_35 : decode cX0_takenOf 35 = .ok (.iload_n 3, 1) := dk_29 (dk_at dksX0_takenOf_1 13 rfl rfl)
theorem dX0_takenOf_36 : decode cX0_takenOf 36 = .ok (.saload, 1) := dk_53 (dk_at dksX0_takenOf_1 14 rfl rfl)
theorem dX0_takenOf_37 : decode cX0_takenOf 37 = .ok (.goto 10, 3) := dk_167 0 10 (dk_at dksX0_takenOf_1 15 rfl rfl)
theorem dX0_takenOf_40 : decode cX0_takenOf 40 = .ok (.aload 4, 2) := dk_25 4 (dk_at dksX0_takenOf_1 18 rfl rfl)
theorem dX0_takenOf_42 : decode cX0_takenOf 42 = .ok (.checkcast 325, 3) := dk_192 1 69 (dk_at dksX0_takenOf_1 20 rfl rfl)
theorem dX0_takenOf_45 : decode cX0_takenOf 45 = .ok (.iload_n 3, 1) := dk_29 (dk_at dksX0_takenOf_1 23 rfl rfl)
theorem dX0_takenOf_46 : decode cX0_takenOf 46 = .ok (.iaload, 1) := dk_46 (dk_at dksX0_takenOf_2 0 rfl rfl)
theorem dX0_takenOf_47 : decode cX0_takenOf 47 = .ok (.ireturn, 1) := dk_172 (dk_at dksX0_takenOf_2 1 rfl rfl)
abbrev cX0_torn : ByteArray := prog_1_method_67_code
def yX0_torn : MethodName := ⟨RX0, "torn", "()I"⟩
theorem dX0_torn_0 : decode cX0_torn 0 = .ok (.aload_n 0, 1) := by decide +kernel
theorem dX0_torn_1 : decode cX0_torn 1 = .ok (.getfield 340, 3) := by decide +kernel
theorem dX0_torn_4 : decode cX0_torn 4 = .ok (.ireturn, 1) := by decide +kernel
abbrev cX0_count : ByteArray := prog_1_method_68_code
def yX0_count : MethodName := ⟨RX0, "count", "(I)I"⟩
def dkwX0_count_8 : List UInt8 := [21, 5, 172, 2, 172]
abbrev dktX0_count_8 : List UInt8 := dkwX0_count_8 ++ []
def dkwX0_count_7 : List UInt8 := [42, 180, 0, 148, 172, 42, 180, 0, 151, 184, 0, 218, 172, 42, 180, 0, 126, 172, 29, 172, 21, 4, 172]
abbrev dktX0_count_7 : List UInt8 := dkwX0_count_7 ++ dktX0_count_8
def dkwX0_count_6 : List UInt8 := [170, 0, 0, 0, 0, 0, 0, 66, 0, 0, 0, 0, 0, 0, 0, 5, 0, 0, 0, 40, 0, 0, 0, 45, 0, 0, 0, 53, 0, 0, 0, 58, 0, 0, 0, 60, 0, 0, 0, 63]
abbrev dktX0_count_6 : List UInt8 := dkwX0_count_6 ++ dktX0_count_7
def dkwX0_count_5 : List UInt8 := [180, 0, 83, 180, 0, 51, 6, 21, 6, 104, 5, 96, 51, 96, 54, 5, 132, 6, 1, 167, 255, 222, 27]
abbrev dktX0_count_5 : List UInt8 := dkwX0_count_5 ++ dktX0_count_6
def dkwX0_count_4 : List UInt8 := [132, 6, 1, 167, 255, 231, 3, 54, 6, 21, 6, 42, 180, 0, 83, 180, 0, 48, 162, 0, 28, 21, 5, 42]
abbrev dktX0_count_4 : List UInt8 := dkwX0_count_4 ++ dktX0_count_5
def dkwX0_count_3 : List UInt8 := [21, 6, 16, 25, 162, 0, 24, 21, 4, 42, 180, 0, 83, 180, 0, 187, 21, 6, 46, 96, 54, 4]
abbrev dktX0_count_3 : List UInt8 := dkwX0_count_3 ++ dktX0_count_4
def dkwX0_count_2 : List UInt8 := [153, 0, 11, 44, 192, 1, 69, 190, 167, 0, 5, 16, 252, 62, 3, 54, 4, 3, 54, 5, 3, 54, 6]
abbrev dktX0_count_2 : List UInt8 := dkwX0_count_2 ++ dktX0_count_3
def dkwX0_count_1 : List UInt8 := [167, 0, 35, 44, 193, 1, 67, 153, 0, 11, 44, 192, 1, 67, 190, 167, 0, 20, 44, 193, 1, 69]
abbrev dktX0_count_1 : List UInt8 := dkwX0_count_1 ++ dktX0_count_2
def dkwX0_count_0 : List UInt8 := [42, 180, 0, 115, 3, 50, 180, 1, 60, 77, 44, 193, 1, 66, 153, 0, 11, 44, 192, 1, 66, 190]
abbrev dktX0_count_0 : List UInt8 := dkwX0_count_0 ++ dktX0_count_1
theorem dksX0_count_0 : cX0_count.data.toList.drop 0 = dktX0_count_0 := by decide +kernel
theorem dksX0_count_1 : cX0_count.data.toList.drop 22 = dktX0_count_1 := dk_seg dksX0_count_0 22 rfl rfl
theorem dksX0_count_2 : cX0_count.data.toList.drop 44 = dktX0_count_2 := dk_seg dksX0_count_1 22 rfl rfl
theorem dksX0_count_3 : cX0_count.data.toList.drop 67 = dktX0_count_3 := dk_seg dksX0_count_2 23 rfl rfl
theorem dksX0_count_4 : cX0_count.data.toList.drop 89 = dktX0_count_4 := dk_seg dksX0_count_3 22 rfl rfl
theorem dksX0_count_5 : cX0_count.data.toList.drop 113 = dktX0_count_5 := dk_seg dksX0_count_4 24 rfl rfl
theorem dksX0_count_6 : cX0_count.data.toList.drop 136 = dktX0_count_6 := dk_seg dksX0_count_5 23 rfl rfl
theorem dksX0_count_7 : cX0_count.data.toList.drop 176 = dktX0_count_7 := dk_seg dksX0_count_6 40 rfl rfl
theorem dksX0_count_8 : cX0_count.data.toList.drop 199 = dktX0_count_8 := dk_seg dksX0_count_7 23 rfl rfl
theorem dX0_count_0 : decode cX0_count 0 = .ok (.aload_n 0, 1) := dk_42 (dk_at dksX0_count_0 0 rfl rfl)
theorem dX0_count_1 : decode cX0_count 1 = .ok (.getfield 115, 3) := dk_180 0 115 (dk_at dksX0_count_0 1 rfl rfl)
theorem dX0_count_4 : decode cX0_count 4 = .ok (.iconst 0, 1) := dk_3 (dk_at dksX0_count_0 4 rfl rfl)
theorem dX0_count_5 : decode cX0_count 5 = .ok (.aaload, 1) := dk_50 (dk_at dksX0_count_0 5 rfl rfl)
theorem dX0_count_6 : decode cX0_count 6 = .ok (.getfield 316, 3) := dk_180 1 60 (dk_at dksX0_count_0 6 rfl rfl)
theorem dX0_count_9 : decode cX0_count 9 = .ok (.astore_n 2, 1) := dk_77 (dk_at dksX0_count_0 9 rfl rfl)
theorem dX0_count_10 : decode cX0_count 10 = .ok (.aload_n 2, 1) := dk_44 (dk_at dksX0_count_0 10 rfl rfl)
theorem dX0_count_11 : decode cX0_count 11 = .ok (.instanceof 322, 3) := dk_193 1 66 (dk_at dksX0_count_0 11 rfl rfl)
theorem dX0_count_14 : decode cX0_count 14 = .ok (.ifCond .eq 11, 3) := dk_153 0 11 (dk_at dksX0_count_0 14 rfl rfl)
theorem dX0_count_17 : decode cX0_count 17 = .ok (.aload_n 2, 1) := dk_44 (dk_at dksX0_count_0 17 rfl rfl)
theorem dX0_count_18 : decode cX0_count 18 = .ok (.checkcast 322, 3) := dk_192 1 66 (dk_at dksX0_count_0 18 rfl rfl)
theorem dX0_count_21 : decode cX0_count 21 = .ok (.arraylength, 1) := dk_190 (dk_at dksX0_count_0 21 rfl rfl)
theorem dX0_count_22 : decode cX0_count 22 = .ok (.goto 35, 3) := dk_167 0 35 (dk_at dksX0_count_1 0 rfl rfl)
theorem dX0_count_25 : decode cX0_count 25 = .ok (.aload_n 2, 1) := dk_44 (dk_at dksX0_count_1 3 rfl rfl)
theorem dX0_count_26 : decode cX0_count 26 = .ok (.instanceof 323, 3) := dk_193 1 67 (dk_at dksX0_count_1 4 rfl rfl)
theorem dX0_count_29 : decode cX0_count 29 = .ok (.ifCond .eq 11, 3) := dk_153 0 11 (dk_at dksX0_count_1 7 rfl rfl)
theorem dX0_count_32 : decode cX0_count 32 = .ok (.aload_n 2, 1) := dk_44 (dk_at dksX0_count_1 10 rfl rfl)
theorem dX0_count_33 : decode cX0_count 33 = .ok (.checkcast 323, 3) := dk_192 1 67 (dk_at dksX0_count_1 11 rfl rfl)
theorem dX0_count_36 : decode cX0_count 36 = .ok (.arraylength, 1) := dk_190 (dk_at dksX0_count_1 14 rfl rfl)
theorem dX0_count_37 : decode cX0_count 37 = .ok (.goto 20, 3) := dk_167 0 20 (dk_at dksX0_count_1 15 rfl rfl)
theorem dX0_count_40 : decode cX0_count 40 = .ok (.aload_n 2, 1) := dk_44 (dk_at dksX0_count_1 18 rfl rfl)
theorem dX0_count_41 : decode cX0_count 41 = .ok (.instanceof 325, 3) := dk_193 1 69 (dk_at dksX0_count_1 19 rfl rfl)
theorem dX0_count_44 : decode cX0_count 44 = .ok (.ifCond .eq 11, 3) := dk_153 0 11 (dk_at dksX0_count_2 0 rfl rfl)
theorem dX0_count_47 : decode cX0_count 47 = .ok (.aload_n 2, 1) := dk_44 (dk_at dksX0_count_2 3 rfl rfl)
theorem dX0_count_48 : decode cX0_count 48 = .ok (.checkcast 325, 3) := dk_192 1 69 (dk_at dksX0_count_2 4 rfl rfl)
theorem dX0_count_51 : decode cX0_count 51 = .ok (.arraylength, 1) := dk_190 (dk_at dksX0_count_2 7 rfl rfl)
theorem dX0_count_52 : decode cX0_count 52 = .ok (.goto 5, 3) := dk_167 0 5 (dk_at dksX0_count_2 8 rfl rfl)
theorem dX0_count_55 : decode cX0_count 55 = .ok (.bipush (-4), 2) := dk_16 252 (dk_at dksX0_count_2 11 rfl rfl)
theorem dX0_count_57 : decode cX0_count 57 = .ok (.istore_n 3, 1) := dk_62 (dk_at dksX0_count_2 13 rfl rfl)
theorem dX0_count_58 : decode cX0_count 58 = .ok (.iconst 0, 1) := dk_3 (dk_at dksX0_count_2 14 rfl rfl)
theorem dX0_count_59 : decode cX0_count 59 = .ok (.istore 4, 2) := dk_54 4 (dk_at dksX0_count_2 15 rfl rfl)
theorem dX0_count_61 : decode cX0_count 61 = .ok (.iconst 0, 1) := dk_3 (dk_at dksX0_count_2 17 rfl rfl)
theorem dX0_count_62 : decode cX0_count 62 = .ok (.istore 5, 2) := dk_54 5 (dk_at dksX0_count_2 18 rfl rfl)
theorem dX0_count_64 : decode cX0_count 64 = .ok (.iconst 0, 1) := dk_3 (dk_at dksX0_count_2 20 rfl rfl)
theorem dX0_count_65 : decode cX0_count 65 = .ok (.istore 6, 2) := dk_54 6 (dk_at dksX0_count_2 21 rfl rfl)
theorem dX0_count_67 : decode cX0_count 67 = .ok (.iload 6, 2) := dk_21 6 (dk_at dksX0_count_3 0 rfl rfl)
theorem dX0_count_69 : decode cX0_count 69 = .ok (.bipush 25, 2) := dk_16 25 (dk_at dksX0_count_3 2 rfl rfl)
theorem dX0_count_71 : decode cX0_count 71 = .ok (.if_icmp .ge 24, 3) := dk_162 0 24 (dk_at dksX0_count_3 4 rfl rfl)
theorem dX0_count_74 : decode cX0_count 74 = .ok (.iload 4, 2) := dk_21 4 (dk_at dksX0_count_3 7 rfl rfl)
theorem dX0_count_76 : decode cX0_count 76 = .ok (.aload_n 0, 1) := dk_42 (dk_at dksX0_count_3 9 rfl rfl)
theorem dX0_count_77 : decode cX0_count 77 = .ok (.getfield 83, 3) := dk_180 0 83 (dk_at dksX0_count_3 10 rfl rfl)
theorem dX0_count_80 : decode cX0_count 80 = .ok (.getfield 187, 3) := dk_180 0 187 (dk_at dksX0_count_3 13 rfl rfl)
theorem dX0_count_83 : decode cX0_count 83 = .ok (.iload 6, 2) := dk_21 6 (dk_at dksX0_count_3 16 rfl rfl)
theorem dX0_count_85 : decode cX0_count 85 = .ok (.iaload, 1) := dk_46 (dk_at dksX0_count_3 18 rfl rfl)
theorem dX0_count_86 : decode cX0_count 86 = .ok (.iadd, 1) := dk_96 (dk_at dksX0_count_3 19 rfl rfl)
theorem dX0_count_87 : decode cX0_count 87 = .ok (.istore 4, 2) := dk_54 4 (dk_at dksX0_count_3 20 rfl rfl)
theorem dX0_count_89 : decode cX0_count 89 = .ok (.iinc 6 1, 3) := dk_132 6 1 (dk_at dksX0_count_4 0 rfl rfl)
theorem dX0_count_92 : decode cX0_count 92 = .ok (.goto (-25), 3) := dk_167 255 231 (dk_at dksX0_count_4 3 rfl rfl)
theorem dX0_count_95 : decode cX0_count 95 = .ok (.iconst 0, 1) := dk_3 (dk_at dksX0_count_4 6 rfl rfl)
theorem dX0_count_96 : decode cX0_count 96 = .ok (.istore 6, 2) := dk_54 6 (dk_at dksX0_count_4 7 rfl rfl)
theorem dX0_count_98 : decode cX0_count 98 = .ok (.iload 6, 2) := dk_21 6 (dk_at dksX0_count_4 9 rfl rfl)
theorem dX0_count_100 : decode cX0_count 100 = .ok (.aload_n 0, 1) := dk_42 (dk_at dksX0_count_4 11 rfl rfl)
theorem dX0_count_101 : decode cX0_count 101 = .ok (.getfield 83, 3) := dk_180 0 83 (dk_at dksX0_count_4 12 rfl rfl)
theorem dX0_count_104 : decode cX0_count 104 = .ok (.getfield 48, 3) := dk_180 0 48 (dk_at dksX0_count_4 15 rfl rfl)
theorem dX0_count_107 : decode cX0_count 107 = .ok (.if_icmp .ge 28, 3) := dk_162 0 28 (dk_at dksX0_count_4 18 rfl rfl)
theorem dX0_count_110 : decode cX0_count 110 = .ok (.iload 5, 2) := dk_21 5 (dk_at dksX0_count_4 21 rfl rfl)
theorem dX0_count_112 : decode cX0_count 112 = .ok (.aload_n 0, 1) := dk_42 (dk_at dksX0_count_4 23 rfl rfl)
theorem dX0_count_113 : decode cX0_count 113 = .ok (.getfield 83, 3) := dk_180 0 83 (dk_at dksX0_count_5 0 rfl rfl)
theorem dX0_count_116 : decode cX0_count 116 = .ok (.getfield 51, 3) := dk_180 0 51 (dk_at dksX0_count_5 3 rfl rfl)
theorem dX0_count_119 : decode cX0_count 119 = .ok (.iconst 3, 1) := dk_6 (dk_at dksX0_count_5 6 rfl rfl)
theorem dX0_count_120 : decode cX0_count 120 = .ok (.iload 6, 2) := dk_21 6 (dk_at dksX0_count_5 7 rfl rfl)
theorem dX0_count_122 : decode cX0_count 122 = .ok (.imul, 1) := dk_104 (dk_at dksX0_count_5 9 rfl rfl)
theorem dX0_count_123 : decode cX0_count 123 = .ok (.iconst 2, 1) := dk_5 (dk_at dksX0_count_5 10 rfl rfl)
theorem dX0_count_124 : decode cX0_count 124 = .ok (.iadd, 1) := dk_96 (dk_at dksX0_count_5 11 rfl rfl)
theorem dX0_count_125 : decode cX0_count 125 = .ok (.baload, 1) := dk_51 (dk_at dksX0_count_5 12 rfl rfl)
theorem dX0_count_126 : decode cX0_count 126 = .ok (.iadd, 1) := dk_96 (dk_at dksX0_count_5 13 rfl rfl)
theorem dX0_count_127 : decode cX0_count 127 = .ok (.istore 5, 2) := dk_54 5 (dk_at dksX0_count_5 14 rfl rfl)
theorem dX0_count_129 : decode cX0_count 129 = .ok (.iinc 6 1, 3) := dk_132 6 1 (dk_at dksX0_count_5 16 rfl rfl)
theorem dX0_count_132 : decode cX0_count 132 = .ok (.goto (-34), 3) := dk_167 255 222 (dk_at dksX0_count_5 19 rfl rfl)
theorem dX0_count_135 : decode cX0_count 135 = .ok (.iload_n 1, 1) := dk_27 (dk_at dksX0_count_5 22 rfl rfl)
theorem dX0_count_136 : decode cX0_count 136 = .ok (.tableswitch 66 0 5 #[40, 45, 53, 58, 60, 63], 40) := by decide +kernel
theorem dX0_count_176 : decode cX0_count 176 = .ok (.aload_n 0, 1) := dk_42 (dk_at dksX0_count_7 0 rfl rfl)
theorem dX0_count_177 : decode cX0_count 177 = .ok (.getfield 148, 3) := dk_180 0 148 (dk_at dksX0_count_7 1 rfl rfl)
theorem dX0_count_180 : decode cX0_count 180 = .ok (.ireturn, 1) := dk_172 (dk_at dksX0_count_7 4 rfl rfl)
theorem dX0_count_181 : decode cX0_count 181 = .ok (.aload_n 0, 1) := dk_42 (dk_at dksX0_count_7 5 rfl rfl)
theorem dX0_count_182 : decode cX0_count 182 = .ok (.getfield 151, 3) := dk_180 0 151 (dk_at dksX0_count_7 6 rfl rfl)
theorem dX0_count_185 : decode cX0_count 185 = .ok (.invokestatic 218, 3) := dk_184 0 218 (dk_at dksX0_count_7 9 rfl rfl)
theorem dX0_count_188 : decode cX0_count 188 = .ok (.ireturn, 1) := dk_172 (dk_at dksX0_count_7 12 rfl rfl)
theorem dX0_count_189 : decode cX0_count 189 = .ok (.aload_n 0, 1) := dk_42 (dk_at dksX0_count_7 13 rfl rfl)
theorem dX0_count_190 : decode cX0_count 190 = .ok (.getfield 126, 3) := dk_180 0 126 (dk_at dksX0_count_7 14 rfl rfl)
theorem dX0_count_193 : decode cX0_count 193 = .ok (.ireturn, 1) := dk_172 (dk_at dksX0_count_7 17 rfl rfl)
theorem dX0_count_194 : decode cX0_count 194 = .ok (.iload_n 3, 1) := dk_29 (dk_at dksX0_count_7 18 rfl rfl)
theorem dX0_count_195 : decode cX0_count 195 = .ok (.ireturn, 1) := dk_172 (dk_at dksX0_count_7 19 rfl rfl)
theorem dX0_count_196 : decode cX0_count 196 = .ok (.iload 4, 2) := dk_21 4 (dk_at dksX0_count_7 20 rfl rfl)
theorem dX0_count_198 : decode cX0_count 198 = .ok (.ireturn, 1) := dk_172 (dk_at dksX0_count_7 22 rfl rfl)
theorem dX0_count_199 : decode cX0_count 199 = .ok (.iload 5, 2) := dk_21 5 (dk_at dksX0_count_8 0 rfl rfl)
theorem dX0_count_201 : decode cX0_count 201 = .ok (.ireturn, 1) := dk_172 (dk_at dksX0_count_8 2 rfl rfl)
theorem dX0_count_202 : decode cX0_count 202 = .ok (.iconst (-1), 1) := dk_2 (dk_at dksX0_count_8 3 rfl rfl)
theorem dX0_count_203 : decode cX0_count 203 = .ok (.ireturn, 1) := dk_172 (dk_at dksX0_count_8 4 rfl rfl)
theorem q64 : (Jvm.Cond.initialized "ClockWard") ∈ lw_all := lw_g (lw_at lw_m1 1 rfl) rfl
theorem q90 : (Jvm.Cond.instantiable "ClockWard" (24 : Nat)) ∈ lw_all := lw_g (lw_at lw_m1 27 rfl) rfl
theorem q92 : (Jvm.Cond.instanceMethod ({ cls := "ClockWard", name := "<init>", desc := "()V" } : Jvm.MethodName)) ∈ lw_all := lw_g (lw_at lw_m1 29 rfl) rfl
theorem q93 : (Jvm.Cond.code ({ cls := "ClockWard", name := "<init>", desc := "()V" } : Jvm.MethodName) prog_1_method_6_code (2 : Nat) (Option.none : Option Jvm.ClassFile.FieldType)) ∈ lw_all := lw_g (lw_at lw_m1 30 rfl) rfl
theorem q94 : (Jvm.Cond.methodLink "ClockWard" (66 : Nat) ({ cls := "java/lang/Object", name := "<init>", desc := "()V" } : Jvm.MethodName)) ∈ lw_all := lw_g (lw_at lw_m1 31 rfl) rfl
theorem q97 : (Jvm.Cond.classLink "ClockWard" (14 : Nat) "ClockWard$Plain") ∈ lw_all := lw_g (lw_at lw_m1 34 rfl) rfl
theorem q100 : (Jvm.Cond.methodLinkNest "ClockWard" (72 : Nat) ({ cls := "ClockWard$Plain", name := "<init>", desc := "()V" } : Jvm.MethodName) "ClockWard") ∈ lw_tbl := lw_at lw_m1 37 rfl
theorem q105 : (Jvm.Cond.classLink "ClockWard" (73 : Nat) "ClockWard$Cuckoo") ∈ lw_all := lw_g (lw_at lw_m1 42 rfl) rfl
theorem q107 : (Jvm.Cond.methodLinkNest "ClockWard" (75 : Nat) ({ cls := "ClockWard$Cuckoo", name := "<init>", desc := "()V" } : Jvm.MethodName) "ClockWard") ∈ lw_tbl := lw_at lw_m1 44 rfl
theorem q112 : (Jvm.Cond.classLink "ClockWard" (76 : Nat) "ClockWard$Tower") ∈ lw_all := lw_g (lw_at lw_m1 49 rfl) rfl
theorem q114 : (Jvm.Cond.methodLinkNest "ClockWard" (78 : Nat) ({ cls := "ClockWard$Tower", name := "<init>", desc := "()V" } : Jvm.MethodName) "ClockWard") ∈ lw_tbl := lw_at lw_m1 51 rfl
theorem q119 : (Jvm.Cond.classLink "ClockWard" (79 : Nat) "ClockWard$Back") ∈ lw_all := lw_g (lw_at lw_m1 56 rfl) rfl
theorem q121 : (Jvm.Cond.methodLinkNest "ClockWard" (81 : Nat) ({ cls := "ClockWard$Back", name := "<init>", desc := "()V" } : Jvm.MethodName) "ClockWard") ∈ lw_tbl := lw_at lw_m1 58 rfl
theorem q126 : (Jvm.Cond.classLink "ClockWard" (4 : Nat) "ClockWard$Ward") ∈ lw_all := lw_g (lw_at lw_m1 63 rfl) rfl
theorem q128 : (Jvm.Cond.methodLinkNest "ClockWard" (82 : Nat) ({ cls := "ClockWard$Ward", name := "<init>", desc := "()V" } : Jvm.MethodName) "ClockWard") ∈ lw_tbl := lw_at lw_m1 65 rfl
theorem q133 : (Jvm.Cond.fieldLinkNest "ClockWard" (27 : Nat) "ClockWard$Ward" "clocks" "I" "ClockWard") ∈ lw_tbl := lw_at lw_m1 70 rfl
theorem q138 : (Jvm.Cond.fieldLinkNest "ClockWard" (170 : Nat) "ClockWard$Ward" "floor" "I" "ClockWard") ∈ lw_tbl := lw_at lw_m1 75 rfl
theorem q140 : (Jvm.Cond.fieldLinkNest "ClockWard" (39 : Nat) "ClockWard$Ward" "night" "I" "ClockWard") ∈ lw_tbl := lw_at lw_m1 77 rfl
theorem q142 : (Jvm.Cond.fieldLinkNest "ClockWard" (179 : Nat) "ClockWard$Ward" "lost" "I" "ClockWard") ∈ lw_tbl := lw_at lw_m1 79 rfl
theorem q144 : (Jvm.Cond.fieldLinkNest "ClockWard" (187 : Nat) "ClockWard$Ward" "got" "[I" "ClockWard") ∈ lw_tbl := lw_at lw_m1 81 rfl
theorem q146 : (Jvm.Cond.fieldLinkNest "ClockWard" (48 : Nat) "ClockWard$Ward" "planned" "I" "ClockWard") ∈ lw_tbl := lw_at lw_m1 83 rfl
theorem q149 : (Jvm.Cond.fieldLinkNest "ClockWard" (51 : Nat) "ClockWard$Ward" "plan" "[B" "ClockWard") ∈ lw_tbl := lw_at lw_m1 86 rfl
theorem q171 : (Jvm.Cond.classLink "ClockWard" (113 : Nat) "ClockWard$Sheet") ∈ lw_all := lw_g (lw_at lw_m1 108 rfl) rfl
theorem q174 : (Jvm.Cond.methodLinkNest "ClockWard" (119 : Nat) ({ cls := "ClockWard$Sheet", name := "<init>", desc := "()V" } : Jvm.MethodName) "ClockWard") ∈ lw_tbl := lw_at lw_m1 111 rfl
theorem q178 : (Jvm.Cond.fieldLinkNest "ClockWard" (316 : Nat) "ClockWard$Sheet" "row" "Ljava/lang/Object;" "ClockWard") ∈ lw_tbl := lw_at lw_m1 115 rfl
theorem q182 : (Jvm.Cond.fieldLink "ClockWard" (9 : Nat) "ClockWard" "kinds" "[LClockWard$Plain;") ∈ lw_all := lw_g (lw_at lw_m1 119 rfl) rfl
theorem q183 : (Jvm.Cond.fieldLink "ClockWard" (83 : Nat) "ClockWard" "now" "LClockWard$Ward;") ∈ lw_all := lw_g (lw_at lw_m1 120 rfl) rfl
theorem q184 : (Jvm.Cond.fieldLink "ClockWard" (87 : Nat) "ClockWard" "tried" "LClockWard$Ward;") ∈ lw_all := lw_g (lw_at lw_m1 121 rfl) rfl
theorem q185 : (Jvm.Cond.fieldLink "ClockWard" (90 : Nat) "ClockWard" "half" "LClockWard$Ward;") ∈ lw_all := lw_g (lw_at lw_m1 122 rfl) rfl
theorem q186 : (Jvm.Cond.fieldLink "ClockWard" (93 : Nat) "ClockWard" "images" "[LClockWard$Ward;") ∈ lw_all := lw_g (lw_at lw_m1 123 rfl) rfl
theorem q187 : (Jvm.Cond.fieldLink "ClockWard" (151 : Nat) "ClockWard" "kept" "I") ∈ lw_all := lw_g (lw_at lw_m1 124 rfl) rfl
theorem q188 : (Jvm.Cond.fieldLink "ClockWard" (97 : Nat) "ClockWard" "seen" "[B") ∈ lw_all := lw_g (lw_at lw_m1 125 rfl) rfl
theorem q189 : (Jvm.Cond.fieldLink "ClockWard" (148 : Nat) "ClockWard" "seenMany" "I") ∈ lw_all := lw_g (lw_at lw_m1 126 rfl) rfl
theorem q190 : (Jvm.Cond.fieldLink "ClockWard" (42 : Nat) "ClockWard" "came" "I") ∈ lw_all := lw_g (lw_at lw_m1 127 rfl) rfl
theorem q191 : (Jvm.Cond.fieldLink "ClockWard" (45 : Nat) "ClockWard" "firstNot" "I") ∈ lw_all := lw_g (lw_at lw_m1 128 rfl) rfl
theorem q193 : (Jvm.Cond.fieldLink "ClockWard" (100 : Nat) "ClockWard" "tape" "[B") ∈ lw_all := lw_g (lw_at lw_m1 130 rfl) rfl
theorem q194 : (Jvm.Cond.fieldLink "ClockWard" (126 : Nat) "ClockWard" "taped" "I") ∈ lw_all := lw_g (lw_at lw_m1 131 rfl) rfl
theorem q195 : (Jvm.Cond.fieldLink "ClockWard" (129 : Nat) "ClockWard" "fault" "I") ∈ lw_all := lw_g (lw_at lw_m1 132 rfl) rfl
theorem q196 : (Jvm.Cond.fieldLink "ClockWard" (236 : Nat) "ClockWard" "bestRight" "I") ∈ lw_all := lw_g (lw_at lw_m1 133 rfl) rfl
theorem q197 : (Jvm.Cond.fieldLink "ClockWard" (239 : Nat) "ClockWard" "bestMany" "I") ∈ lw_all := lw_g (lw_at lw_m1 134 rfl) rfl
theorem q198 : (Jvm.Cond.fieldLink "ClockWard" (242 : Nat) "ClockWard" "bestLost" "I") ∈ lw_all := lw_g (lw_at lw_m1 135 rfl) rfl
theorem q199 : (Jvm.Cond.fieldLink "ClockWard" (103 : Nat) "ClockWard" "bestRow" "[I") ∈ lw_all := lw_g (lw_at lw_m1 136 rfl) rfl
theorem q200 : (Jvm.Cond.fieldLink "ClockWard" (276 : Nat) "ClockWard" "rightSum" "J") ∈ lw_all := lw_g (lw_at lw_m1 137 rfl) rfl
theorem q201 : (Jvm.Cond.fieldLink "ClockWard" (280 : Nat) "ClockWard" "manySum" "J") ∈ lw_all := lw_g (lw_at lw_m1 138 rfl) rfl
theorem q202 : (Jvm.Cond.fieldLink "ClockWard" (283 : Nat) "ClockWard" "allWays" "J") ∈ lw_all := lw_g (lw_at lw_m1 139 rfl) rfl
theorem q203 : (Jvm.Cond.fieldLink "ClockWard" (107 : Nat) "ClockWard" "shown" "[B") ∈ lw_all := lw_g (lw_at lw_m1 140 rfl) rfl
theorem q204 : (Jvm.Cond.fieldLink "ClockWard" (110 : Nat) "ClockWard" "ways" "[B") ∈ lw_all := lw_g (lw_at lw_m1 141 rfl) rfl
theorem q205 : (Jvm.Cond.fieldLink "ClockWard" (115 : Nat) "ClockWard" "sheets" "[LClockWard$Sheet;") ∈ lw_all := lw_g (lw_at lw_m1 142 rfl) rfl
theorem q206 : (Jvm.Cond.fieldLink "ClockWard" (340 : Nat) "ClockWard" "torn" "I") ∈ lw_all := lw_g (lw_at lw_m1 143 rfl) rfl
theorem q207 : (Jvm.Cond.laysFinal "ClockWard" "ClockWard" "kinds" "[LClockWard$Plain;") ∈ lw_all := lw_g (lw_at lw_m1 144 rfl) rfl
theorem q208 : (Jvm.Cond.soleField "ClockWard" "kinds") ∈ lw_all := lw_g (lw_at lw_m1 145 rfl) rfl
theorem q209 : (Jvm.Cond.laysFinal "ClockWard" "ClockWard" "now" "LClockWard$Ward;") ∈ lw_all := lw_g (lw_at lw_m1 146 rfl) rfl
theorem q210 : (Jvm.Cond.soleField "ClockWard" "now") ∈ lw_all := lw_g (lw_at lw_m1 147 rfl) rfl
theorem q211 : (Jvm.Cond.laysFinal "ClockWard" "ClockWard" "tried" "LClockWard$Ward;") ∈ lw_all := lw_g (lw_at lw_m1 148 rfl) rfl
theorem q212 : (Jvm.Cond.soleField "ClockWard" "tried") ∈ lw_all := lw_g (lw_at lw_m1 149 rfl) rfl
theorem q213 : (Jvm.Cond.laysFinal "ClockWard" "ClockWard" "half" "LClockWard$Ward;") ∈ lw_all := lw_g (lw_at lw_m1 150 rfl) rfl
theorem q214 : (Jvm.Cond.soleField "ClockWard" "half") ∈ lw_all := lw_g (lw_at lw_m1 151 rfl) rfl
theorem q215 : (Jvm.Cond.laysFinal "ClockWard" "ClockWard" "images" "[LClockWard$Ward;") ∈ lw_all := lw_g (lw_at lw_m1 152 rfl) rfl
theorem q216 : (Jvm.Cond.soleField "ClockWard" "images") ∈ lw_all := lw_g (lw_at lw_m1 153 rfl) rfl
theorem q217 : (Jvm.Cond.lays "ClockWard" "ClockWard" "kept" "I") ∈ lw_all := lw_g (lw_at lw_m1 154 rfl) rfl
theorem q218 : (Jvm.Cond.soleField "ClockWard" "kept") ∈ lw_all := lw_g (lw_at lw_m1 155 rfl) rfl
theorem q219 : (Jvm.Cond.laysFinal "ClockWard" "ClockWard" "seen" "[B") ∈ lw_all := lw_g (lw_at lw_m1 156 rfl) rfl
theorem q220 : (Jvm.Cond.soleField "ClockWard" "seen") ∈ lw_all := lw_g (lw_at lw_m1 157 rfl) rfl
theorem q221 : (Jvm.Cond.lays "ClockWard" "ClockWard" "seenMany" "I") ∈ lw_all := lw_g (lw_at lw_m1 158 rfl) rfl
theorem q222 : (Jvm.Cond.soleField "ClockWard" "seenMany") ∈ lw_all := lw_g (lw_at lw_m1 159 rfl) rfl
theorem q223 : (Jvm.Cond.lays "ClockWard" "ClockWard" "came" "I") ∈ lw_all := lw_g (lw_at lw_m1 160 rfl) rfl
theorem q224 : (Jvm.Cond.soleField "ClockWard" "came") ∈ lw_all := lw_g (lw_at lw_m1 161 rfl) rfl
theorem q225 : (Jvm.Cond.lays "ClockWard" "ClockWard" "firstNot" "I") ∈ lw_all := lw_g (lw_at lw_m1 162 rfl) rfl
theorem q226 : (Jvm.Cond.soleField "ClockWard" "firstNot") ∈ lw_all := lw_g (lw_at lw_m1 163 rfl) rfl
theorem q227 : (Jvm.Cond.laysFinal "ClockWard" "ClockWard" "tape" "[B") ∈ lw_all := lw_g (lw_at lw_m1 164 rfl) rfl
theorem q228 : (Jvm.Cond.soleField "ClockWard" "tape") ∈ lw_all := lw_g (lw_at lw_m1 165 rfl) rfl
theorem q229 : (Jvm.Cond.lays "ClockWard" "ClockWard" "taped" "I") ∈ lw_all := lw_g (lw_at lw_m1 166 rfl) rfl
theorem q230 : (Jvm.Cond.soleField "ClockWard" "taped") ∈ lw_all := lw_g (lw_at lw_m1 167 rfl) rfl
theorem q231 : (Jvm.Cond.lays "ClockWard" "ClockWard" "fault" "I") ∈ lw_all := lw_g (lw_at lw_m1 168 rfl) rfl
theorem q232 : (Jvm.Cond.soleField "ClockWard" "fault") ∈ lw_all := lw_g (lw_at lw_m1 169 rfl) rfl
theorem q233 : (Jvm.Cond.lays "ClockWard" "ClockWard" "bestRight" "I") ∈ lw_all := lw_g (lw_at lw_m1 170 rfl) rfl
theorem q234 : (Jvm.Cond.soleField "ClockWard" "bestRight") ∈ lw_all := lw_g (lw_at lw_m1 171 rfl) rfl
theorem q235 : (Jvm.Cond.lays "ClockWard" "ClockWard" "bestMany" "I") ∈ lw_all := lw_g (lw_at lw_m1 172 rfl) rfl
theorem q236 : (Jvm.Cond.soleField "ClockWard" "bestMany") ∈ lw_all := lw_g (lw_at lw_m1 173 rfl) rfl
theorem q237 : (Jvm.Cond.lays "ClockWard" "ClockWard" "bestLost" "I") ∈ lw_all := lw_g (lw_at lw_m1 174 rfl) rfl
theorem q238 : (Jvm.Cond.soleField "ClockWard" "bestLost") ∈ lw_all := lw_g (lw_at lw_m1 175 rfl) rfl
theorem q239 : (Jvm.Cond.laysFinal "ClockWard" "ClockWard" "bestRow" "[I") ∈ lw_all := lw_g (lw_at lw_m1 176 rfl) rfl
theorem q240 : (Jvm.Cond.soleField "ClockWard" "bestRow") ∈ lw_all := lw_g (lw_at lw_m1 177 rfl) rfl
theorem q241 : (Jvm.Cond.lays "ClockWard" "ClockWard" "rightSum" "J") ∈ lw_all := lw_g (lw_at lw_m1 178 rfl) rfl
theorem q242 : (Jvm.Cond.soleField "ClockWard" "rightSum") ∈ lw_all := lw_g (lw_at lw_m1 179 rfl) rfl
theorem q243 : (Jvm.Cond.lays "ClockWard" "ClockWard" "manySum" "J") ∈ lw_all := lw_g (lw_at lw_m1 180 rfl) rfl
theorem q244 : (Jvm.Cond.soleField "ClockWard" "manySum") ∈ lw_all := lw_g (lw_at lw_m1 181 rfl) rfl
theorem q245 : (Jvm.Cond.lays "ClockWard" "ClockWard" "allWays" "J") ∈ lw_all := lw_g (lw_at lw_m1 182 rfl) rfl
theorem q246 : (Jvm.Cond.soleField "ClockWard" "allWays") ∈ lw_all := lw_g (lw_at lw_m1 183 rfl) rfl
theorem q247 : (Jvm.Cond.laysFinal "ClockWard" "ClockWard" "shown" "[B") ∈ lw_all := lw_g (lw_at lw_m1 184 rfl) rfl
theorem q248 : (Jvm.Cond.soleField "ClockWard" "shown") ∈ lw_all := lw_g (lw_at lw_m1 185 rfl) rfl
theorem q249 : (Jvm.Cond.laysFinal "ClockWard" "ClockWard" "ways" "[B") ∈ lw_all := lw_g (lw_at lw_m1 186 rfl) rfl
theorem q250 : (Jvm.Cond.soleField "ClockWard" "ways") ∈ lw_all := lw_g (lw_at lw_m1 187 rfl) rfl
theorem q251 : (Jvm.Cond.laysFinal "ClockWard" "ClockWard" "sheets" "[LClockWard$Sheet;") ∈ lw_all := lw_g (lw_at lw_m1 188 rfl) rfl
theorem q252 : (Jvm.Cond.soleField "ClockWard" "sheets") ∈ lw_all := lw_g (lw_at lw_m1 189 rfl) rfl
theorem q253 : (Jvm.Cond.lays "ClockWard" "ClockWard" "torn" "I") ∈ lw_all := lw_g (lw_at lw_m1 190 rfl) rfl
theorem q254 : (Jvm.Cond.soleField "ClockWard" "torn") ∈ lw_all := lw_g (lw_at lw_m1 191 rfl) rfl
theorem q255 : (Jvm.Cond.superclass "ClockWard" "java/lang/Object") ∈ lw_all := lw_g (lw_at lw_m1 192 rfl) rfl
theorem q257 : (Jvm.Cond.instanceMethod ({ cls := "ClockWard", name := "feed", desc := "(I)I" } : Jvm.MethodName)) ∈ lw_all := lw_g (lw_at lw_m1 194 rfl) rfl
theorem q258 : (Jvm.Cond.selects "ClockWard" ({ cls := "ClockWard", name := "feed", desc := "(I)I" } : Jvm.MethodName) ({ cls := "ClockWard", name := "feed", desc := "(I)I" } : Jvm.MethodName)) ∈ lw_all := lw_g (lw_at lw_m1 195 rfl) rfl
theorem q259 : (Jvm.Cond.code ({ cls := "ClockWard", name := "feed", desc := "(I)I" } : Jvm.MethodName) prog_1_method_7_code (2 : Nat) (Option.some Jvm.ClassFile.FieldType.int)) ∈ lw_all := lw_g (lw_at lw_m1 196 rfl) rfl
theorem q260 : (Jvm.Cond.constantLong "ClockWard" (120 : Nat) (127 : Int64)) ∈ lw_all := lw_g (lw_at lw_m1 197 rfl) rfl
theorem q261 : (Jvm.Cond.methodLink "ClockWard" (122 : Nat) ({ cls := "ClockWard", name := "in", desc := "(JJJ)Z" } : Jvm.MethodName)) ∈ lw_all := lw_g (lw_at lw_m1 198 rfl) rfl
theorem q262 : (Jvm.Cond.static ({ cls := "ClockWard", name := "in", desc := "(JJJ)Z" } : Jvm.MethodName)) ∈ lw_all := lw_g (lw_at lw_m1 199 rfl) rfl
theorem q263 : (Jvm.Cond.code ({ cls := "ClockWard", name := "in", desc := "(JJJ)Z" } : Jvm.MethodName) prog_1_method_1_code (6 : Nat) (Option.some Jvm.ClassFile.FieldType.boolean)) ∈ lw_all := lw_g (lw_at lw_m1 200 rfl) rfl
theorem q265 : (Jvm.Cond.instanceMethod ({ cls := "ClockWard", name := "end", desc := "(I)I" } : Jvm.MethodName)) ∈ lw_all := lw_g (lw_at lw_m1 202 rfl) rfl
theorem q266 : (Jvm.Cond.selects "ClockWard" ({ cls := "ClockWard", name := "end", desc := "(I)I" } : Jvm.MethodName) ({ cls := "ClockWard", name := "end", desc := "(I)I" } : Jvm.MethodName)) ∈ lw_all := lw_g (lw_at lw_m1 203 rfl) rfl
theorem q267 : (Jvm.Cond.code ({ cls := "ClockWard", name := "end", desc := "(I)I" } : Jvm.MethodName) prog_1_method_8_code (3 : Nat) (Option.some Jvm.ClassFile.FieldType.int)) ∈ lw_all := lw_g (lw_at lw_m1 204 rfl) rfl
theorem q269 : (Jvm.Cond.instanceMethod ({ cls := "ClockWard", name := "text", desc := "()I" } : Jvm.MethodName)) ∈ lw_all := lw_g (lw_at lw_m1 206 rfl) rfl
theorem q270 : (Jvm.Cond.selects "ClockWard" ({ cls := "ClockWard", name := "text", desc := "()I" } : Jvm.MethodName) ({ cls := "ClockWard", name := "text", desc := "()I" } : Jvm.MethodName)) ∈ lw_all := lw_g (lw_at lw_m1 207 rfl) rfl
theorem q271 : (Jvm.Cond.codeWith ({ cls := "ClockWard", name := "text", desc := "()I" } : Jvm.MethodName) prog_1_method_9_code (4 : Nat) (Option.some Jvm.ClassFile.FieldType.int) [((15 : Nat), (52 : Nat), (53 : Nat), (154 : Nat))]) ∈ lw_all := lw_g (lw_at lw_m1 208 rfl) rfl
theorem q272 : (Jvm.Cond.classLink "ClockWard" (154 : Nat) "ClockWard$Fault") ∈ lw_all := lw_g (lw_at lw_m1 209 rfl) rfl
theorem q273 : (Jvm.Cond.classLink "ClockWard" (132 : Nat) "ClockWard$Reader") ∈ lw_all := lw_g (lw_at lw_m1 210 rfl) rfl
theorem q275 : (Jvm.Cond.methodLink "ClockWard" (134 : Nat) ({ cls := "ClockWard$Reader", name := "<init>", desc := "(LClockWard;I)V" } : Jvm.MethodName)) ∈ lw_all := lw_g (lw_at lw_m1 212 rfl) rfl
theorem q357 : (Jvm.Cond.fieldLinkNest "ClockWard" (156 : Nat) "ClockWard$Fault" "code" "I" "ClockWard") ∈ lw_tbl := lw_at lw_m2 54 rfl
theorem q359 : (Jvm.Cond.fieldLinkNest "ClockWard" (159 : Nat) "ClockWard$Fault" "place" "I" "ClockWard") ∈ lw_tbl := lw_at lw_m2 56 rfl
theorem q379 : (Jvm.Cond.fieldLinkNest "ClockWard" (141 : Nat) "ClockWard$Reader" "made" "LClockWard$Ward;" "ClockWard") ∈ lw_tbl := lw_at lw_m2 76 rfl
theorem q406 : (Jvm.Cond.methodLink "ClockWard" (137 : Nat) ({ cls := "ClockWard$Reader", name := "lines", desc := "()I" } : Jvm.MethodName)) ∈ lw_all := lw_g (lw_at lw_m2 103 rfl) rfl
theorem q504 : (Jvm.Cond.methodLink "ClockWard" (144 : Nat) ({ cls := "ClockWard$Ward", name := "as", desc := "(LClockWard$Ward;)V" } : Jvm.MethodName)) ∈ lw_all := lw_g (lw_at lw_m2 201 rfl) rfl
theorem q512 : (Jvm.Cond.instanceMethod ({ cls := "ClockWard", name := "fault", desc := "()I" } : Jvm.MethodName)) ∈ lw_all := lw_g (lw_at lw_m2 209 rfl) rfl
theorem q513 : (Jvm.Cond.selects "ClockWard" ({ cls := "ClockWard", name := "fault", desc := "()I" } : Jvm.MethodName) ({ cls := "ClockWard", name := "fault", desc := "()I" } : Jvm.MethodName)) ∈ lw_all := lw_g (lw_at lw_m2 210 rfl) rfl
theorem q514 : (Jvm.Cond.code ({ cls := "ClockWard", name := "fault", desc := "()I" } : Jvm.MethodName) prog_1_method_10_code (1 : Nat) (Option.some Jvm.ClassFile.FieldType.int)) ∈ lw_all := lw_g (lw_at lw_m2 211 rfl) rfl
theorem q516 : (Jvm.Cond.instanceMethod ({ cls := "ClockWard", name := "rule", desc := "(I)I" } : Jvm.MethodName)) ∈ lw_all := lw_g (lw_at lw_m2 213 rfl) rfl
theorem q517 : (Jvm.Cond.selects "ClockWard" ({ cls := "ClockWard", name := "rule", desc := "(I)I" } : Jvm.MethodName) ({ cls := "ClockWard", name := "rule", desc := "(I)I" } : Jvm.MethodName)) ∈ lw_all := lw_g (lw_at lw_m2 214 rfl) rfl
theorem q518 : (Jvm.Cond.code ({ cls := "ClockWard", name := "rule", desc := "(I)I" } : Jvm.MethodName) prog_1_method_15_code (2 : Nat) (Option.some Jvm.ClassFile.FieldType.int)) ∈ lw_all := lw_g (lw_at lw_m2 215 rfl) rfl
theorem q519 : (Jvm.Cond.methodLink "ClockWard" (173 : Nat) ({ cls := "ClockWard$Ward", name := "right", desc := "()I" } : Jvm.MethodName)) ∈ lw_all := lw_g (lw_at lw_m2 216 rfl) rfl
theorem q527 : (Jvm.Cond.methodLink "ClockWard" (176 : Nat) ({ cls := "ClockWard$Ward", name := "allTimes", desc := "()I" } : Jvm.MethodName)) ∈ lw_all := lw_g (lw_at lw_m2 224 rfl) rfl
theorem q532 : (Jvm.Cond.instanceMethod ({ cls := "ClockWard", name := "clock", desc := "(II)I" } : Jvm.MethodName)) ∈ lw_all := lw_g (lw_at lw_m2 229 rfl) rfl
theorem q533 : (Jvm.Cond.selects "ClockWard" ({ cls := "ClockWard", name := "clock", desc := "(II)I" } : Jvm.MethodName) ({ cls := "ClockWard", name := "clock", desc := "(II)I" } : Jvm.MethodName)) ∈ lw_all := lw_g (lw_at lw_m2 230 rfl) rfl
theorem q534 : (Jvm.Cond.code ({ cls := "ClockWard", name := "clock", desc := "(II)I" } : Jvm.MethodName) prog_1_method_16_code (3 : Nat) (Option.some Jvm.ClassFile.FieldType.int)) ∈ lw_all := lw_g (lw_at lw_m2 231 rfl) rfl
theorem q535 : (Jvm.Cond.methodLink "ClockWard" (162 : Nat) ({ cls := "ClockWard", name := "isClock", desc := "(I)Z" } : Jvm.MethodName)) ∈ lw_all := lw_g (lw_at lw_m2 232 rfl) rfl
theorem q536 : (Jvm.Cond.privateMethod ({ cls := "ClockWard", name := "isClock", desc := "(I)Z" } : Jvm.MethodName)) ∈ lw_tbl := lw_at lw_m2 233 rfl
theorem q537 : (Jvm.Cond.instanceMethod ({ cls := "ClockWard", name := "isClock", desc := "(I)Z" } : Jvm.MethodName)) ∈ lw_all := lw_g (lw_at lw_m2 234 rfl) rfl
theorem q538 : (Jvm.Cond.code ({ cls := "ClockWard", name := "isClock", desc := "(I)Z" } : Jvm.MethodName) prog_1_method_11_code (2 : Nat) (Option.some Jvm.ClassFile.FieldType.boolean)) ∈ lw_all := lw_g (lw_at lw_m2 235 rfl) rfl
theorem q539 : (Jvm.Cond.constantLong "ClockWard" (182 : Nat) (4 : Int64)) ∈ lw_all := lw_g (lw_at lw_m2 236 rfl) rfl
theorem q540 : (Jvm.Cond.methodLink "ClockWard" (3 : Nat) ({ cls := "ClockWard$Ward", name := "of", desc := "(II)I" } : Jvm.MethodName)) ∈ lw_all := lw_g (lw_at lw_m2 237 rfl) rfl
theorem q541 : (Jvm.Cond.methodLink "ClockWard" (31 : Nat) ({ cls := "ClockWard", name := "timeThen", desc := "(LClockWard$Ward;I)I" } : Jvm.MethodName)) ∈ lw_all := lw_g (lw_at lw_m2 238 rfl) rfl
theorem q542 : (Jvm.Cond.privateMethod ({ cls := "ClockWard", name := "timeThen", desc := "(LClockWard$Ward;I)I" } : Jvm.MethodName)) ∈ lw_tbl := lw_at lw_m2 239 rfl
theorem q543 : (Jvm.Cond.instanceMethod ({ cls := "ClockWard", name := "timeThen", desc := "(LClockWard$Ward;I)I" } : Jvm.MethodName)) ∈ lw_all := lw_g (lw_at lw_m3 0 rfl) rfl
theorem q544 : (Jvm.Cond.code ({ cls := "ClockWard", name := "timeThen", desc := "(LClockWard$Ward;I)I" } : Jvm.MethodName) prog_1_method_3_code (3 : Nat) (Option.some Jvm.ClassFile.FieldType.int)) ∈ lw_all := lw_g (lw_at lw_m3 1 rfl) rfl
theorem q545 : (Jvm.Cond.methodLink "ClockWard" (13 : Nat) ({ cls := "ClockWard$Plain", name := "gains", desc := "(I)I" } : Jvm.MethodName)) ∈ lw_all := lw_g (lw_at lw_m3 2 rfl) rfl
theorem q562 : (Jvm.Cond.methodLink "ClockWard" (19 : Nat) ({ cls := "java/lang/Math", name := "min", desc := "(II)I" } : Jvm.MethodName)) ∈ lw_all := lw_g (lw_at lw_m3 19 rfl) rfl
theorem q565 : (Jvm.Cond.methodLink "ClockWard" (24 : Nat) ({ cls := "java/lang/Math", name := "max", desc := "(II)I" } : Jvm.MethodName)) ∈ lw_all := lw_g (lw_at lw_m3 22 rfl) rfl
theorem q567 : (Jvm.Cond.instanceMethod ({ cls := "ClockWard", name := "got", desc := "(II)I" } : Jvm.MethodName)) ∈ lw_all := lw_g (lw_at lw_m3 24 rfl) rfl
theorem q568 : (Jvm.Cond.selects "ClockWard" ({ cls := "ClockWard", name := "got", desc := "(II)I" } : Jvm.MethodName) ({ cls := "ClockWard", name := "got", desc := "(II)I" } : Jvm.MethodName)) ∈ lw_all := lw_g (lw_at lw_m3 25 rfl) rfl
theorem q569 : (Jvm.Cond.code ({ cls := "ClockWard", name := "got", desc := "(II)I" } : Jvm.MethodName) prog_1_method_17_code (3 : Nat) (Option.some Jvm.ClassFile.FieldType.int)) ∈ lw_all := lw_g (lw_at lw_m3 26 rfl) rfl
theorem q570 : (Jvm.Cond.methodLink "ClockWard" (184 : Nat) ({ cls := "ClockWard", name := "isPair", desc := "(II)Z" } : Jvm.MethodName)) ∈ lw_all := lw_g (lw_at lw_m3 27 rfl) rfl
theorem q571 : (Jvm.Cond.privateMethod ({ cls := "ClockWard", name := "isPair", desc := "(II)Z" } : Jvm.MethodName)) ∈ lw_tbl := lw_at lw_m3 28 rfl
theorem q572 : (Jvm.Cond.instanceMethod ({ cls := "ClockWard", name := "isPair", desc := "(II)Z" } : Jvm.MethodName)) ∈ lw_all := lw_g (lw_at lw_m3 29 rfl) rfl
theorem q573 : (Jvm.Cond.code ({ cls := "ClockWard", name := "isPair", desc := "(II)Z" } : Jvm.MethodName) prog_1_method_12_code (3 : Nat) (Option.some Jvm.ClassFile.FieldType.boolean)) ∈ lw_all := lw_g (lw_at lw_m3 30 rfl) rfl
theorem q575 : (Jvm.Cond.instanceMethod ({ cls := "ClockWard", name := "gift", desc := "(II)I" } : Jvm.MethodName)) ∈ lw_all := lw_g (lw_at lw_m3 32 rfl) rfl
theorem q576 : (Jvm.Cond.selects "ClockWard" ({ cls := "ClockWard", name := "gift", desc := "(II)I" } : Jvm.MethodName) ({ cls := "ClockWard", name := "gift", desc := "(II)I" } : Jvm.MethodName)) ∈ lw_all := lw_g (lw_at lw_m3 33 rfl) rfl
theorem q577 : (Jvm.Cond.code ({ cls := "ClockWard", name := "gift", desc := "(II)I" } : Jvm.MethodName) prog_1_method_18_code (3 : Nat) (Option.some Jvm.ClassFile.FieldType.int)) ∈ lw_all := lw_g (lw_at lw_m3 34 rfl) rfl
theorem q578 : (Jvm.Cond.constantLong "ClockWard" (190 : Nat) (2 : Int64)) ∈ lw_all := lw_g (lw_at lw_m3 35 rfl) rfl
theorem q580 : (Jvm.Cond.instanceMethod ({ cls := "ClockWard", name := "alter", desc := "(III)I" } : Jvm.MethodName)) ∈ lw_all := lw_g (lw_at lw_m3 37 rfl) rfl
theorem q581 : (Jvm.Cond.selects "ClockWard" ({ cls := "ClockWard", name := "alter", desc := "(III)I" } : Jvm.MethodName) ({ cls := "ClockWard", name := "alter", desc := "(III)I" } : Jvm.MethodName)) ∈ lw_all := lw_g (lw_at lw_m3 38 rfl) rfl
theorem q582 : (Jvm.Cond.code ({ cls := "ClockWard", name := "alter", desc := "(III)I" } : Jvm.MethodName) prog_1_method_20_code (5 : Nat) (Option.some Jvm.ClassFile.FieldType.int)) ∈ lw_all := lw_g (lw_at lw_m3 39 rfl) rfl
theorem q583 : (Jvm.Cond.constantLong "ClockWard" (192 : Nat) (3 : Int64)) ∈ lw_all := lw_g (lw_at lw_m3 40 rfl) rfl
theorem q584 : (Jvm.Cond.methodLink "ClockWard" (194 : Nat) ({ cls := "ClockWard", name := "mostOf", desc := "(I)I" } : Jvm.MethodName)) ∈ lw_all := lw_g (lw_at lw_m3 41 rfl) rfl
theorem q585 : (Jvm.Cond.static ({ cls := "ClockWard", name := "mostOf", desc := "(I)I" } : Jvm.MethodName)) ∈ lw_all := lw_g (lw_at lw_m3 42 rfl) rfl
theorem q586 : (Jvm.Cond.code ({ cls := "ClockWard", name := "mostOf", desc := "(I)I" } : Jvm.MethodName) prog_1_method_19_code (1 : Nat) (Option.some Jvm.ClassFile.FieldType.int)) ∈ lw_all := lw_g (lw_at lw_m3 43 rfl) rfl
theorem q587 : (Jvm.Cond.methodLink "ClockWard" (35 : Nat) ({ cls := "ClockWard$Ward", name := "becomes", desc := "(III)V" } : Jvm.MethodName)) ∈ lw_all := lw_g (lw_at lw_m3 44 rfl) rfl
theorem q589 : (Jvm.Cond.instanceMethod ({ cls := "ClockWard", name := "floor", desc := "(I)I" } : Jvm.MethodName)) ∈ lw_all := lw_g (lw_at lw_m3 46 rfl) rfl
theorem q590 : (Jvm.Cond.selects "ClockWard" ({ cls := "ClockWard", name := "floor", desc := "(I)I" } : Jvm.MethodName) ({ cls := "ClockWard", name := "floor", desc := "(I)I" } : Jvm.MethodName)) ∈ lw_all := lw_g (lw_at lw_m3 47 rfl) rfl
theorem q591 : (Jvm.Cond.code ({ cls := "ClockWard", name := "floor", desc := "(I)I" } : Jvm.MethodName) prog_1_method_21_code (3 : Nat) (Option.some Jvm.ClassFile.FieldType.int)) ∈ lw_all := lw_g (lw_at lw_m3 48 rfl) rfl
theorem q592 : (Jvm.Cond.constantLong "ClockWard" (197 : Nat) (50 : Int64)) ∈ lw_all := lw_g (lw_at lw_m3 49 rfl) rfl
theorem q594 : (Jvm.Cond.instanceMethod ({ cls := "ClockWard", name := "plan", desc := "(III)I" } : Jvm.MethodName)) ∈ lw_all := lw_g (lw_at lw_m3 51 rfl) rfl
theorem q595 : (Jvm.Cond.selects "ClockWard" ({ cls := "ClockWard", name := "plan", desc := "(III)I" } : Jvm.MethodName) ({ cls := "ClockWard", name := "plan", desc := "(III)I" } : Jvm.MethodName)) ∈ lw_all := lw_g (lw_at lw_m3 52 rfl) rfl
theorem q596 : (Jvm.Cond.code ({ cls := "ClockWard", name := "plan", desc := "(III)I" } : Jvm.MethodName) prog_1_method_22_code (4 : Nat) (Option.some Jvm.ClassFile.FieldType.int)) ∈ lw_all := lw_g (lw_at lw_m3 53 rfl) rfl
theorem q597 : (Jvm.Cond.constantLong "ClockWard" (199 : Nat) (9 : Int64)) ∈ lw_all := lw_g (lw_at lw_m3 54 rfl) rfl
theorem q599 : (Jvm.Cond.instanceMethod ({ cls := "ClockWard", name := "cut", desc := "(I)I" } : Jvm.MethodName)) ∈ lw_all := lw_g (lw_at lw_m3 56 rfl) rfl
theorem q600 : (Jvm.Cond.selects "ClockWard" ({ cls := "ClockWard", name := "cut", desc := "(I)I" } : Jvm.MethodName) ({ cls := "ClockWard", name := "cut", desc := "(I)I" } : Jvm.MethodName)) ∈ lw_all := lw_g (lw_at lw_m3 57 rfl) rfl
theorem q601 : (Jvm.Cond.code ({ cls := "ClockWard", name := "cut", desc := "(I)I" } : Jvm.MethodName) prog_1_method_23_code (3 : Nat) (Option.some Jvm.ClassFile.FieldType.int)) ∈ lw_all := lw_g (lw_at lw_m3 58 rfl) rfl
theorem q603 : (Jvm.Cond.instanceMethod ({ cls := "ClockWard", name := "most", desc := "(II)I" } : Jvm.MethodName)) ∈ lw_all := lw_g (lw_at lw_m3 60 rfl) rfl
theorem q604 : (Jvm.Cond.selects "ClockWard" ({ cls := "ClockWard", name := "most", desc := "(II)I" } : Jvm.MethodName) ({ cls := "ClockWard", name := "most", desc := "(II)I" } : Jvm.MethodName)) ∈ lw_all := lw_g (lw_at lw_m3 61 rfl) rfl
theorem q605 : (Jvm.Cond.code ({ cls := "ClockWard", name := "most", desc := "(II)I" } : Jvm.MethodName) prog_1_method_25_code (3 : Nat) (Option.some Jvm.ClassFile.FieldType.int)) ∈ lw_all := lw_g (lw_at lw_m3 62 rfl) rfl
theorem q606 : (Jvm.Cond.methodLink "ClockWard" (201 : Nat) ({ cls := "ClockWard", name := "mostNow", desc := "(II)I" } : Jvm.MethodName)) ∈ lw_all := lw_g (lw_at lw_m3 63 rfl) rfl
theorem q607 : (Jvm.Cond.privateMethod ({ cls := "ClockWard", name := "mostNow", desc := "(II)I" } : Jvm.MethodName)) ∈ lw_tbl := lw_at lw_m3 64 rfl
theorem q608 : (Jvm.Cond.instanceMethod ({ cls := "ClockWard", name := "mostNow", desc := "(II)I" } : Jvm.MethodName)) ∈ lw_all := lw_g (lw_at lw_m3 65 rfl) rfl
theorem q609 : (Jvm.Cond.code ({ cls := "ClockWard", name := "mostNow", desc := "(II)I" } : Jvm.MethodName) prog_1_method_24_code (5 : Nat) (Option.some Jvm.ClassFile.FieldType.int)) ∈ lw_all := lw_g (lw_at lw_m3 66 rfl) rfl
theorem q610 : (Jvm.Cond.methodLink "ClockWard" (55 : Nat) ({ cls := "ClockWard$Ward", name := "mayBe", desc := "(III)Z" } : Jvm.MethodName)) ∈ lw_all := lw_g (lw_at lw_m3 67 rfl) rfl
theorem q623 : (Jvm.Cond.instanceMethod ({ cls := "ClockWard", name := "give", desc := "(III)I" } : Jvm.MethodName)) ∈ lw_all := lw_g (lw_at lw_m3 80 rfl) rfl
theorem q624 : (Jvm.Cond.selects "ClockWard" ({ cls := "ClockWard", name := "give", desc := "(III)I" } : Jvm.MethodName) ({ cls := "ClockWard", name := "give", desc := "(III)I" } : Jvm.MethodName)) ∈ lw_all := lw_g (lw_at lw_m3 81 rfl) rfl
theorem q625 : (Jvm.Cond.code ({ cls := "ClockWard", name := "give", desc := "(III)I" } : Jvm.MethodName) prog_1_method_26_code (4 : Nat) (Option.some Jvm.ClassFile.FieldType.int)) ∈ lw_all := lw_g (lw_at lw_m3 82 rfl) rfl
theorem q626 : (Jvm.Cond.methodLink "ClockWard" (63 : Nat) ({ cls := "ClockWard$Ward", name := "gives", desc := "(III)V" } : Jvm.MethodName)) ∈ lw_all := lw_g (lw_at lw_m3 83 rfl) rfl
theorem q632 : (Jvm.Cond.instanceMethod ({ cls := "ClockWard", name := "nights", desc := "(I)I" } : Jvm.MethodName)) ∈ lw_all := lw_g (lw_at lw_m3 89 rfl) rfl
theorem q633 : (Jvm.Cond.selects "ClockWard" ({ cls := "ClockWard", name := "nights", desc := "(I)I" } : Jvm.MethodName) ({ cls := "ClockWard", name := "nights", desc := "(I)I" } : Jvm.MethodName)) ∈ lw_all := lw_g (lw_at lw_m3 90 rfl) rfl
theorem q634 : (Jvm.Cond.code ({ cls := "ClockWard", name := "nights", desc := "(I)I" } : Jvm.MethodName) prog_1_method_27_code (3 : Nat) (Option.some Jvm.ClassFile.FieldType.int)) ∈ lw_all := lw_g (lw_at lw_m3 91 rfl) rfl
theorem q635 : (Jvm.Cond.constantLong "ClockWard" (204 : Nat) (30 : Int64)) ∈ lw_all := lw_g (lw_at lw_m3 92 rfl) rfl
theorem q636 : (Jvm.Cond.methodLink "ClockWard" (206 : Nat) ({ cls := "ClockWard", name := "nightGoes", desc := "(LClockWard$Ward;)V" } : Jvm.MethodName)) ∈ lw_all := lw_g (lw_at lw_m3 93 rfl) rfl
theorem q637 : (Jvm.Cond.privateMethod ({ cls := "ClockWard", name := "nightGoes", desc := "(LClockWard$Ward;)V" } : Jvm.MethodName)) ∈ lw_tbl := lw_at lw_m3 94 rfl
theorem q638 : (Jvm.Cond.instanceMethod ({ cls := "ClockWard", name := "nightGoes", desc := "(LClockWard$Ward;)V" } : Jvm.MethodName)) ∈ lw_all := lw_g (lw_at lw_m3 95 rfl) rfl
theorem q639 : (Jvm.Cond.code ({ cls := "ClockWard", name := "nightGoes", desc := "(LClockWard$Ward;)V" } : Jvm.MethodName) prog_1_method_4_code (3 : Nat) (Option.none : Option Jvm.ClassFile.FieldType)) ∈ lw_all := lw_g (lw_at lw_m3 96 rfl) rfl
theorem q641 : (Jvm.Cond.instanceMethod ({ cls := "ClockWard", name := "runs", desc := "(I)I" } : Jvm.MethodName)) ∈ lw_all := lw_g (lw_at lw_m3 98 rfl) rfl
theorem q642 : (Jvm.Cond.selects "ClockWard" ({ cls := "ClockWard", name := "runs", desc := "(I)I" } : Jvm.MethodName) ({ cls := "ClockWard", name := "runs", desc := "(I)I" } : Jvm.MethodName)) ∈ lw_all := lw_g (lw_at lw_m3 99 rfl) rfl
theorem q643 : (Jvm.Cond.code ({ cls := "ClockWard", name := "runs", desc := "(I)I" } : Jvm.MethodName) prog_1_method_28_code (2 : Nat) (Option.some Jvm.ClassFile.FieldType.int)) ∈ lw_all := lw_g (lw_at lw_m3 100 rfl) rfl
theorem q644 : (Jvm.Cond.methodLink "ClockWard" (209 : Nat) ({ cls := "ClockWard", name := "goes", desc := "(LClockWard$Ward;I)V" } : Jvm.MethodName)) ∈ lw_all := lw_g (lw_at lw_m3 101 rfl) rfl
theorem q645 : (Jvm.Cond.privateMethod ({ cls := "ClockWard", name := "goes", desc := "(LClockWard$Ward;I)V" } : Jvm.MethodName)) ∈ lw_tbl := lw_at lw_m3 102 rfl
theorem q646 : (Jvm.Cond.instanceMethod ({ cls := "ClockWard", name := "goes", desc := "(LClockWard$Ward;I)V" } : Jvm.MethodName)) ∈ lw_all := lw_g (lw_at lw_m3 103 rfl) rfl
theorem q647 : (Jvm.Cond.code ({ cls := "ClockWard", name := "goes", desc := "(LClockWard$Ward;I)V" } : Jvm.MethodName) prog_1_method_5_code (8 : Nat) (Option.none : Option Jvm.ClassFile.FieldType)) ∈ lw_all := lw_g (lw_at lw_m3 104 rfl) rfl
theorem q648 : (Jvm.Cond.methodLink "ClockWard" (59 : Nat) ({ cls := "ClockWard", name := "has", desc := "(II)Z" } : Jvm.MethodName)) ∈ lw_all := lw_g (lw_at lw_m3 105 rfl) rfl
theorem q649 : (Jvm.Cond.static ({ cls := "ClockWard", name := "has", desc := "(II)Z" } : Jvm.MethodName)) ∈ lw_all := lw_g (lw_at lw_m3 106 rfl) rfl
theorem q650 : (Jvm.Cond.code ({ cls := "ClockWard", name := "has", desc := "(II)Z" } : Jvm.MethodName) prog_1_method_2_code (2 : Nat) (Option.some Jvm.ClassFile.FieldType.boolean)) ∈ lw_all := lw_g (lw_at lw_m3 107 rfl) rfl
theorem q652 : (Jvm.Cond.instanceMethod ({ cls := "ClockWard", name := "ahead", desc := "(I)I" } : Jvm.MethodName)) ∈ lw_all := lw_g (lw_at lw_m3 109 rfl) rfl
theorem q653 : (Jvm.Cond.selects "ClockWard" ({ cls := "ClockWard", name := "ahead", desc := "(I)I" } : Jvm.MethodName) ({ cls := "ClockWard", name := "ahead", desc := "(I)I" } : Jvm.MethodName)) ∈ lw_all := lw_g (lw_at lw_m3 110 rfl) rfl
theorem q654 : (Jvm.Cond.code ({ cls := "ClockWard", name := "ahead", desc := "(I)I" } : Jvm.MethodName) prog_1_method_29_code (2 : Nat) (Option.some Jvm.ClassFile.FieldType.int)) ∈ lw_all := lw_g (lw_at lw_m3 111 rfl) rfl
theorem q656 : (Jvm.Cond.instanceMethod ({ cls := "ClockWard", name := "later", desc := "(II)I" } : Jvm.MethodName)) ∈ lw_all := lw_g (lw_at lw_m3 113 rfl) rfl
theorem q657 : (Jvm.Cond.selects "ClockWard" ({ cls := "ClockWard", name := "later", desc := "(II)I" } : Jvm.MethodName) ({ cls := "ClockWard", name := "later", desc := "(II)I" } : Jvm.MethodName)) ∈ lw_all := lw_g (lw_at lw_m3 114 rfl) rfl
theorem q658 : (Jvm.Cond.code ({ cls := "ClockWard", name := "later", desc := "(II)I" } : Jvm.MethodName) prog_1_method_30_code (4 : Nat) (Option.some Jvm.ClassFile.FieldType.int)) ∈ lw_all := lw_g (lw_at lw_m3 115 rfl) rfl
theorem q659 : (Jvm.Cond.constantLong "ClockWard" (213 : Nat) (60 : Int64)) ∈ lw_all := lw_g (lw_at lw_m3 116 rfl) rfl
theorem q661 : (Jvm.Cond.instanceMethod ({ cls := "ClockWard", name := "when", desc := "(I)I" } : Jvm.MethodName)) ∈ lw_all := lw_g (lw_at lw_m3 118 rfl) rfl
theorem q662 : (Jvm.Cond.selects "ClockWard" ({ cls := "ClockWard", name := "when", desc := "(I)I" } : Jvm.MethodName) ({ cls := "ClockWard", name := "when", desc := "(I)I" } : Jvm.MethodName)) ∈ lw_all := lw_g (lw_at lw_m3 119 rfl) rfl
theorem q663 : (Jvm.Cond.code ({ cls := "ClockWard", name := "when", desc := "(I)I" } : Jvm.MethodName) prog_1_method_31_code (3 : Nat) (Option.some Jvm.ClassFile.FieldType.int)) ∈ lw_all := lw_g (lw_at lw_m3 120 rfl) rfl
theorem q665 : (Jvm.Cond.instanceMethod ({ cls := "ClockWard", name := "together", desc := "(I)I" } : Jvm.MethodName)) ∈ lw_all := lw_g (lw_at lw_m3 122 rfl) rfl
theorem q666 : (Jvm.Cond.selects "ClockWard" ({ cls := "ClockWard", name := "together", desc := "(I)I" } : Jvm.MethodName) ({ cls := "ClockWard", name := "together", desc := "(I)I" } : Jvm.MethodName)) ∈ lw_all := lw_g (lw_at lw_m3 123 rfl) rfl
theorem q667 : (Jvm.Cond.code ({ cls := "ClockWard", name := "together", desc := "(I)I" } : Jvm.MethodName) prog_1_method_32_code (6 : Nat) (Option.some Jvm.ClassFile.FieldType.int)) ∈ lw_all := lw_g (lw_at lw_m3 124 rfl) rfl
theorem q668 : (Jvm.Cond.methodLink "ClockWard" (215 : Nat) ({ cls := "ClockWard", name := "isPart", desc := "(I)Z" } : Jvm.MethodName)) ∈ lw_all := lw_g (lw_at lw_m3 125 rfl) rfl
theorem q669 : (Jvm.Cond.static ({ cls := "ClockWard", name := "isPart", desc := "(I)Z" } : Jvm.MethodName)) ∈ lw_all := lw_g (lw_at lw_m3 126 rfl) rfl
theorem q670 : (Jvm.Cond.code ({ cls := "ClockWard", name := "isPart", desc := "(I)Z" } : Jvm.MethodName) prog_1_method_13_code (1 : Nat) (Option.some Jvm.ClassFile.FieldType.boolean)) ∈ lw_all := lw_g (lw_at lw_m3 127 rfl) rfl
theorem q671 : (Jvm.Cond.methodLink "ClockWard" (218 : Nat) ({ cls := "java/lang/Integer", name := "bitCount", desc := "(I)I" } : Jvm.MethodName)) ∈ lw_all := lw_g (lw_at lw_m3 128 rfl) rfl
theorem q678 : (Jvm.Cond.instanceMethod ({ cls := "ClockWard", name := "donor", desc := "(II)I" } : Jvm.MethodName)) ∈ lw_all := lw_g (lw_at lw_m3 135 rfl) rfl
theorem q679 : (Jvm.Cond.selects "ClockWard" ({ cls := "ClockWard", name := "donor", desc := "(II)I" } : Jvm.MethodName) ({ cls := "ClockWard", name := "donor", desc := "(II)I" } : Jvm.MethodName)) ∈ lw_all := lw_g (lw_at lw_m3 136 rfl) rfl
theorem q680 : (Jvm.Cond.code ({ cls := "ClockWard", name := "donor", desc := "(II)I" } : Jvm.MethodName) prog_1_method_33_code (8 : Nat) (Option.some Jvm.ClassFile.FieldType.int)) ∈ lw_all := lw_g (lw_at lw_m3 137 rfl) rfl
theorem q681 : (Jvm.Cond.methodLink "ClockWard" (223 : Nat) ({ cls := "ClockWard$Ward", name := "gets", desc := "(III)I" } : Jvm.MethodName)) ∈ lw_all := lw_g (lw_at lw_m3 138 rfl) rfl
theorem q683 : (Jvm.Cond.instanceMethod ({ cls := "ClockWard", name := "best", desc := "(II)I" } : Jvm.MethodName)) ∈ lw_all := lw_g (lw_at lw_m3 140 rfl) rfl
theorem q684 : (Jvm.Cond.selects "ClockWard" ({ cls := "ClockWard", name := "best", desc := "(II)I" } : Jvm.MethodName) ({ cls := "ClockWard", name := "best", desc := "(II)I" } : Jvm.MethodName)) ∈ lw_all := lw_g (lw_at lw_m3 141 rfl) rfl
theorem q685 : (Jvm.Cond.code ({ cls := "ClockWard", name := "best", desc := "(II)I" } : Jvm.MethodName) prog_1_method_42_code (3 : Nat) (Option.some Jvm.ClassFile.FieldType.int)) ∈ lw_all := lw_g (lw_at lw_m3 142 rfl) rfl
theorem q686 : (Jvm.Cond.methodLink "ClockWard" (256 : Nat) ({ cls := "ClockWard", name := "isRowPart", desc := "(I)Z" } : Jvm.MethodName)) ∈ lw_all := lw_g (lw_at lw_m3 143 rfl) rfl
theorem q687 : (Jvm.Cond.static ({ cls := "ClockWard", name := "isRowPart", desc := "(I)Z" } : Jvm.MethodName)) ∈ lw_all := lw_g (lw_at lw_m3 144 rfl) rfl
theorem q688 : (Jvm.Cond.code ({ cls := "ClockWard", name := "isRowPart", desc := "(I)Z" } : Jvm.MethodName) prog_1_method_14_code (1 : Nat) (Option.some Jvm.ClassFile.FieldType.boolean)) ∈ lw_all := lw_g (lw_at lw_m3 145 rfl) rfl
theorem q689 : (Jvm.Cond.constantLong "ClockWard" (166 : Nat) (10 : Int64)) ∈ lw_all := lw_g (lw_at lw_m3 146 rfl) rfl
theorem q690 : (Jvm.Cond.constantLong "ClockWard" (168 : Nat) (11 : Int64)) ∈ lw_all := lw_g (lw_at lw_m3 147 rfl) rfl
theorem q691 : (Jvm.Cond.methodLink "ClockWard" (259 : Nat) ({ cls := "ClockWard", name := "findBest", desc := "(I)V" } : Jvm.MethodName)) ∈ lw_all := lw_g (lw_at lw_m3 148 rfl) rfl
theorem q692 : (Jvm.Cond.privateMethod ({ cls := "ClockWard", name := "findBest", desc := "(I)V" } : Jvm.MethodName)) ∈ lw_tbl := lw_at lw_m3 149 rfl
theorem q693 : (Jvm.Cond.instanceMethod ({ cls := "ClockWard", name := "findBest", desc := "(I)V" } : Jvm.MethodName)) ∈ lw_all := lw_g (lw_at lw_m3 150 rfl) rfl
theorem q694 : (Jvm.Cond.code ({ cls := "ClockWard", name := "findBest", desc := "(I)V" } : Jvm.MethodName) prog_1_method_40_code (4 : Nat) (Option.none : Option Jvm.ClassFile.FieldType)) ∈ lw_all := lw_g (lw_at lw_m3 151 rfl) rfl
theorem q695 : (Jvm.Cond.methodLink "ClockWard" (245 : Nat) ({ cls := "ClockWard", name := "judges", desc := "(LClockWard$Ward;III)V" } : Jvm.MethodName)) ∈ lw_all := lw_g (lw_at lw_m3 152 rfl) rfl
theorem q696 : (Jvm.Cond.privateMethod ({ cls := "ClockWard", name := "judges", desc := "(LClockWard$Ward;III)V" } : Jvm.MethodName)) ∈ lw_tbl := lw_at lw_m3 153 rfl
theorem q697 : (Jvm.Cond.instanceMethod ({ cls := "ClockWard", name := "judges", desc := "(LClockWard$Ward;III)V" } : Jvm.MethodName)) ∈ lw_all := lw_g (lw_at lw_m3 154 rfl) rfl
theorem q698 : (Jvm.Cond.code ({ cls := "ClockWard", name := "judges", desc := "(LClockWard$Ward;III)V" } : Jvm.MethodName) prog_1_method_39_code (8 : Nat) (Option.none : Option Jvm.ClassFile.FieldType)) ∈ lw_all := lw_g (lw_at lw_m3 155 rfl) rfl
theorem q699 : (Jvm.Cond.methodLink "ClockWard" (249 : Nat) ({ cls := "ClockWard", name := "giftsMany", desc := "()I" } : Jvm.MethodName)) ∈ lw_all := lw_g (lw_at lw_m3 156 rfl) rfl
theorem q700 : (Jvm.Cond.privateMethod ({ cls := "ClockWard", name := "giftsMany", desc := "()I" } : Jvm.MethodName)) ∈ lw_tbl := lw_at lw_m3 157 rfl
theorem q701 : (Jvm.Cond.instanceMethod ({ cls := "ClockWard", name := "giftsMany", desc := "()I" } : Jvm.MethodName)) ∈ lw_all := lw_g (lw_at lw_m3 158 rfl) rfl
theorem q702 : (Jvm.Cond.code ({ cls := "ClockWard", name := "giftsMany", desc := "()I" } : Jvm.MethodName) prog_1_method_34_code (1 : Nat) (Option.some Jvm.ClassFile.FieldType.int)) ∈ lw_all := lw_g (lw_at lw_m3 159 rfl) rfl
theorem q703 : (Jvm.Cond.methodLink "ClockWard" (252 : Nat) ({ cls := "ClockWard", name := "comes", desc := "(LClockWard$Ward;LClockWard$Ward;I)Z" } : Jvm.MethodName)) ∈ lw_all := lw_g (lw_at lw_m3 160 rfl) rfl
theorem q704 : (Jvm.Cond.privateMethod ({ cls := "ClockWard", name := "comes", desc := "(LClockWard$Ward;LClockWard$Ward;I)Z" } : Jvm.MethodName)) ∈ lw_tbl := lw_at lw_m3 161 rfl
theorem q705 : (Jvm.Cond.instanceMethod ({ cls := "ClockWard", name := "comes", desc := "(LClockWard$Ward;LClockWard$Ward;I)Z" } : Jvm.MethodName)) ∈ lw_all := lw_g (lw_at lw_m3 162 rfl) rfl
theorem q706 : (Jvm.Cond.code ({ cls := "ClockWard", name := "comes", desc := "(LClockWard$Ward;LClockWard$Ward;I)Z" } : Jvm.MethodName) prog_1_method_38_code (7 : Nat) (Option.some Jvm.ClassFile.FieldType.boolean)) ∈ lw_all := lw_g (lw_at lw_m3 163 rfl) rfl
theorem q707 : (Jvm.Cond.methodLink "ClockWard" (227 : Nat) ({ cls := "ClockWard", name := "giver", desc := "(I)I" } : Jvm.MethodName)) ∈ lw_all := lw_g (lw_at lw_m3 164 rfl) rfl
theorem q708 : (Jvm.Cond.privateMethod ({ cls := "ClockWard", name := "giver", desc := "(I)I" } : Jvm.MethodName)) ∈ lw_tbl := lw_at lw_m3 165 rfl
theorem q709 : (Jvm.Cond.instanceMethod ({ cls := "ClockWard", name := "giver", desc := "(I)I" } : Jvm.MethodName)) ∈ lw_all := lw_g (lw_at lw_m3 166 rfl) rfl
theorem q710 : (Jvm.Cond.code ({ cls := "ClockWard", name := "giver", desc := "(I)I" } : Jvm.MethodName) prog_1_method_35_code (2 : Nat) (Option.some Jvm.ClassFile.FieldType.int)) ∈ lw_all := lw_g (lw_at lw_m3 167 rfl) rfl
theorem q711 : (Jvm.Cond.methodLink "ClockWard" (230 : Nat) ({ cls := "ClockWard", name := "taker", desc := "(I)I" } : Jvm.MethodName)) ∈ lw_all := lw_g (lw_at lw_m3 168 rfl) rfl
theorem q712 : (Jvm.Cond.privateMethod ({ cls := "ClockWard", name := "taker", desc := "(I)I" } : Jvm.MethodName)) ∈ lw_tbl := lw_at lw_m3 169 rfl
theorem q713 : (Jvm.Cond.instanceMethod ({ cls := "ClockWard", name := "taker", desc := "(I)I" } : Jvm.MethodName)) ∈ lw_all := lw_g (lw_at lw_m3 170 rfl) rfl
theorem q714 : (Jvm.Cond.code ({ cls := "ClockWard", name := "taker", desc := "(I)I" } : Jvm.MethodName) prog_1_method_36_code (2 : Nat) (Option.some Jvm.ClassFile.FieldType.int)) ∈ lw_all := lw_g (lw_at lw_m3 171 rfl) rfl
theorem q715 : (Jvm.Cond.methodLink "ClockWard" (233 : Nat) ({ cls := "ClockWard", name := "minutes", desc := "(I)I" } : Jvm.MethodName)) ∈ lw_all := lw_g (lw_at lw_m3 172 rfl) rfl
theorem q716 : (Jvm.Cond.static ({ cls := "ClockWard", name := "minutes", desc := "(I)I" } : Jvm.MethodName)) ∈ lw_all := lw_g (lw_at lw_m3 173 rfl) rfl
theorem q717 : (Jvm.Cond.code ({ cls := "ClockWard", name := "minutes", desc := "(I)I" } : Jvm.MethodName) prog_1_method_37_code (1 : Nat) (Option.some Jvm.ClassFile.FieldType.int)) ∈ lw_all := lw_g (lw_at lw_m3 174 rfl) rfl
theorem q718 : (Jvm.Cond.methodLink "ClockWard" (263 : Nat) ({ cls := "ClockWard", name := "told", desc := "(I)I" } : Jvm.MethodName)) ∈ lw_all := lw_g (lw_at lw_m3 175 rfl) rfl
theorem q719 : (Jvm.Cond.privateMethod ({ cls := "ClockWard", name := "told", desc := "(I)I" } : Jvm.MethodName)) ∈ lw_tbl := lw_at lw_m3 176 rfl
theorem q720 : (Jvm.Cond.instanceMethod ({ cls := "ClockWard", name := "told", desc := "(I)I" } : Jvm.MethodName)) ∈ lw_all := lw_g (lw_at lw_m3 177 rfl) rfl
theorem q721 : (Jvm.Cond.code ({ cls := "ClockWard", name := "told", desc := "(I)I" } : Jvm.MethodName) prog_1_method_41_code (2 : Nat) (Option.some Jvm.ClassFile.FieldType.int)) ∈ lw_all := lw_g (lw_at lw_m3 178 rfl) rfl
theorem q723 : (Jvm.Cond.instanceMethod ({ cls := "ClockWard", name := "cure", desc := "(II)I" } : Jvm.MethodName)) ∈ lw_all := lw_g (lw_at lw_m3 180 rfl) rfl
theorem q724 : (Jvm.Cond.selects "ClockWard" ({ cls := "ClockWard", name := "cure", desc := "(II)I" } : Jvm.MethodName) ({ cls := "ClockWard", name := "cure", desc := "(II)I" } : Jvm.MethodName)) ∈ lw_all := lw_g (lw_at lw_m3 181 rfl) rfl
theorem q725 : (Jvm.Cond.code ({ cls := "ClockWard", name := "cure", desc := "(II)I" } : Jvm.MethodName) prog_1_method_45_code (4 : Nat) (Option.some Jvm.ClassFile.FieldType.int)) ∈ lw_all := lw_g (lw_at lw_m3 182 rfl) rfl
theorem q726 : (Jvm.Cond.methodLink "ClockWard" (270 : Nat) ({ cls := "ClockWard", name := "findCure", desc := "(I)I" } : Jvm.MethodName)) ∈ lw_all := lw_g (lw_at lw_m3 183 rfl) rfl
theorem q727 : (Jvm.Cond.privateMethod ({ cls := "ClockWard", name := "findCure", desc := "(I)I" } : Jvm.MethodName)) ∈ lw_tbl := lw_at lw_m3 184 rfl
theorem q728 : (Jvm.Cond.instanceMethod ({ cls := "ClockWard", name := "findCure", desc := "(I)I" } : Jvm.MethodName)) ∈ lw_all := lw_g (lw_at lw_m3 185 rfl) rfl
theorem q729 : (Jvm.Cond.code ({ cls := "ClockWard", name := "findCure", desc := "(I)I" } : Jvm.MethodName) prog_1_method_44_code (5 : Nat) (Option.some Jvm.ClassFile.FieldType.int)) ∈ lw_all := lw_g (lw_at lw_m3 186 rfl) rfl
theorem q730 : (Jvm.Cond.methodLink "ClockWard" (266 : Nat) ({ cls := "ClockWard", name := "isRight", desc := "(LClockWard$Ward;I)Z" } : Jvm.MethodName)) ∈ lw_all := lw_g (lw_at lw_m3 187 rfl) rfl
theorem q731 : (Jvm.Cond.privateMethod ({ cls := "ClockWard", name := "isRight", desc := "(LClockWard$Ward;I)Z" } : Jvm.MethodName)) ∈ lw_tbl := lw_at lw_m3 188 rfl
theorem q732 : (Jvm.Cond.instanceMethod ({ cls := "ClockWard", name := "isRight", desc := "(LClockWard$Ward;I)Z" } : Jvm.MethodName)) ∈ lw_all := lw_g (lw_at lw_m3 189 rfl) rfl
theorem q733 : (Jvm.Cond.code ({ cls := "ClockWard", name := "isRight", desc := "(LClockWard$Ward;I)Z" } : Jvm.MethodName) prog_1_method_43_code (3 : Nat) (Option.some Jvm.ClassFile.FieldType.boolean)) ∈ lw_all := lw_g (lw_at lw_m3 190 rfl) rfl
theorem q735 : (Jvm.Cond.instanceMethod ({ cls := "ClockWard", name := "leave", desc := "(I)I" } : Jvm.MethodName)) ∈ lw_all := lw_g (lw_at lw_m3 192 rfl) rfl
theorem q736 : (Jvm.Cond.selects "ClockWard" ({ cls := "ClockWard", name := "leave", desc := "(I)I" } : Jvm.MethodName) ({ cls := "ClockWard", name := "leave", desc := "(I)I" } : Jvm.MethodName)) ∈ lw_all := lw_g (lw_at lw_m3 193 rfl) rfl
theorem q737 : (Jvm.Cond.code ({ cls := "ClockWard", name := "leave", desc := "(I)I" } : Jvm.MethodName) prog_1_method_46_code (6 : Nat) (Option.some Jvm.ClassFile.FieldType.int)) ∈ lw_all := lw_g (lw_at lw_m3 194 rfl) rfl
theorem q738 : (Jvm.Cond.methodLink "ClockWard" (273 : Nat) ({ cls := "ClockWard", name := "runs", desc := "(I)I" } : Jvm.MethodName)) ∈ lw_all := lw_g (lw_at lw_m3 195 rfl) rfl
theorem q740 : (Jvm.Cond.instanceMethod ({ cls := "ClockWard", name := "luck", desc := "(III)J" } : Jvm.MethodName)) ∈ lw_all := lw_g (lw_at lw_m3 197 rfl) rfl
theorem q741 : (Jvm.Cond.selects "ClockWard" ({ cls := "ClockWard", name := "luck", desc := "(III)J" } : Jvm.MethodName) ({ cls := "ClockWard", name := "luck", desc := "(III)J" } : Jvm.MethodName)) ∈ lw_all := lw_g (lw_at lw_m3 198 rfl) rfl
theorem q742 : (Jvm.Cond.code ({ cls := "ClockWard", name := "luck", desc := "(III)J" } : Jvm.MethodName) prog_1_method_49_code (4 : Nat) (Option.some Jvm.ClassFile.FieldType.long)) ∈ lw_all := lw_g (lw_at lw_m3 199 rfl) rfl
theorem q743 : (Jvm.Cond.constantLong "ClockWard" (286 : Nat) (-1 : Int64)) ∈ lw_all := lw_g (lw_at lw_m3 200 rfl) rfl
theorem q744 : (Jvm.Cond.methodLink "ClockWard" (288 : Nat) ({ cls := "ClockWard", name := "findOdds", desc := "(II)V" } : Jvm.MethodName)) ∈ lw_all := lw_g (lw_at lw_m3 201 rfl) rfl
theorem q745 : (Jvm.Cond.privateMethod ({ cls := "ClockWard", name := "findOdds", desc := "(II)V" } : Jvm.MethodName)) ∈ lw_tbl := lw_at lw_m3 202 rfl
theorem q746 : (Jvm.Cond.instanceMethod ({ cls := "ClockWard", name := "findOdds", desc := "(II)V" } : Jvm.MethodName)) ∈ lw_all := lw_g (lw_at lw_m3 203 rfl) rfl
theorem q747 : (Jvm.Cond.code ({ cls := "ClockWard", name := "findOdds", desc := "(II)V" } : Jvm.MethodName) prog_1_method_48_code (8 : Nat) (Option.none : Option Jvm.ClassFile.FieldType)) ∈ lw_all := lw_g (lw_at lw_m3 204 rfl) rfl
theorem q748 : (Jvm.Cond.methodLink "ClockWard" (292 : Nat) ({ cls := "ClockWard", name := "lowest", desc := "(JJI)J" } : Jvm.MethodName)) ∈ lw_all := lw_g (lw_at lw_m3 205 rfl) rfl
theorem q749 : (Jvm.Cond.static ({ cls := "ClockWard", name := "lowest", desc := "(JJI)J" } : Jvm.MethodName)) ∈ lw_all := lw_g (lw_at lw_m3 206 rfl) rfl
theorem q750 : (Jvm.Cond.code ({ cls := "ClockWard", name := "lowest", desc := "(JJI)J" } : Jvm.MethodName) prog_1_method_47_code (11 : Nat) (Option.some Jvm.ClassFile.FieldType.long)) ∈ lw_all := lw_g (lw_at lw_m3 207 rfl) rfl
theorem q752 : (Jvm.Cond.instanceMethod ({ cls := "ClockWard", name := "mean", desc := "(II)J" } : Jvm.MethodName)) ∈ lw_all := lw_g (lw_at lw_m3 209 rfl) rfl
theorem q753 : (Jvm.Cond.selects "ClockWard" ({ cls := "ClockWard", name := "mean", desc := "(II)J" } : Jvm.MethodName) ({ cls := "ClockWard", name := "mean", desc := "(II)J" } : Jvm.MethodName)) ∈ lw_all := lw_g (lw_at lw_m3 210 rfl) rfl
theorem q754 : (Jvm.Cond.code ({ cls := "ClockWard", name := "mean", desc := "(II)J" } : Jvm.MethodName) prog_1_method_50_code (3 : Nat) (Option.some Jvm.ClassFile.FieldType.long)) ∈ lw_all := lw_g (lw_at lw_m3 211 rfl) rfl
theorem q756 : (Jvm.Cond.instanceMethod ({ cls := "ClockWard", name := "see", desc := "(III)I" } : Jvm.MethodName)) ∈ lw_all := lw_g (lw_at lw_m3 213 rfl) rfl
theorem q757 : (Jvm.Cond.selects "ClockWard" ({ cls := "ClockWard", name := "see", desc := "(III)I" } : Jvm.MethodName) ({ cls := "ClockWard", name := "see", desc := "(III)I" } : Jvm.MethodName)) ∈ lw_all := lw_g (lw_at lw_m3 214 rfl) rfl
theorem q758 : (Jvm.Cond.code ({ cls := "ClockWard", name := "see", desc := "(III)I" } : Jvm.MethodName) prog_1_method_51_code (4 : Nat) (Option.some Jvm.ClassFile.FieldType.int)) ∈ lw_all := lw_g (lw_at lw_m3 215 rfl) rfl
theorem q759 : (Jvm.Cond.constantLong "ClockWard" (296 : Nat) (20 : Int64)) ∈ lw_all := lw_g (lw_at lw_m3 216 rfl) rfl
theorem q760 : (Jvm.Cond.constantLong "ClockWard" (298 : Nat) (99 : Int64)) ∈ lw_all := lw_g (lw_at lw_m3 217 rfl) rfl
theorem q762 : (Jvm.Cond.instanceMethod ({ cls := "ClockWard", name := "forget", desc := "(I)I" } : Jvm.MethodName)) ∈ lw_all := lw_g (lw_at lw_m3 219 rfl) rfl
theorem q763 : (Jvm.Cond.selects "ClockWard" ({ cls := "ClockWard", name := "forget", desc := "(I)I" } : Jvm.MethodName) ({ cls := "ClockWard", name := "forget", desc := "(I)I" } : Jvm.MethodName)) ∈ lw_all := lw_g (lw_at lw_m3 220 rfl) rfl
theorem q764 : (Jvm.Cond.code ({ cls := "ClockWard", name := "forget", desc := "(I)I" } : Jvm.MethodName) prog_1_method_52_code (3 : Nat) (Option.some Jvm.ClassFile.FieldType.int)) ∈ lw_all := lw_g (lw_at lw_m3 221 rfl) rfl
theorem q766 : (Jvm.Cond.instanceMethod ({ cls := "ClockWard", name := "kinds", desc := "(I)I" } : Jvm.MethodName)) ∈ lw_all := lw_g (lw_at lw_m3 223 rfl) rfl
theorem q767 : (Jvm.Cond.selects "ClockWard" ({ cls := "ClockWard", name := "kinds", desc := "(I)I" } : Jvm.MethodName) ({ cls := "ClockWard", name := "kinds", desc := "(I)I" } : Jvm.MethodName)) ∈ lw_all := lw_g (lw_at lw_m3 224 rfl) rfl
theorem q768 : (Jvm.Cond.code ({ cls := "ClockWard", name := "kinds", desc := "(I)I" } : Jvm.MethodName) prog_1_method_55_code (2 : Nat) (Option.some Jvm.ClassFile.FieldType.int)) ∈ lw_all := lw_g (lw_at lw_m3 225 rfl) rfl
theorem q769 : (Jvm.Cond.methodLink "ClockWard" (303 : Nat) ({ cls := "ClockWard", name := "which", desc := "(II)I" } : Jvm.MethodName)) ∈ lw_all := lw_g (lw_at lw_m3 226 rfl) rfl
theorem q770 : (Jvm.Cond.privateMethod ({ cls := "ClockWard", name := "which", desc := "(II)I" } : Jvm.MethodName)) ∈ lw_tbl := lw_at lw_m3 227 rfl
theorem q771 : (Jvm.Cond.instanceMethod ({ cls := "ClockWard", name := "which", desc := "(II)I" } : Jvm.MethodName)) ∈ lw_all := lw_g (lw_at lw_m3 228 rfl) rfl
theorem q772 : (Jvm.Cond.code ({ cls := "ClockWard", name := "which", desc := "(II)I" } : Jvm.MethodName) prog_1_method_54_code (5 : Nat) (Option.some Jvm.ClassFile.FieldType.int)) ∈ lw_all := lw_g (lw_at lw_m3 229 rfl) rfl
theorem q773 : (Jvm.Cond.methodLink "ClockWard" (300 : Nat) ({ cls := "ClockWard", name := "isSo", desc := "(III)Z" } : Jvm.MethodName)) ∈ lw_all := lw_g (lw_at lw_m3 230 rfl) rfl
theorem q774 : (Jvm.Cond.privateMethod ({ cls := "ClockWard", name := "isSo", desc := "(III)Z" } : Jvm.MethodName)) ∈ lw_tbl := lw_at lw_m3 231 rfl
theorem q775 : (Jvm.Cond.instanceMethod ({ cls := "ClockWard", name := "isSo", desc := "(III)Z" } : Jvm.MethodName)) ∈ lw_all := lw_g (lw_at lw_m3 232 rfl) rfl
theorem q776 : (Jvm.Cond.code ({ cls := "ClockWard", name := "isSo", desc := "(III)Z" } : Jvm.MethodName) prog_1_method_53_code (6 : Nat) (Option.some Jvm.ClassFile.FieldType.boolean)) ∈ lw_all := lw_g (lw_at lw_m3 233 rfl) rfl
theorem q778 : (Jvm.Cond.instanceMethod ({ cls := "ClockWard", name := "rates", desc := "(I)I" } : Jvm.MethodName)) ∈ lw_all := lw_g (lw_at lw_m3 235 rfl) rfl
theorem q779 : (Jvm.Cond.selects "ClockWard" ({ cls := "ClockWard", name := "rates", desc := "(I)I" } : Jvm.MethodName) ({ cls := "ClockWard", name := "rates", desc := "(I)I" } : Jvm.MethodName)) ∈ lw_all := lw_g (lw_at lw_m3 236 rfl) rfl
theorem q780 : (Jvm.Cond.code ({ cls := "ClockWard", name := "rates", desc := "(I)I" } : Jvm.MethodName) prog_1_method_56_code (2 : Nat) (Option.some Jvm.ClassFile.FieldType.int)) ∈ lw_all := lw_g (lw_at lw_m3 237 rfl) rfl
theorem q782 : (Jvm.Cond.instanceMethod ({ cls := "ClockWard", name := "look", desc := "(II)I" } : Jvm.MethodName)) ∈ lw_all := lw_g (lw_at lw_m3 239 rfl) rfl
theorem q783 : (Jvm.Cond.selects "ClockWard" ({ cls := "ClockWard", name := "look", desc := "(II)I" } : Jvm.MethodName) ({ cls := "ClockWard", name := "look", desc := "(II)I" } : Jvm.MethodName)) ∈ lw_all := lw_g (lw_at lw_m4 0 rfl) rfl
theorem q784 : (Jvm.Cond.code ({ cls := "ClockWard", name := "look", desc := "(II)I" } : Jvm.MethodName) prog_1_method_58_code (7 : Nat) (Option.some Jvm.ClassFile.FieldType.int)) ∈ lw_all := lw_g (lw_at lw_m4 1 rfl) rfl
theorem q785 : (Jvm.Cond.methodLink "ClockWard" (306 : Nat) ({ cls := "ClockWard", name := "rates", desc := "(I)I" } : Jvm.MethodName)) ∈ lw_all := lw_g (lw_at lw_m4 2 rfl) rfl
theorem q786 : (Jvm.Cond.methodLink "ClockWard" (309 : Nat) ({ cls := "ClockWard", name := "worstOf", desc := "(II)I" } : Jvm.MethodName)) ∈ lw_all := lw_g (lw_at lw_m4 3 rfl) rfl
theorem q787 : (Jvm.Cond.privateMethod ({ cls := "ClockWard", name := "worstOf", desc := "(II)I" } : Jvm.MethodName)) ∈ lw_tbl := lw_at lw_m4 4 rfl
theorem q788 : (Jvm.Cond.instanceMethod ({ cls := "ClockWard", name := "worstOf", desc := "(II)I" } : Jvm.MethodName)) ∈ lw_all := lw_g (lw_at lw_m4 5 rfl) rfl
theorem q789 : (Jvm.Cond.code ({ cls := "ClockWard", name := "worstOf", desc := "(II)I" } : Jvm.MethodName) prog_1_method_57_code (6 : Nat) (Option.some Jvm.ClassFile.FieldType.int)) ∈ lw_all := lw_g (lw_at lw_m4 6 rfl) rfl
theorem q791 : (Jvm.Cond.instanceMethod ({ cls := "ClockWard", name := "drift", desc := "(III)I" } : Jvm.MethodName)) ∈ lw_all := lw_g (lw_at lw_m4 8 rfl) rfl
theorem q792 : (Jvm.Cond.selects "ClockWard" ({ cls := "ClockWard", name := "drift", desc := "(III)I" } : Jvm.MethodName) ({ cls := "ClockWard", name := "drift", desc := "(III)I" } : Jvm.MethodName)) ∈ lw_all := lw_g (lw_at lw_m4 9 rfl) rfl
theorem q793 : (Jvm.Cond.code ({ cls := "ClockWard", name := "drift", desc := "(III)I" } : Jvm.MethodName) prog_1_method_59_code (11 : Nat) (Option.some Jvm.ClassFile.FieldType.int)) ∈ lw_all := lw_g (lw_at lw_m4 10 rfl) rfl
theorem q794 : (Jvm.Cond.constant "ClockWard" (312 : Nat) (1103515245 : Int32)) ∈ lw_all := lw_g (lw_at lw_m4 11 rfl) rfl
theorem q796 : (Jvm.Cond.instanceMethod ({ cls := "ClockWard", name := "keep", desc := "(I)I" } : Jvm.MethodName)) ∈ lw_all := lw_g (lw_at lw_m4 13 rfl) rfl
theorem q797 : (Jvm.Cond.selects "ClockWard" ({ cls := "ClockWard", name := "keep", desc := "(I)I" } : Jvm.MethodName) ({ cls := "ClockWard", name := "keep", desc := "(I)I" } : Jvm.MethodName)) ∈ lw_all := lw_g (lw_at lw_m4 14 rfl) rfl
theorem q798 : (Jvm.Cond.code ({ cls := "ClockWard", name := "keep", desc := "(I)I" } : Jvm.MethodName) prog_1_method_60_code (3 : Nat) (Option.some Jvm.ClassFile.FieldType.int)) ∈ lw_all := lw_g (lw_at lw_m4 15 rfl) rfl
theorem q800 : (Jvm.Cond.instanceMethod ({ cls := "ClockWard", name := "back", desc := "(I)I" } : Jvm.MethodName)) ∈ lw_all := lw_g (lw_at lw_m4 17 rfl) rfl
theorem q801 : (Jvm.Cond.selects "ClockWard" ({ cls := "ClockWard", name := "back", desc := "(I)I" } : Jvm.MethodName) ({ cls := "ClockWard", name := "back", desc := "(I)I" } : Jvm.MethodName)) ∈ lw_all := lw_g (lw_at lw_m4 18 rfl) rfl
theorem q802 : (Jvm.Cond.code ({ cls := "ClockWard", name := "back", desc := "(I)I" } : Jvm.MethodName) prog_1_method_61_code (2 : Nat) (Option.some Jvm.ClassFile.FieldType.int)) ∈ lw_all := lw_g (lw_at lw_m4 19 rfl) rfl
theorem q804 : (Jvm.Cond.instanceMethod ({ cls := "ClockWard", name := "sheet", desc := "(III)I" } : Jvm.MethodName)) ∈ lw_all := lw_g (lw_at lw_m4 21 rfl) rfl
theorem q805 : (Jvm.Cond.selects "ClockWard" ({ cls := "ClockWard", name := "sheet", desc := "(III)I" } : Jvm.MethodName) ({ cls := "ClockWard", name := "sheet", desc := "(III)I" } : Jvm.MethodName)) ∈ lw_all := lw_g (lw_at lw_m4 22 rfl) rfl
theorem q806 : (Jvm.Cond.codeWith ({ cls := "ClockWard", name := "sheet", desc := "(III)I" } : Jvm.MethodName) prog_1_method_63_code (5 : Nat) (Option.some Jvm.ClassFile.FieldType.int) [((16 : Nat), (50 : Nat), (51 : Nat), (320 : Nat))]) ∈ lw_all := lw_g (lw_at lw_m4 23 rfl) rfl
theorem q807 : (Jvm.Cond.classLink "ClockWard" (320 : Nat) "java/lang/NegativeArraySizeException") ∈ lw_all := lw_g (lw_at lw_m4 24 rfl) rfl
theorem q836 : (Jvm.Cond.methodLink "ClockWard" (313 : Nat) ({ cls := "ClockWard", name := "isSheet", desc := "(II)Z" } : Jvm.MethodName)) ∈ lw_all := lw_g (lw_at lw_m4 53 rfl) rfl
theorem q837 : (Jvm.Cond.static ({ cls := "ClockWard", name := "isSheet", desc := "(II)Z" } : Jvm.MethodName)) ∈ lw_all := lw_g (lw_at lw_m4 54 rfl) rfl
theorem q838 : (Jvm.Cond.code ({ cls := "ClockWard", name := "isSheet", desc := "(II)Z" } : Jvm.MethodName) prog_1_method_62_code (2 : Nat) (Option.some Jvm.ClassFile.FieldType.boolean)) ∈ lw_all := lw_g (lw_at lw_m4 55 rfl) rfl
theorem q841 : (Jvm.Cond.instanceMethod ({ cls := "ClockWard", name := "lay", desc := "(III)I" } : Jvm.MethodName)) ∈ lw_all := lw_g (lw_at lw_m4 58 rfl) rfl
theorem q842 : (Jvm.Cond.selects "ClockWard" ({ cls := "ClockWard", name := "lay", desc := "(III)I" } : Jvm.MethodName) ({ cls := "ClockWard", name := "lay", desc := "(III)I" } : Jvm.MethodName)) ∈ lw_all := lw_g (lw_at lw_m4 59 rfl) rfl
theorem q843 : (Jvm.Cond.codeWith ({ cls := "ClockWard", name := "lay", desc := "(III)I" } : Jvm.MethodName) prog_1_method_64_code (6 : Nat) (Option.some Jvm.ClassFile.FieldType.int) [((25 : Nat), (74 : Nat), (75 : Nat), (326 : Nat)), ((25 : Nat), (74 : Nat), (80 : Nat), (328 : Nat))]) ∈ lw_all := lw_g (lw_at lw_m4 60 rfl) rfl
theorem q844 : (Jvm.Cond.classLink "ClockWard" (326 : Nat) "java/lang/NullPointerException") ∈ lw_all := lw_g (lw_at lw_m4 61 rfl) rfl
theorem q869 : (Jvm.Cond.classLink "ClockWard" (328 : Nat) "java/lang/IndexOutOfBoundsException") ∈ lw_all := lw_g (lw_at lw_m4 86 rfl) rfl
theorem q888 : (Jvm.Cond.classLink "ClockWard" (322 : Nat) "[B") ∈ lw_all := lw_g (lw_at lw_m4 105 rfl) rfl
theorem q889 : (Jvm.Cond.classLink "ClockWard" (323 : Nat) "[S") ∈ lw_all := lw_g (lw_at lw_m4 106 rfl) rfl
theorem q890 : (Jvm.Cond.classLink "ClockWard" (325 : Nat) "[I") ∈ lw_all := lw_g (lw_at lw_m4 107 rfl) rfl
theorem q892 : (Jvm.Cond.instanceMethod ({ cls := "ClockWard", name := "read", desc := "(IIII)I" } : Jvm.MethodName)) ∈ lw_all := lw_g (lw_at lw_m4 109 rfl) rfl
theorem q893 : (Jvm.Cond.selects "ClockWard" ({ cls := "ClockWard", name := "read", desc := "(IIII)I" } : Jvm.MethodName) ({ cls := "ClockWard", name := "read", desc := "(IIII)I" } : Jvm.MethodName)) ∈ lw_all := lw_g (lw_at lw_m4 110 rfl) rfl
theorem q894 : (Jvm.Cond.codeWith ({ cls := "ClockWard", name := "read", desc := "(IIII)I" } : Jvm.MethodName) prog_1_method_66_code (9 : Nat) (Option.some Jvm.ClassFile.FieldType.int) [((40 : Nat), (118 : Nat), (128 : Nat), (326 : Nat)), ((119 : Nat), (125 : Nat), (128 : Nat), (326 : Nat)), ((40 : Nat), (118 : Nat), (136 : Nat), (338 : Nat)), ((119 : Nat), (125 : Nat), (136 : Nat), (338 : Nat)), ((40 : Nat), (118 : Nat), (144 : Nat), (328 : Nat)), ((119 : Nat), (125 : Nat), (144 : Nat), (328 : Nat))]) ∈ lw_all := lw_g (lw_at lw_m4 111 rfl) rfl
theorem q895 : (Jvm.Cond.classLink "ClockWard" (338 : Nat) "java/lang/ClassCastException") ∈ lw_all := lw_g (lw_at lw_m4 112 rfl) rfl
theorem q909 : (Jvm.Cond.constantLong "ClockWard" (330 : Nat) (13 : Int64)) ∈ lw_all := lw_g (lw_at lw_m4 126 rfl) rfl
theorem q910 : (Jvm.Cond.methodLink "ClockWard" (332 : Nat) ({ cls := "ClockWard", name := "takenOf", desc := "(III)I" } : Jvm.MethodName)) ∈ lw_all := lw_g (lw_at lw_m4 127 rfl) rfl
theorem q911 : (Jvm.Cond.privateMethod ({ cls := "ClockWard", name := "takenOf", desc := "(III)I" } : Jvm.MethodName)) ∈ lw_tbl := lw_at lw_m4 128 rfl
theorem q912 : (Jvm.Cond.instanceMethod ({ cls := "ClockWard", name := "takenOf", desc := "(III)I" } : Jvm.MethodName)) ∈ lw_all := lw_g (lw_at lw_m4 129 rfl) rfl
theorem q913 : (Jvm.Cond.code ({ cls := "ClockWard", name := "takenOf", desc := "(III)I" } : Jvm.MethodName) prog_1_method_65_code (5 : Nat) (Option.some Jvm.ClassFile.FieldType.int)) ∈ lw_all := lw_g (lw_at lw_m4 130 rfl) rfl
theorem q914 : (Jvm.Cond.methodLink "ClockWard" (335 : Nat) ({ cls := "ClockWard", name := "give", desc := "(III)I" } : Jvm.MethodName)) ∈ lw_all := lw_g (lw_at lw_m4 131 rfl) rfl
theorem q916 : (Jvm.Cond.instanceMethod ({ cls := "ClockWard", name := "torn", desc := "()I" } : Jvm.MethodName)) ∈ lw_all := lw_g (lw_at lw_m4 133 rfl) rfl
theorem q917 : (Jvm.Cond.selects "ClockWard" ({ cls := "ClockWard", name := "torn", desc := "()I" } : Jvm.MethodName) ({ cls := "ClockWard", name := "torn", desc := "()I" } : Jvm.MethodName)) ∈ lw_all := lw_g (lw_at lw_m4 134 rfl) rfl
theorem q918 : (Jvm.Cond.code ({ cls := "ClockWard", name := "torn", desc := "()I" } : Jvm.MethodName) prog_1_method_67_code (1 : Nat) (Option.some Jvm.ClassFile.FieldType.int)) ∈ lw_all := lw_g (lw_at lw_m4 135 rfl) rfl
theorem q920 : (Jvm.Cond.instanceMethod ({ cls := "ClockWard", name := "count", desc := "(I)I" } : Jvm.MethodName)) ∈ lw_all := lw_g (lw_at lw_m4 137 rfl) rfl
theorem q921 : (Jvm.Cond.selects "ClockWard" ({ cls := "ClockWard", name := "count", desc := "(I)I" } : Jvm.MethodName) ({ cls := "ClockWard", name := "count", desc := "(I)I" } : Jvm.MethodName)) ∈ lw_all := lw_g (lw_at lw_m4 138 rfl) rfl
theorem q922 : (Jvm.Cond.code ({ cls := "ClockWard", name := "count", desc := "(I)I" } : Jvm.MethodName) prog_1_method_68_code (7 : Nat) (Option.some Jvm.ClassFile.FieldType.int)) ∈ lw_all := lw_g (lw_at lw_m4 139 rfl) rfl
theorem in_X0 : ∀ w ∈ wsX00, w ∈ lw_all := lw_in wsX00 [207, 209, 211, 213, 215, 217, 219, 221, 223, 225, 227, 229, 231, 233, 235, 237, 239, 241, 243, 245, 247, 249, 251, 253] (by decide +kernel) (by decide +kernel)
