/-! ClockWardModel -/
set_option maxRecDepth 100000
def RX7 : String := "ClockWardModel"
def TX7 : u_T := fun k => match k with
  | 0 => ("ClockWardModel", "state", "[I", true)
  | 1 => ("ClockWardModel", "clockMany", "I", false)
  | 2 => ("ClockWardModel", "readPage", "[I", true)
  | 3 => ("ClockWardModel", "readClocks", "I", false)
  | 4 => ("ClockWardModel", "isFloorTold", "Z", false)
  | 5 => ("ClockWardModel", "high", "I", false)
  | 6 => ("ClockWardModel", "tape", "[I", true)
  | 7 => ("ClockWardModel", "taped", "I", false)
  | 8 => ("ClockWardModel", "fault", "I", false)
  | 9 => ("ClockWardModel", "broken", "I", false)
  | 10 => ("ClockWardModel", "brokenAt", "I", false)
  | 11 => ("ClockWardModel", "spot", "I", false)
  | 12 => ("ClockWardModel", "here", "I", false)
  | 13 => ("ClockWardModel", "token", "I", false)
  | 14 => ("ClockWardModel", "value", "I", false)
  | 15 => ("ClockWardModel", "cuts", "[I", true)
  | 16 => ("ClockWardModel", "letters", "[I", true)
  | 17 => ("ClockWardModel", "cameMany", "I", false)
  | 18 => ("ClockWardModel", "firstNot", "I", false)
  | 19 => ("ClockWardModel", "bestRight", "I", false)
  | 20 => ("ClockWardModel", "bestLost", "I", false)
  | 21 => ("ClockWardModel", "bestFirst", "I", false)
  | 22 => ("ClockWardModel", "bestSecond", "I", false)
  | 23 => ("ClockWardModel", "bestMany", "I", false)
  | 24 => ("ClockWardModel", "seen", "[I", true)
  | 25 => ("ClockWardModel", "seenMany", "I", false)
  | 26 => ("ClockWardModel", "timeBy", "[I", true)
  | 27 => ("ClockWardModel", "isKept", "[Z", true)
  | 28 => ("ClockWardModel", "lanes", "[I", true)
  | 29 => ("ClockWardModel", "lengths", "[I", true)
  | 30 => ("ClockWardModel", "cells", "[I", true)
  | _ => ("ClockWardModel", "torn", "I", false)
def tyX7 : Nat → FieldType := fun k => match k with
  | 0 => .array .int
  | 1 => .int
  | 2 => .array .int
  | 3 => .int
  | 4 => .boolean
  | 5 => .int
  | 6 => .array .int
  | 7 => .int
  | 8 => .int
  | 9 => .int
  | 10 => .int
  | 11 => .int
  | 12 => .int
  | 13 => .int
  | 14 => .int
  | 15 => .array .int
  | 16 => .array .int
  | 17 => .int
  | 18 => .int
  | 19 => .int
  | 20 => .int
  | 21 => .int
  | 22 => .int
  | 23 => .int
  | 24 => .array .int
  | 25 => .int
  | 26 => .array .int
  | 27 => .array .boolean
  | 28 => .array .int
  | 29 => .array .int
  | 30 => .array .int
  | _ => .int
abbrev wsX70 : List Cond := u_ws RX7 TX7 32
set_option maxRecDepth 100000 in
theorem nmX7 : ∀ a, a < 32 → ∀ b, b < 32 → a ≠ b → (TX7 a).2.1 ≠ (TX7 b).2.1 := by decide +kernel
set_option maxRecDepth 100000 in
theorem tyX7_ok : ∀ k, k < 32 → parseFieldDescriptor (TX7 k).2.2.1 = some (tyX7 k) := by decide +kernel
abbrev cX7_init : ByteArray := prog_11_method_1_code
def yX7_init : MethodName := ⟨RX7, "<init>", "()V"⟩
def dkwX7_init_13 : List UInt8 := [17, 0, 160, 188, 10, 181, 0, 41, 177]
abbrev dktX7_init_13 : List UInt8 := dkwX7_init_13 ++ []
def dkwX7_init_12 : List UInt8 := [16, 252, 79, 89, 5, 16, 252, 79, 89, 6, 16, 252, 79, 181, 0, 35, 42, 7, 188, 10, 181, 0, 38, 42]
abbrev dktX7_init_12 : List UInt8 := dkwX7_init_12 ++ dktX7_init_13
def dkwX7_init_11 : List UInt8 := [188, 10, 181, 0, 28, 42, 5, 188, 4, 181, 0, 31, 42, 7, 188, 10, 89, 3, 16, 252, 79, 89, 4]
abbrev dktX7_init_11 : List UInt8 := dkwX7_init_11 ++ dktX7_init_12
def dkwX7_init_10 : List UInt8 := [16, 102, 79, 89, 16, 28, 16, 116, 79, 181, 0, 22, 42, 16, 18, 188, 10, 181, 0, 25, 42, 17, 0, 147]
abbrev dktX7_init_10 : List UInt8 := dkwX7_init_10 ++ dktX7_init_11
def dkwX7_init_9 : List UInt8 := [16, 111, 79, 89, 16, 24, 16, 114, 79, 89, 16, 25, 16, 103, 79, 89, 16, 26, 16, 105, 79, 89, 16, 27]
abbrev dktX7_init_9 : List UInt8 := dkwX7_init_9 ++ dktX7_init_10
def dkwX7_init_8 : List UInt8 := [16, 107, 79, 89, 16, 20, 16, 102, 79, 89, 16, 21, 16, 108, 79, 89, 16, 22, 16, 111, 79, 89, 16, 23]
abbrev dktX7_init_8 : List UInt8 := dkwX7_init_8 ++ dktX7_init_9
def dkwX7_init_7 : List UInt8 := [16, 114, 79, 89, 16, 16, 16, 98, 79, 89, 16, 17, 16, 97, 79, 89, 16, 18, 16, 99, 79, 89, 16, 19]
abbrev dktX7_init_7 : List UInt8 := dkwX7_init_7 ++ dktX7_init_8
def dkwX7_init_6 : List UInt8 := [16, 116, 79, 89, 16, 12, 16, 111, 79, 89, 16, 13, 16, 119, 79, 89, 16, 14, 16, 101, 79, 89, 16, 15]
abbrev dktX7_init_6 : List UInt8 := dkwX7_init_6 ++ dktX7_init_7
def dkwX7_init_5 : List UInt8 := [16, 99, 79, 89, 16, 8, 16, 107, 79, 89, 16, 9, 16, 111, 79, 89, 16, 10, 16, 111, 79, 89, 16, 11]
abbrev dktX7_init_5 : List UInt8 := dkwX7_init_5 ++ dktX7_init_6
def dkwX7_init_4 : List UInt8 := [6, 16, 105, 79, 89, 7, 16, 110, 79, 89, 8, 16, 99, 79, 89, 16, 6, 16, 117, 79, 89, 16, 7]
abbrev dktX7_init_4 : List UInt8 := dkwX7_init_4 ++ dktX7_init_5
def dkwX7_init_3 : List UInt8 := [181, 0, 19, 42, 16, 29, 188, 10, 89, 3, 16, 112, 79, 89, 4, 16, 108, 79, 89, 5, 16, 97, 79, 89]
abbrev dktX7_init_3 : List UInt8 := dkwX7_init_3 ++ dktX7_init_4
def dkwX7_init_2 : List UInt8 := [16, 11, 79, 89, 6, 16, 16, 79, 89, 7, 16, 20, 79, 89, 8, 16, 25, 79, 89, 16, 6, 16, 29, 79]
abbrev dktX7_init_2 : List UInt8 := dkwX7_init_2 ++ dktX7_init_3
def dkwX7_init_1 : List UInt8 := [17, 0, 160, 188, 10, 181, 0, 16, 42, 16, 7, 188, 10, 89, 3, 3, 79, 89, 4, 8, 79, 89, 5]
abbrev dktX7_init_1 : List UInt8 := dkwX7_init_1 ++ dktX7_init_2
def dkwX7_init_0 : List UInt8 := [42, 183, 0, 1, 42, 17, 1, 146, 188, 10, 181, 0, 7, 42, 16, 67, 188, 10, 181, 0, 13, 42]
abbrev dktX7_init_0 : List UInt8 := dkwX7_init_0 ++ dktX7_init_1
theorem dksX7_init_0 : cX7_init.data.toList.drop 0 = dktX7_init_0 := by decide +kernel
theorem dksX7_init_1 : cX7_init.data.toList.drop 22 = dktX7_init_1 := dk_seg dksX7_init_0 22 rfl rfl
theorem dksX7_init_2 : cX7_init.data.toList.drop 45 = dktX7_init_2 := dk_seg dksX7_init_1 23 rfl rfl
theorem dksX7_init_3 : cX7_init.data.toList.drop 69 = dktX7_init_3 := dk_seg dksX7_init_2 24 rfl rfl
theorem dksX7_init_4 : cX7_init.data.toList.drop 93 = dktX7_init_4 := dk_seg dksX7_init_3 24 rfl rfl
theorem dksX7_init_5 : cX7_init.data.toList.drop 116 = dktX7_init_5 := dk_seg dksX7_init_4 23 rfl rfl
theorem dksX7_init_6 : cX7_init.data.toList.drop 140 = dktX7_init_6 := dk_seg dksX7_init_5 24 rfl rfl
theorem dksX7_init_7 : cX7_init.data.toList.drop 164 = dktX7_init_7 := dk_seg dksX7_init_6 24 rfl rfl
theorem dksX7_init_8 : cX7_init.data.toList.drop 188 = dktX7_init_8 := dk_seg dksX7_init_7 24 rfl rfl
theorem dksX7_init_9 : cX7_init.data.toList.drop 212 = dktX7_init_9 := dk_seg dksX7_init_8 24 rfl rfl
theorem dksX7_init_10 : cX7_init.data.toList.drop 236 = dktX7_init_10 := dk_seg dksX7_init_9 24 rfl rfl
theorem dksX7_init_11 : cX7_init.data.toList.drop 260 = dktX7_init_11 := dk_seg dksX7_init_10 24 rfl rfl
theorem dksX7_init_12 : cX7_init.data.toList.drop 283 = dktX7_init_12 := dk_seg dksX7_init_11 23 rfl rfl
theorem dksX7_init_13 : cX7_init.data.toList.drop 307 = dktX7_init_13 := dk_seg dksX7_init_12 24 rfl rfl
theorem dX7_init_0 : decode cX7_init 0 = .ok (.aload_n 0, 1) := dk_42 (dk_at dksX7_init_0 0 rfl rfl)
theorem dX7_init_1 : decode cX7_init 1 = .ok (.invokespecial 1, 3) := dk_183 0 1 (dk_at dksX7_init_0 1 rfl rfl)
theorem dX7_init_4 : decode cX7_init 4 = .ok (.aload_n 0, 1) := dk_42 (dk_at dksX7_init_0 4 rfl rfl)
theorem dX7_init_5 : decode cX7_init 5 = .ok (.sipush 402, 3) := dk_17 1 146 (dk_at dksX7_init_0 5 rfl rfl)
theorem dX7_init_8 : decode cX7_init 8 = .ok (.newarray .int, 2) := dk_188_10 (dk_at dksX7_init_0 8 rfl rfl)
theorem dX7_init_10 : decode cX7_init 10 = .ok (.putfield 7, 3) := dk_181 0 7 (dk_at dksX7_init_0 10 rfl rfl)
theorem dX7_init_13 : decode cX7_init 13 = .ok (.aload_n 0, 1) := dk_42 (dk_at dksX7_init_0 13 rfl rfl)
theorem dX7_init_14 : decode cX7_init 14 = .ok (.bipush 67, 2) := dk_16 67 (dk_at dksX7_init_0 14 rfl rfl)
theorem dX7_init_16 : decode cX7_init 16 = .ok (.newarray .int, 2) := dk_188_10 (dk_at dksX7_init_0 16 rfl rfl)
theorem dX7_init_18 : decode cX7_init 18 = .ok (.putfield 13, 3) := dk_181 0 13 (dk_at dksX7_init_0 18 rfl rfl)
theorem dX7_init_21 : decode cX7_init 21 = .ok (.aload_n 0, 1) := dk_42 (dk_at dksX7_init_0 21 rfl rfl)
theorem dX7_init_22 : decode cX7_init 22 = .ok (.sipush 160, 3) := dk_17 0 160 (dk_at dksX7_init_1 0 rfl rfl)
theorem dX7_init_25 : decode cX7_init 25 = .ok (.newarray .int, 2) := dk_188_10 (dk_at dksX7_init_1 3 rfl rfl)
theorem dX7_init_27 : decode cX7_init 27 = .ok (.putfield 16, 3) := dk_181 0 16 (dk_at dksX7_init_1 5 rfl rfl)
theorem dX7_init_30 : decode cX7_init 30 = .ok (.aload_n 0, 1) := dk_42 (dk_at dksX7_init_1 8 rfl rfl)
theorem dX7_init_31 : decode cX7_init 31 = .ok (.bipush 7, 2) := dk_16 7 (dk_at dksX7_init_1 9 rfl rfl)
theorem dX7_init_33 : decode cX7_init 33 = .ok (.newarray .int, 2) := dk_188_10 (dk_at dksX7_init_1 11 rfl rfl)
theorem dX7_init_35 : decode cX7_init 35 = .ok (.dup, 1) := dk_89 (dk_at dksX7_init_1 13 rfl rfl)
theorem dX7_init_36 : decode cX7_init 36 = .ok (.iconst 0, 1) := dk_3 (dk_at dksX7_init_1 14 rfl rfl)
theorem dX7_init_37 : decode cX7_init 37 = .ok (.iconst 0, 1) := dk_3 (dk_at dksX7_init_1 15 rfl rfl)
theorem dX7_init_38 : decode cX7_init 38 = .ok (.iastore, 1) := dk_79 (dk_at dksX7_init_1 16 rfl rfl)
theorem dX7_init_39 : decode cX7_init 39 = .ok (.dup, 1) := dk_89 (dk_at dksX7_init_1 17 rfl rfl)
theorem dX7_init_40 : decode cX7_init 40 = .ok (.iconst 1, 1) := dk_4 (dk_at dksX7_init_1 18 rfl rfl)
theorem dX7_init_41 : decode cX7_init 41 = .ok (.iconst 5, 1) := dk_8 (dk_at dksX7_init_1 19 rfl rfl)
theorem dX7_init_42 : decode cX7_init 42 = .ok (.iastore, 1) := dk_79 (dk_at dksX7_init_1 20 rfl rfl)
theorem dX7_init_43 : decode cX7_init 43 = .ok (.dup, 1) := dk_89 (dk_at dksX7_init_1 21 rfl rfl)
theorem dX7_init_44 : decode cX7_init 44 = .ok (.iconst 2, 1) := dk_5 (dk_at dksX7_init_1 22 rfl rfl)
theorem dX7_init_45 : decode cX7_init 45 = .ok (.bipush 11, 2) := dk_16 11 (dk_at dksX7_init_2 0 rfl rfl)
theorem dX7_init_47 : decode cX7_init 47 = .ok (.iastore, 1) := dk_79 (dk_at dksX7_init_2 2 rfl rfl)
theorem dX7_init_48 : decode cX7_init 48 = .ok (.dup, 1) := dk_89 (dk_at dksX7_init_2 3 rfl rfl)
theorem dX7_init_49 : decode cX7_init 49 = .ok (.iconst 3, 1) := dk_6 (dk_at dksX7_init_2 4 rfl rfl)
theorem dX7_init_50 : decode cX7_init 50 = .ok (.bipush 16, 2) := dk_16 16 (dk_at dksX7_init_2 5 rfl rfl)
theorem dX7_init_52 : decode cX7_init 52 = .ok (.iastore, 1) := dk_79 (dk_at dksX7_init_2 7 rfl rfl)
theorem dX7_init_53 : decode cX7_init 53 = .ok (.dup, 1) := dk_89 (dk_at dksX7_init_2 8 rfl rfl)
theorem dX7_init_54 : decode cX7_init 54 = .ok (.iconst 4, 1) := dk_7 (dk_at dksX7_init_2 9 rfl rfl)
theorem dX7_init_55 : decode cX7_init 55 = .ok (.bipush 20, 2) := dk_16 20 (dk_at dksX7_init_2 10 rfl rfl)
theorem dX7_init_57 : decode cX7_init 57 = .ok (.iastore, 1) := dk_79 (dk_at dksX7_init_2 12 rfl rfl)
theorem dX7_init_58 : decode cX7_init 58 = .ok (.dup, 1) := dk_89 (dk_at dksX7_init_2 13 rfl rfl)
theorem dX7_init_59 : decode cX7_init 59 = .ok (.iconst 5, 1) := dk_8 (dk_at dksX7_init_2 14 rfl rfl)
theorem dX7_init_60 : decode cX7_init 60 = .ok (.bipush 25, 2) := dk_16 25 (dk_at dksX7_init_2 15 rfl rfl)
theorem dX7_init_62 : decode cX7_init 62 = .ok (.iastore, 1) := dk_79 (dk_at dksX7_init_2 17 rfl rfl)
theorem dX7_init_63 : decode cX7_init 63 = .ok (.dup, 1) := dk_89 (dk_at dksX7_init_2 18 rfl rfl)
theorem dX7_init_64 : decode cX7_init 64 = .ok (.bipush 6, 2) := dk_16 6 (dk_at dksX7_init_2 19 rfl rfl)
theorem dX7_init_66 : decode cX7_init 66 = .ok (.bipush 29, 2) := dk_16 29 (dk_at dksX7_init_2 21 rfl rfl)
theorem dX7_init_68 : decode cX7_init 68 = .ok (.iastore, 1) := dk_79 (dk_at dksX7_init_2 23 rfl rfl)
theorem dX7_init_69 : decode cX7_init 69 = .ok (.putfield 19, 3) := dk_181 0 19 (dk_at dksX7_init_3 0 rfl rfl)
theorem dX7_init_72 : decode cX7_init 72 = .ok (.aload_n 0, 1) := dk_42 (dk_at dksX7_init_3 3 rfl rfl)
theorem dX7_init_73 : decode cX7_init 73 = .ok (.bipush 29, 2) := dk_16 29 (dk_at dksX7_init_3 4 rfl rfl)
theorem dX7_init_75 : decode cX7_init 75 = .ok (.newarray .int, 2) := dk_188_10 (dk_at dksX7_init_3 6 rfl rfl)
theorem dX7_init_77 : decode cX7_init 77 = .ok (.dup, 1) := dk_89 (dk_at dksX7_init_3 8 rfl rfl)
theorem dX7_init_78 : decode cX7_init 78 = .ok (.iconst 0, 1) := dk_3 (dk_at dksX7_init_3 9 rfl rfl)
theorem dX7_init_79 : decode cX7_init 79 = .ok (.bipush 112, 2) := dk_16 112 (dk_at dksX7_init_3 10 rfl rfl)
theorem dX7_init_81 : decode cX7_init 81 = .ok (.iastore, 1) := dk_79 (dk_at dksX7_init_3 12 rfl rfl)
theorem dX7_init_82 : decode cX7_init 82 = .ok (.dup, 1) := dk_89 (dk_at dksX7_init_3 13 rfl rfl)
theorem dX7_init_83 : decode cX7_init 83 = .ok (.iconst 1, 1) := dk_4 (dk_at dksX7_init_3 14 rfl rfl)
theorem dX7_init_84 : decode cX7_init 84 = .ok (.bipush 108, 2) := dk_16 108 (dk_at dksX7_init_3 15 rfl rfl)
theorem dX7_init_86 : decode cX7_init 86 = .ok (.iastore, 1) := dk_79 (dk_at dksX7_init_3 17 rfl rfl)
theorem dX7_init_87 : decode cX7_init 87 = .ok (.dup, 1) := dk_89 (dk_at dksX7_init_3 18 rfl rfl)
theorem dX7_init_88 : decode cX7_init 88 = .ok (.iconst 2, 1) := dk_5 (dk_at dksX7_init_3 19 rfl rfl)
theorem dX7_init_89 : decode cX7_init 89 = .ok (.bipush 97, 2) := dk_16 97 (dk_at dksX7_init_3 20 rfl rfl)
theorem dX7_init_91 : decode cX7_init 91 = .ok (.iastore, 1) := dk_79 (dk_at dksX7_init_3 22 rfl rfl)
theorem dX7_init_92 : decode cX7_init 92 = .ok (.dup, 1) := dk_89 (dk_at dksX7_init_3 23 rfl rfl)
theorem dX7_init_93 : decode cX7_init 93 = .ok (.iconst 3, 1) := dk_6 (dk_at dksX7_init_4 0 rfl rfl)
theorem dX7_init_94 : decode cX7_init 94 = .ok (.bipush 105, 2) := dk_16 105 (dk_at dksX7_init_4 1 rfl rfl)
theorem dX7_init_96 : decode cX7_init 96 = .ok (.iastore, 1) := dk_79 (dk_at dksX7_init_4 3 rfl rfl)
theorem dX7_init_97 : decode cX7_init 97 = .ok (.dup, 1) := dk_89 (dk_at dksX7_init_4 4 rfl rfl)
theorem dX7_init_98 : decode cX7_init 98 = .ok (.iconst 4, 1) := dk_7 (dk_at dksX7_init_4 5 rfl rfl)
theorem dX7_init_99 : decode cX7_init 99 = .ok (.bipush 110, 2) := dk_16 110 (dk_at dksX7_init_4 6 rfl rfl)
theorem dX7_init_101 : decode cX7_init 101 = .ok (.iastore, 1) := dk_79 (dk_at dksX7_init_4 8 rfl rfl)
theorem dX7_init_102 : decode cX7_init 102 = .ok (.dup, 1) := dk_89 (dk_at dksX7_init_4 9 rfl rfl)
theorem dX7_init_103 : decode cX7_init 103 = .ok (.iconst 5, 1) := dk_8 (dk_at dksX7_init_4 10 rfl rfl)
theorem dX7_init_104 : decode cX7_init 104 = .ok (.bipush 99, 2) := dk_16 99 (dk_at dksX7_init_4 11 rfl rfl)
theorem dX7_init_106 : decode cX7_init 106 = .ok (.iastore, 1) := dk_79 (dk_at dksX7_init_4 13 rfl rfl)
theorem dX7_init_107 : decode cX7_init 107 = .ok (.dup, 1) := dk_89 (dk_at dksX7_init_4 14 rfl rfl)
theorem dX7_init_108 : decode cX7_init 108 = .ok (.bipush 6, 2) := dk_16 6 (dk_at dksX7_init_4 15 rfl rfl)
theorem dX7_init_110 : decode cX7_init 110 = .ok (.bipush 117, 2) := dk_16 117 (dk_at dksX7_init_4 17 rfl rfl)
theorem dX7_init_112 : decode cX7_init 112 = .ok (.iastore, 1) := dk_79 (dk_at dksX7_init_4 19 rfl rfl)
theorem dX7_init_113 : decode cX7_init 113 = .ok (.dup, 1) := dk_89 (dk_at dksX7_init_4 20 rfl rfl)
theorem dX7_init_114 : decode cX7_init 114 = .ok (.bipush 7, 2) := dk_16 7 (dk_at dksX7_init_4 21 rfl rfl)
theorem dX7_init_116 : decode cX7_init 116 = .ok (.bipush 99, 2) := dk_16 99 (dk_at dksX7_init_5 0 rfl rfl)
theorem dX7_init_118 : decode cX7_init 118 = .ok (.iastore, 1) := dk_79 (dk_at dksX7_init_5 2 rfl rfl)
theorem dX7_init_119 : decode cX7_init 119 = .ok (.dup, 1) := dk_89 (dk_at dksX7_init_5 3 rfl rfl)
theorem dX7_init_120 : decode cX7_init 120 = .ok (.bipush 8, 2) := dk_16 8 (dk_at dksX7_init_5 4 rfl rfl)
theorem dX7_init_122 : decode cX7_init 122 = .ok (.bipush 107, 2) := dk_16 107 (dk_at dksX7_init_5 6 rfl rfl)
theorem dX7_init_124 : decode cX7_init 124 = .ok (.iastore, 1) := dk_79 (dk_at dksX7_init_5 8 rfl rfl)
theorem dX7_init_125 : decode cX7_init 125 = .ok (.dup, 1) := dk_89 (dk_at dksX7_init_5 9 rfl rfl)
theorem dX7_init_126 : decode cX7_init 126 = .ok (.bipush 9, 2) := dk_16 9 (dk_at dksX7_init_5 10 rfl rfl)
theorem dX7_init_128 : decode cX7_init 128 = .ok (.bipush 111, 2) := dk_16 111 (dk_at dksX7_init_5 12 rfl rfl)
theorem dX7_init_130 : decode cX7_init 130 = .ok (.iastore, 1) := dk_79 (dk_at dksX7_init_5 14 rfl rfl)
theorem dX7_init_131 : decode cX7_init 131 = .ok (.dup, 1) := dk_89 (dk_at dksX7_init_5 15 rfl rfl)
theorem dX7_init_132 : decode cX7_init 132 = .ok (.bipush 10, 2) := dk_16 10 (dk_at dksX7_init_5 16 rfl rfl)
theorem dX7_init_134 : decode cX7_init 134 = .ok (.bipush 111, 2) := dk_16 111 (dk_at dksX7_init_5 18 rfl rfl)
theorem dX7_init_136 : decode cX7_init 136 = .ok (.iastore, 1) := dk_79 (dk_at dksX7_init_5 20 rfl rfl)
theorem dX7_init_137 : decode cX7_init 137 = .ok (.dup, 1) := dk_89 (dk_at dksX7_init_5 21 rfl rfl)
theorem dX7_init_138 : decode cX7_init 138 = .ok (.bipush 11, 2) := dk_16 11 (dk_at dksX7_init_5 22 rfl rfl)
theorem dX7_init_140 : decode cX7_init 140 = .ok (.bipush 116, 2) := dk_16 116 (dk_at dksX7_init_6 0 rfl rfl)
theorem dX7_init_142 : decode cX7_init 142 = .ok (.iastore, 1) := dk_79 (dk_at dksX7_init_6 2 rfl rfl)
theorem dX7_init_143 : decode cX7_init 143 = .ok (.dup, 1) := dk_89 (dk_at dksX7_init_6 3 rfl rfl)
theorem dX7_init_144 : decode cX7_init 144 = .ok (.bipush 12, 2) := dk_16 12 (dk_at dksX7_init_6 4 rfl rfl)
theorem dX7_init_146 : decode cX7_init 146 = .ok (.bipush 111, 2) := dk_16 111 (dk_at dksX7_init_6 6 rfl rfl)
theorem dX7_init_148 : decode cX7_init 148 = .ok (.iastore, 1) := dk_79 (dk_at dksX7_init_6 8 rfl rfl)
theorem dX7_init_149 : decode cX7_init 149 = .ok (.dup, 1) := dk_89 (dk_at dksX7_init_6 9 rfl rfl)
theorem dX7_init_150 : decode cX7_init 150 = .ok (.bipush 13, 2) := dk_16 13 (dk_at dksX7_init_6 10 rfl rfl)
theorem dX7_init_152 : decode cX7_init 152 = .ok (.bipush 119, 2) := dk_16 119 (dk_at dksX7_init_6 12 rfl rfl)
theorem dX7_init_154 : decode cX7_init 154 = .ok (.iastore, 1) := dk_79 (dk_at dksX7_init_6 14 rfl rfl)
theorem dX7_init_155 : decode cX7_init 155 = .ok (.dup, 1) := dk_89 (dk_at dksX7_init_6 15 rfl rfl)
theorem dX7_init_156 : decode cX7_init 156 = .ok (.bipush 14, 2) := dk_16 14 (dk_at dksX7_init_6 16 rfl rfl)
theorem dX7_init_158 : decode cX7_init 158 = .ok (.bipush 101, 2) := dk_16 101 (dk_at dksX7_init_6 18 rfl rfl)
theorem dX7_init_160 : decode cX7_init 160 = .ok (.iastore, 1) := dk_79 (dk_at dksX7_init_6 20 rfl rfl)
theorem dX7_init_161 : decode cX7_init 161 = .ok (.dup, 1) := dk_89 (dk_at dksX7_init_6 21 rfl rfl)
theorem dX7_init_162 : decode cX7_init 162 = .ok (.bipush 15, 2) := dk_16 15 (dk_at dksX7_init_6 22 rfl rfl)
theorem dX7_init_164 : decode cX7_init 164 = .ok (.bipush 114, 2) := dk_16 114 (dk_at dksX7_init_7 0 rfl rfl)
theorem dX7_init_166 : decode cX7_init 166 = .ok (.iastore, 1) := dk_79 (dk_at dksX7_init_7 2 rfl rfl)
theorem dX7_init_167 : decode cX7_init 167 = .ok (.dup, 1) := dk_89 (dk_at dksX7_init_7 3 rfl rfl)
theorem dX7_init_168 : decode cX7_init 168 = .ok (.bipush 16, 2) := dk_16 16 (dk_at dksX7_init_7 4 rfl rfl)
theorem dX7_init_170 : decode cX7_init 170 = .ok (.bipush 98, 2) := dk_16 98 (dk_at dksX7_init_7 6 rfl rfl)
theorem dX7_init_172 : decode cX7_init 172 = .ok (.iastore, 1) := dk_79 (dk_at dksX7_init_7 8 rfl rfl)
theorem dX7_init_173 : decode cX7_init 173 = .ok (.dup, 1) := dk_89 (dk_at dksX7_init_7 9 rfl rfl)
theorem dX7_init_174 : decode cX7_init 174 = .ok (.bipush 17, 2) := dk_16 17 (dk_at dksX7_init_7 10 rfl rfl)
theorem dX7_init_176 : decode cX7_init 176 = .ok (.bipush 97, 2) := dk_16 97 (dk_at dksX7_init_7 12 rfl rfl)
theorem dX7_init_178 : decode cX7_init 178 = .ok (.iastore, 1) := dk_79 (dk_at dksX7_init_7 14 rfl rfl)
theorem dX7_init_179 : decode cX7_init 179 = .ok (.dup, 1) := dk_89 (dk_at dksX7_init_7 15 rfl rfl)
theorem dX7_init_180 : decode cX7_init 180 = .ok (.bipush 18, 2) := dk_16 18 (dk_at dksX7_init_7 16 rfl rfl)
theorem dX7_init_182 : decode cX7_init 182 = .ok (.bipush 99, 2) := dk_16 99 (dk_at dksX7_init_7 18 rfl rfl)
theorem dX7_init_184 : decode cX7_init 184 = .ok (.iastore, 1) := dk_79 (dk_at dksX7_init_7 20 rfl rfl)
theorem dX7_init_185 : decode cX7_init 185 = .ok (.dup, 1) := dk_89 (dk_at dksX7_init_7 21 rfl rfl)
theorem dX7_init_186 : decode cX7_init 186 = .ok (.bipush 19, 2) := dk_16 19 (dk_at dksX7_init_7 22 rfl rfl)
theorem dX7_init_188 : decode cX7_init 188 = .ok (.bipush 107, 2) := dk_16 107 (dk_at dksX7_init_8 0 rfl rfl)
theorem dX7_init_190 : decode cX7_init 190 = .ok (.iastore, 1) := dk_79 (dk_at dksX7_init_8 2 rfl rfl)
theorem dX7_init_191 : decode cX7_init 191 = .ok (.dup, 1) := dk_89 (dk_at dksX7_init_8 3 rfl rfl)
theorem dX7_init_192 : decode cX7_init 192 = .ok (.bipush 20, 2) := dk_16 20 (dk_at dksX7_init_8 4 rfl rfl)
theorem dX7_init_194 : decode cX7_init 194 = .ok (.bipush 102, 2) := dk_16 102 (dk_at dksX7_init_8 6 rfl rfl)
theorem dX7_init_196 : decode cX7_init 196 = .ok (.iastore, 1) := dk_79 (dk_at dksX7_init_8 8 rfl rfl)
theorem dX7_init_197 : decode cX7_init 197 = .ok (.dup, 1) := dk_89 (dk_at dksX7_init_8 9 rfl rfl)
theorem dX7_init_198 : decode cX7_init 198 = .ok (.bipush 21, 2) := dk_16 21 (dk_at dksX7_init_8 10 rfl rfl)
theorem dX7_init_200 : decode cX7_init 200 = .ok (.bipush 108, 2) := dk_16 108 (dk_at dksX7_init_8 12 rfl rfl)
theorem dX7_init_202 : decode cX7_init 202 = .ok (.iastore, 1) := dk_79 (dk_at dksX7_init_8 14 rfl rfl)
theorem dX7_init_203 : decode cX7_init 203 = .ok (.dup, 1) := dk_89 (dk_at dksX7_init_8 15 rfl rfl)
theorem dX7_init_204 : decode cX7_init 204 = .ok (.bipush 22, 2) := dk_16 22 (dk_at dksX7_init_8 16 rfl rfl)
theorem dX7_init_206 : decode cX7_init 206 = .ok (.bipush 111, 2) := dk_16 111 (dk_at dksX7_init_8 18 rfl rfl)
theorem dX7_init_208 : decode cX7_init 208 = .ok (.iastore, 1) := dk_79 (dk_at dksX7_init_8 20 rfl rfl)
theorem dX7_init_209 : decode cX7_init 209 = .ok (.dup, 1) := dk_89 (dk_at dksX7_init_8 21 rfl rfl)
theorem dX7_init_210 : decode cX7_init 210 = .ok (.bipush 23, 2) := dk_16 23 (dk_at dksX7_init_8 22 rfl rfl)
theorem dX7_init_212 : decode cX7_init 212 = .ok (.bipush 111, 2) := dk_16 111 (dk_at dksX7_init_9 0 rfl rfl)
theorem dX7_init_214 : decode cX7_init 214 = .ok (.iastore, 1) := dk_79 (dk_at dksX7_init_9 2 rfl rfl)
theorem dX7_init_215 : decode cX7_init 215 = .ok (.dup, 1) := dk_89 (dk_at dksX7_init_9 3 rfl rfl)
theorem dX7_init_216 : decode cX7_init 216 = .ok (.bipush 24, 2) := dk_16 24 (dk_at dksX7_init_9 4 rfl rfl)
theorem dX7_init_218 : decode cX7_init 218 = .ok (.bipush 114, 2) := dk_16 114 (dk_at dksX7_init_9 6 rfl rfl)
theorem dX7_init_220 : decode cX7_init 220 = .ok (.iastore, 1) := dk_79 (dk_at dksX7_init_9 8 rfl rfl)
theorem dX7_init_221 : decode cX7_init 221 = .ok (.dup, 1) := dk_89 (dk_at dksX7_init_9 9 rfl rfl)
theorem dX7_init_222 : decode cX7_init 222 = .ok (.bipush 25, 2) := dk_16 25 (dk_at dksX7_init_9 10 rfl rfl)
theorem dX7_init_224 : decode cX7_init 224 = .ok (.bipush 103, 2) := dk_16 103 (dk_at dksX7_init_9 12 rfl rfl)
theorem dX7_init_226 : decode cX7_init 226 = .ok (.iastore, 1) := dk_79 (dk_at dksX7_init_9 14 rfl rfl)
theorem dX7_init_227 : decode cX7_init 227 = .ok (.dup, 1) := dk_89 (dk_at dksX7_init_9 15 rfl rfl)
theorem dX7_init_228 : decode cX7_init 228 = .ok (.bipush 26, 2) := dk_16 26 (dk_at dksX7_init_9 16 rfl rfl)
theorem dX7_init_230 : decode cX7_init 230 = .ok (.bipush 105, 2) := dk_16 105 (dk_at dksX7_init_9 18 rfl rfl)
theorem dX7_init_232 : decode cX7_init 232 = .ok (.iastore, 1) := dk_79 (dk_at dksX7_init_9 20 rfl rfl)
theorem dX7_init_233 : decode cX7_init 233 = .ok (.dup, 1) := dk_89 (dk_at dksX7_init_9 21 rfl rfl)
theorem dX7_init_234 : decode cX7_init 234 = .ok (.bipush 27, 2) := dk_16 27 (dk_at dksX7_init_9 22 rfl rfl)
theorem dX7_init_236 : decode cX7_init 236 = .ok (.bipush 102, 2) := dk_16 102 (dk_at dksX7_init_10 0 rfl rfl)
theorem dX7_init_238 : decode cX7_init 238 = .ok (.iastore, 1) := dk_79 (dk_at dksX7_init_10 2 rfl rfl)
theorem dX7_init_239 : decode cX7_init 239 = .ok (.dup, 1) := dk_89 (dk_at dksX7_init_10 3 rfl rfl)
theorem dX7_init_240 : decode cX7_init 240 = .ok (.bipush 28, 2) := dk_16 28 (dk_at dksX7_init_10 4 rfl rfl)
theorem dX7_init_242 : decode cX7_init 242 = .ok (.bipush 116, 2) := dk_16 116 (dk_at dksX7_init_10 6 rfl rfl)
theorem dX7_init_244 : decode cX7_init 244 = .ok (.iastore, 1) := dk_79 (dk_at dksX7_init_10 8 rfl rfl)
theorem dX7_init_245 : decode cX7_init 245 = .ok (.putfield 22, 3) := dk_181 0 22 (dk_at dksX7_init_10 9 rfl rfl)
theorem dX7_init_248 : decode cX7_init 248 = .ok (.aload_n 0, 1) := dk_42 (dk_at dksX7_init_10 12 rfl rfl)
theorem dX7_init_249 : decode cX7_init 249 = .ok (.bipush 18, 2) := dk_16 18 (dk_at dksX7_init_10 13 rfl rfl)
theorem dX7_init_251 : decode cX7_init 251 = .ok (.newarray .int, 2) := dk_188_10 (dk_at dksX7_init_10 15 rfl rfl)
theorem dX7_init_253 : decode cX7_init 253 = .ok (.putfield 25, 3) := dk_181 0 25 (dk_at dksX7_init_10 17 rfl rfl)
theorem dX7_init_256 : decode cX7_init 256 = .ok (.aload_n 0, 1) := dk_42 (dk_at dksX7_init_10 20 rfl rfl)
theorem dX7_init_257 : decode cX7_init 257 = .ok (.sipush 147, 3) := dk_17 0 147 (dk_at dksX7_init_10 21 rfl rfl)
theorem dX7_init_260 : decode cX7_init 260 = .ok (.newarray .int, 2) := dk_188_10 (dk_at dksX7_init_11 0 rfl rfl)
theorem dX7_init_262 : decode cX7_init 262 = .ok (.putfield 28, 3) := dk_181 0 28 (dk_at dksX7_init_11 2 rfl rfl)
theorem dX7_init_265 : decode cX7_init 265 = .ok (.aload_n 0, 1) := dk_42 (dk_at dksX7_init_11 5 rfl rfl)
theorem dX7_init_266 : decode cX7_init 266 = .ok (.iconst 2, 1) := dk_5 (dk_at dksX7_init_11 6 rfl rfl)
theorem dX7_init_267 : decode cX7_init 267 = .ok (.newarray .boolean, 2) := dk_188_4 (dk_at dksX7_init_11 7 rfl rfl)
theorem dX7_init_269 : decode cX7_init 269 = .ok (.putfield 31, 3) := dk_181 0 31 (dk_at dksX7_init_11 9 rfl rfl)
theorem dX7_init_272 : decode cX7_init 272 = .ok (.aload_n 0, 1) := dk_42 (dk_at dksX7_init_11 12 rfl rfl)
theorem dX7_init_273 : decode cX7_init 273 = .ok (.iconst 4, 1) := dk_7 (dk_at dksX7_init_11 13 rfl rfl)
theorem dX7_init_274 : decode cX7_init 274 = .ok (.newarray .int, 2) := dk_188_10 (dk_at dksX7_init_11 14 rfl rfl)
theorem dX7_init_276 : decode cX7_init 276 = .ok (.dup, 1) := dk_89 (dk_at dksX7_init_11 16 rfl rfl)
theorem dX7_init_277 : decode cX7_init 277 = .ok (.iconst 0, 1) := dk_3 (dk_at dksX7_init_11 17 rfl rfl)
theorem dX7_init_278 : decode cX7_init 278 = .ok (.bipush (-4), 2) := dk_16 252 (dk_at dksX7_init_11 18 rfl rfl)
theorem dX7_init_280 : decode cX7_init 280 = .ok (.iastore, 1) := dk_79 (dk_at dksX7_init_11 20 rfl rfl)
theorem dX7_init_281 : decode cX7_init 281 = .ok (.dup, 1) := dk_89 (dk_at dksX7_init_11 21 rfl rfl)
theorem dX7_init_282 : decode cX7_init 282 = .ok (.iconst 1, 1) := dk_4 (dk_at dksX7_init_11 22 rfl rfl)
theorem dX7_init_283 : decode cX7_init 283 = .ok (.bipush (-4), 2) := dk_16 252 (dk_at dksX7_init_12 0 rfl rfl)
theorem dX7_init_285 : decode cX7_init 285 = .ok (.iastore, 1) := dk_79 (dk_at dksX7_init_12 2 rfl rfl)
theorem dX7_init_286 : decode cX7_init 286 = .ok (.dup, 1) := dk_89 (dk_at dksX7_init_12 3 rfl rfl)
theorem dX7_init_287 : decode cX7_init 287 = .ok (.iconst 2, 1) := dk_5 (dk_at dksX7_init_12 4 rfl rfl)
theorem dX7_init_288 : decode cX7_init 288 = .ok (.bipush (-4), 2) := dk_16 252 (dk_at dksX7_init_12 5 rfl rfl)
theorem dX7_init_290 : decode cX7_init 290 = .ok (.iastore, 1) := dk_79 (dk_at dksX7_init_12 7 rfl rfl)
theorem dX7_init_291 : decode cX7_init 291 = .ok (.dup, 1) := dk_89 (dk_at dksX7_init_12 8 rfl rfl)
theorem dX7_init_292 : decode cX7_init 292 = .ok (.iconst 3, 1) := dk_6 (dk_at dksX7_init_12 9 rfl rfl)
theorem dX7_init_293 : decode cX7_init 293 = .ok (.bipush (-4), 2) := dk_16 252 (dk_at dksX7_init_12 10 rfl rfl)
theorem dX7_init_295 : decode cX7_init 295 = .ok (.iastore, 1) := dk_79 (dk_at dksX7_init_12 12 rfl rfl)
theorem dX7_init_296 : decode cX7_init 296 = .ok (.putfield 35, 3) := dk_181 0 35 (dk_at dksX7_init_12 13 rfl rfl)
theorem dX7_init_299 : decode cX7_init 299 = .ok (.aload_n 0, 1) := dk_42 (dk_at dksX7_init_12 16 rfl rfl)
theorem dX7_init_300 : decode cX7_init 300 = .ok (.iconst 4, 1) := dk_7 (dk_at dksX7_init_12 17 rfl rfl)
theorem dX7_init_301 : decode cX7_init 301 = .ok (.newarray .int, 2) := dk_188_10 (dk_at dksX7_init_12 18 rfl rfl)
theorem dX7_init_303 : decode cX7_init 303 = .ok (.putfield 38, 3) := dk_181 0 38 (dk_at dksX7_init_12 20 rfl rfl)
theorem dX7_init_306 : decode cX7_init 306 = .ok (.aload_n 0, 1) := dk_42 (dk_at dksX7_init_12 23 rfl rfl)
theorem dX7_init_307 : decode cX7_init 307 = .ok (.sipush 160, 3) := dk_17 0 160 (dk_at dksX7_init_13 0 rfl rfl)
theorem dX7_init_310 : decode cX7_init 310 = .ok (.newarray .int, 2) := dk_188_10 (dk_at dksX7_init_13 3 rfl rfl)
theorem dX7_init_312 : decode cX7_init 312 = .ok (.putfield 41, 3) := dk_181 0 41 (dk_at dksX7_init_13 5 rfl rfl)
theorem dX7_init_315 : decode cX7_init 315 = .ok (.return_, 1) := dk_177 (dk_at dksX7_init_13 8 rfl rfl)
abbrev cX7_feed : ByteArray := prog_11_method_4_code
def yX7_feed : MethodName := ⟨RX7, "feed", "(I)I"⟩
def dkwX7_feed_2 : List UInt8 := [180, 0, 50, 172]
abbrev dktX7_feed_2 : List UInt8 := dkwX7_feed_2 ++ []
def dkwX7_feed_1 : List UInt8 := [16, 253, 172, 42, 180, 0, 16, 42, 180, 0, 50, 27, 79, 42, 89, 180, 0, 50, 4, 96, 181, 0, 50, 42]
abbrev dktX7_feed_1 : List UInt8 := dkwX7_feed_1 ++ dktX7_feed_2
def dkwX7_feed_0 : List UInt8 := [27, 133, 9, 20, 0, 44, 184, 0, 46, 154, 0, 5, 2, 172, 42, 180, 0, 50, 17, 0, 160, 160, 0, 6]
abbrev dktX7_feed_0 : List UInt8 := dkwX7_feed_0 ++ dktX7_feed_1
theorem dksX7_feed_0 : cX7_feed.data.toList.drop 0 = dktX7_feed_0 := by decide +kernel
theorem dksX7_feed_1 : cX7_feed.data.toList.drop 24 = dktX7_feed_1 := dk_seg dksX7_feed_0 24 rfl rfl
theorem dksX7_feed_2 : cX7_feed.data.toList.drop 48 = dktX7_feed_2 := dk_seg dksX7_feed_1 24 rfl rfl
theorem dX7_feed_0 : decode cX7_feed 0 = .ok (.iload_n 1, 1) := dk_27 (dk_at dksX7_feed_0 0 rfl rfl)
theorem dX7_feed_1 : decode cX7_feed 1 = .ok (.i2l, 1) := dk_133 (dk_at dksX7_feed_0 1 rfl rfl)
theorem dX7_feed_2 : decode cX7_feed 2 = .ok (.lconst 0, 1) := dk_9 (dk_at dksX7_feed_0 2 rfl rfl)
theorem dX7_feed_3 : decode cX7_feed 3 = .ok (.ldc2_w 44, 3) := dk_20 0 44 (dk_at dksX7_feed_0 3 rfl rfl)
theorem dX7_feed_6 : decode cX7_feed 6 = .ok (.invokestatic 46, 3) := dk_184 0 46 (dk_at dksX7_feed_0 6 rfl rfl)
theorem dX7_feed_9 : decode cX7_feed 9 = .ok (.ifCond .ne 5, 3) := dk_154 0 5 (dk_at dksX7_feed_0 9 rfl rfl)
theorem dX7_feed_12 : decode cX7_feed 12 = .ok (.iconst (-1), 1) := dk_2 (dk_at dksX7_feed_0 12 rfl rfl)
theorem dX7_feed_13 : decode cX7_feed 13 = .ok (.ireturn, 1) := dk_172 (dk_at dksX7_feed_0 13 rfl rfl)
theorem dX7_feed_14 : decode cX7_feed 14 = .ok (.aload_n 0, 1) := dk_42 (dk_at dksX7_feed_0 14 rfl rfl)
theorem dX7_feed_15 : decode cX7_feed 15 = .ok (.getfield 50, 3) := dk_180 0 50 (dk_at dksX7_feed_0 15 rfl rfl)
theorem dX7_feed_18 : decode cX7_feed 18 = .ok (.sipush 160, 3) := dk_17 0 160 (dk_at dksX7_feed_0 18 rfl rfl)
theorem dX7_feed_21 : decode cX7_feed 21 = .ok (.if_icmp .ne 6, 3) := dk_160 0 6 (dk_at dksX7_feed_0 21 rfl rfl)
theorem dX7_feed_24 : decode cX7_feed 24 = .ok (.bipush (-3), 2) := dk_16 253 (dk_at dksX7_feed_1 0 rfl rfl)
theorem dX7_feed_26 : decode cX7_feed 26 = .ok (.ireturn, 1) := dk_172 (dk_at dksX7_feed_1 2 rfl rfl)
theorem dX7_feed_27 : decode cX7_feed 27 = .ok (.aload_n 0, 1) := dk_42 (dk_at dksX7_feed_1 3 rfl rfl)
theorem dX7_feed_28 : decode cX7_feed 28 = .ok (.getfield 16, 3) := dk_180 0 16 (dk_at dksX7_feed_1 4 rfl rfl)
theorem dX7_feed_31 : decode cX7_feed 31 = .ok (.aload_n 0, 1) := dk_42 (dk_at dksX7_feed_1 7 rfl rfl)
theorem dX7_feed_32 : decode cX7_feed 32 = .ok (.getfield 50, 3) := dk_180 0 50 (dk_at dksX7_feed_1 8 rfl rfl)
theorem dX7_feed_35 : decode cX7_feed 35 = .ok (.iload_n 1, 1) := dk_27 (dk_at dksX7_feed_1 11 rfl rfl)
theorem dX7_feed_36 : decode cX7_feed 36 = .ok (.iastore, 1) := dk_79 (dk_at dksX7_feed_1 12 rfl rfl)
theorem dX7_feed_37 : decode cX7_feed 37 = .ok (.aload_n 0, 1) := dk_42 (dk_at dksX7_feed_1 13 rfl rfl)
theorem dX7_feed_38 : decode cX7_feed 38 = .ok (.dup, 1) := dk_89 (dk_at dksX7_feed_1 14 rfl rfl)
theorem dX7_feed_39 : decode cX7_feed 39 = .ok (.getfield 50, 3) := dk_180 0 50 (dk_at dksX7_feed_1 15 rfl rfl)
theorem dX7_feed_42 : decode cX7_feed 42 = .ok (.iconst 1, 1) := dk_4 (dk_at dksX7_feed_1 18 rfl rfl)
theorem dX7_feed_43 : decode cX7_feed 43 = .ok (.iadd, 1) := dk_96 (dk_at dksX7_feed_1 19 rfl rfl)
theorem dX7_feed_44 : decode cX7_feed 44 = .ok (.putfield 50, 3) := dk_181 0 50 (dk_at dksX7_feed_1 20 rfl rfl)
theorem dX7_feed_47 : decode cX7_feed 47 = .ok (.aload_n 0, 1) := dk_42 (dk_at dksX7_feed_1 23 rfl rfl)
theorem dX7_feed_48 : decode cX7_feed 48 = .ok (.getfield 50, 3) := dk_180 0 50 (dk_at dksX7_feed_2 0 rfl rfl)
theorem dX7_feed_51 : decode cX7_feed 51 = .ok (.ireturn, 1) := dk_172 (dk_at dksX7_feed_2 3 rfl rfl)
abbrev cX7_in : ByteArray := prog_11_method_3_code
def yX7_in : MethodName := ⟨RX7, "in", "(JJJ)Z"⟩
def dkwX7_in_0 : List UInt8 := [30, 32, 148, 155, 0, 14, 30, 22, 4, 148, 157, 0, 7, 4, 167, 0, 4, 3, 172]
abbrev dktX7_in_0 : List UInt8 := dkwX7_in_0 ++ []
theorem dksX7_in_0 : cX7_in.data.toList.drop 0 = dktX7_in_0 := by decide +kernel
theorem dX7_in_0 : decode cX7_in 0 = .ok (.lload_n 0, 1) := dk_30 (dk_at dksX7_in_0 0 rfl rfl)
theorem dX7_in_1 : decode cX7_in 1 = .ok (.lload_n 2, 1) := dk_32 (dk_at dksX7_in_0 1 rfl rfl)
theorem dX7_in_2 : decode cX7_in 2 = .ok (.lcmp, 1) := dk_148 (dk_at dksX7_in_0 2 rfl rfl)
theorem dX7_in_3 : decode cX7_in 3 = .ok (.ifCond .lt 14, 3) := dk_155 0 14 (dk_at dksX7_in_0 3 rfl rfl)
theorem dX7_in_6 : decode cX7_in 6 = .ok (.lload_n 0, 1) := dk_30 (dk_at dksX7_in_0 6 rfl rfl)
theorem dX7_in_7 : decode cX7_in 7 = .ok (.lload 4, 2) := dk_22 4 (dk_at dksX7_in_0 7 rfl rfl)
theorem dX7_in_9 : decode cX7_in 9 = .ok (.lcmp, 1) := dk_148 (dk_at dksX7_in_0 9 rfl rfl)
theorem dX7_in_10 : decode cX7_in 10 = .ok (.ifCond .gt 7, 3) := dk_157 0 7 (dk_at dksX7_in_0 10 rfl rfl)
theorem dX7_in_13 : decode cX7_in 13 = .ok (.iconst 1, 1) := dk_4 (dk_at dksX7_in_0 13 rfl rfl)
theorem dX7_in_14 : decode cX7_in 14 = .ok (.goto 4, 3) := dk_167 0 4 (dk_at dksX7_in_0 14 rfl rfl)
theorem dX7_in_17 : decode cX7_in 17 = .ok (.iconst 0, 1) := dk_3 (dk_at dksX7_in_0 17 rfl rfl)
theorem dX7_in_18 : decode cX7_in 18 = .ok (.ireturn, 1) := dk_172 (dk_at dksX7_in_0 18 rfl rfl)
abbrev cX7_end : ByteArray := prog_11_method_5_code
def yX7_end : MethodName := ⟨RX7, "end", "(I)I"⟩
def dkwX7_end_1 : List UInt8 := [181, 0, 50, 28, 172]
abbrev dktX7_end_1 : List UInt8 := dkwX7_end_1 ++ []
def dkwX7_end_0 : List UInt8 := [27, 133, 9, 42, 180, 0, 50, 133, 184, 0, 46, 154, 0, 5, 2, 172, 42, 180, 0, 50, 61, 42, 27]
abbrev dktX7_end_0 : List UInt8 := dkwX7_end_0 ++ dktX7_end_1
theorem dksX7_end_0 : cX7_end.data.toList.drop 0 = dktX7_end_0 := by decide +kernel
theorem dksX7_end_1 : cX7_end.data.toList.drop 23 = dktX7_end_1 := dk_seg dksX7_end_0 23 rfl rfl
theorem dX7_end_0 : decode cX7_end 0 = .ok (.iload_n 1, 1) := dk_27 (dk_at dksX7_end_0 0 rfl rfl)
theorem dX7_end_1 : decode cX7_end 1 = .ok (.i2l, 1) := dk_133 (dk_at dksX7_end_0 1 rfl rfl)
theorem dX7_end_2 : decode cX7_end 2 = .ok (.lconst 0, 1) := dk_9 (dk_at dksX7_end_0 2 rfl rfl)
theorem dX7_end_3 : decode cX7_end 3 = .ok (.aload_n 0, 1) := dk_42 (dk_at dksX7_end_0 3 rfl rfl)
theorem dX7_end_4 : decode cX7_end 4 = .ok (.getfield 50, 3) := dk_180 0 50 (dk_at dksX7_end_0 4 rfl rfl)
theorem dX7_end_7 : decode cX7_end 7 = .ok (.i2l, 1) := dk_133 (dk_at dksX7_end_0 7 rfl rfl)
theorem dX7_end_8 : decode cX7_end 8 = .ok (.invokestatic 46, 3) := dk_184 0 46 (dk_at dksX7_end_0 8 rfl rfl)
theorem dX7_end_11 : decode cX7_end 11 = .ok (.ifCond .ne 5, 3) := dk_154 0 5 (dk_at dksX7_end_0 11 rfl rfl)
theorem dX7_end_14 : decode cX7_end 14 = .ok (.iconst (-1), 1) := dk_2 (dk_at dksX7_end_0 14 rfl rfl)
theorem dX7_end_15 : decode cX7_end 15 = .ok (.ireturn, 1) := dk_172 (dk_at dksX7_end_0 15 rfl rfl)
theorem dX7_end_16 : decode cX7_end 16 = .ok (.aload_n 0, 1) := dk_42 (dk_at dksX7_end_0 16 rfl rfl)
theorem dX7_end_17 : decode cX7_end 17 = .ok (.getfield 50, 3) := dk_180 0 50 (dk_at dksX7_end_0 17 rfl rfl)
theorem dX7_end_20 : decode cX7_end 20 = .ok (.istore_n 2, 1) := dk_61 (dk_at dksX7_end_0 20 rfl rfl)
theorem dX7_end_21 : decode cX7_end 21 = .ok (.aload_n 0, 1) := dk_42 (dk_at dksX7_end_0 21 rfl rfl)
theorem dX7_end_22 : decode cX7_end 22 = .ok (.iload_n 1, 1) := dk_27 (dk_at dksX7_end_0 22 rfl rfl)
theorem dX7_end_23 : decode cX7_end 23 = .ok (.putfield 50, 3) := dk_181 0 50 (dk_at dksX7_end_1 0 rfl rfl)
theorem dX7_end_26 : decode cX7_end 26 = .ok (.iload_n 2, 1) := dk_28 (dk_at dksX7_end_1 3 rfl rfl)
theorem dX7_end_27 : decode cX7_end 27 = .ok (.ireturn, 1) := dk_172 (dk_at dksX7_end_1 4 rfl rfl)
abbrev cX7_text : ByteArray := prog_11_method_15_code
def yX7_text : MethodName := ⟨RX7, "text", "()I"⟩
def dkwX7_text_7 : List UInt8 := [181, 0, 126, 42, 3, 181, 0, 129, 42, 180, 0, 31, 3, 3, 84, 42, 180, 0, 31, 4, 3, 84, 27, 172]
abbrev dktX7_text_7 : List UInt8 := dkwX7_text_7 ++ []
def dkwX7_text_6 : List UInt8 := [180, 0, 7, 28, 42, 180, 0, 13, 28, 46, 79, 132, 2, 1, 167, 255, 235, 42, 42, 180, 0, 98]
abbrev dktX7_text_6 : List UInt8 := dkwX7_text_6 ++ dktX7_text_7
def dkwX7_text_5 : List UInt8 := [180, 0, 54, 158, 0, 11, 16, 246, 42, 180, 0, 60, 100, 172, 3, 61, 28, 16, 67, 162, 0, 21, 42]
abbrev dktX7_text_5 : List UInt8 := dkwX7_text_5 ++ dktX7_text_6
def dkwX7_text_4 : List UInt8 := [161, 0, 9, 42, 16, 6, 182, 0, 84, 42, 3, 181, 0, 50, 42, 42, 180, 0, 54, 181, 0, 123, 42]
abbrev dktX7_text_4 : List UInt8 := dkwX7_text_4 ++ dktX7_text_5
def dkwX7_text_3 : List UInt8 := [182, 0, 120, 132, 1, 1, 167, 255, 235, 42, 180, 0, 54, 154, 0, 20, 42, 180, 0, 95, 42, 180, 0, 98]
abbrev dktX7_text_3 : List UInt8 := dkwX7_text_3 ++ dktX7_text_4
def dkwX7_text_2 : List UInt8 := [167, 255, 240, 42, 182, 0, 88, 42, 180, 0, 54, 154, 0, 20, 42, 180, 0, 63, 153, 0, 13, 42]
abbrev dktX7_text_2 : List UInt8 := dkwX7_text_2 ++ dktX7_text_3
def dkwX7_text_1 : List UInt8 := [181, 0, 95, 3, 60, 3, 61, 28, 16, 67, 162, 0, 16, 42, 180, 0, 13, 28, 3, 79, 132, 2, 1]
abbrev dktX7_text_1 : List UInt8 := dkwX7_text_1 ++ dktX7_text_2
def dkwX7_text_0 : List UInt8 := [42, 3, 181, 0, 54, 42, 3, 181, 0, 66, 42, 3, 181, 0, 98, 42, 3, 181, 0, 110, 42, 2]
abbrev dktX7_text_0 : List UInt8 := dkwX7_text_0 ++ dktX7_text_1
theorem dksX7_text_0 : cX7_text.data.toList.drop 0 = dktX7_text_0 := by decide +kernel
theorem dksX7_text_1 : cX7_text.data.toList.drop 22 = dktX7_text_1 := dk_seg dksX7_text_0 22 rfl rfl
theorem dksX7_text_2 : cX7_text.data.toList.drop 45 = dktX7_text_2 := dk_seg dksX7_text_1 23 rfl rfl
theorem dksX7_text_3 : cX7_text.data.toList.drop 67 = dktX7_text_3 := dk_seg dksX7_text_2 22 rfl rfl
theorem dksX7_text_4 : cX7_text.data.toList.drop 91 = dktX7_text_4 := dk_seg dksX7_text_3 24 rfl rfl
theorem dksX7_text_5 : cX7_text.data.toList.drop 114 = dktX7_text_5 := dk_seg dksX7_text_4 23 rfl rfl
theorem dksX7_text_6 : cX7_text.data.toList.drop 137 = dktX7_text_6 := dk_seg dksX7_text_5 23 rfl rfl
theorem dksX7_text_7 : cX7_text.data.toList.drop 159 = dktX7_text_7 := dk_seg dksX7_text_6 22 rfl rfl
theorem dX7_text_0 : decode cX7_text 0 = .ok (.aload_n 0, 1) := dk_42 (dk_at dksX7_text_0 0 rfl rfl)
theorem dX7_text_1 : decode cX7_text 1 = .ok (.iconst 0, 1) := dk_3 (dk_at dksX7_text_0 1 rfl rfl)
theorem dX7_text_2 : decode cX7_text 2 = .ok (.putfield 54, 3) := dk_181 0 54 (dk_at dksX7_text_0 2 rfl rfl)
theorem dX7_text_5 : decode cX7_text 5 = .ok (.aload_n 0, 1) := dk_42 (dk_at dksX7_text_0 5 rfl rfl)
theorem dX7_text_6 : decode cX7_text 6 = .ok (.iconst 0, 1) := dk_3 (dk_at dksX7_text_0 6 rfl rfl)
theorem dX7_text_7 : decode cX7_text 7 = .ok (.putfield 66, 3) := dk_181 0 66 (dk_at dksX7_text_0 7 rfl rfl)
theorem dX7_text_10 : decode cX7_text 10 = .ok (.aload_n 0, 1) := dk_42 (dk_at dksX7_text_0 10 rfl rfl)
theorem dX7_text_11 : decode cX7_text 11 = .ok (.iconst 0, 1) := dk_3 (dk_at dksX7_text_0 11 rfl rfl)
theorem dX7_text_12 : decode cX7_text 12 = .ok (.putfield 98, 3) := dk_181 0 98 (dk_at dksX7_text_0 12 rfl rfl)
theorem dX7_text_15 : decode cX7_text 15 = .ok (.aload_n 0, 1) := dk_42 (dk_at dksX7_text_0 15 rfl rfl)
theorem dX7_text_16 : decode cX7_text 16 = .ok (.iconst 0, 1) := dk_3 (dk_at dksX7_text_0 16 rfl rfl)
theorem dX7_text_17 : decode cX7_text 17 = .ok (.putfield 110, 3) := dk_181 0 110 (dk_at dksX7_text_0 17 rfl rfl)
theorem dX7_text_20 : decode cX7_text 20 = .ok (.aload_n 0, 1) := dk_42 (dk_at dksX7_text_0 20 rfl rfl)
theorem dX7_text_21 : decode cX7_text 21 = .ok (.iconst (-1), 1) := dk_2 (dk_at dksX7_text_0 21 rfl rfl)
theorem dX7_text_22 : decode cX7_text 22 = .ok (.putfield 95, 3) := dk_181 0 95 (dk_at dksX7_text_1 0 rfl rfl)
theorem dX7_text_25 : decode cX7_text 25 = .ok (.iconst 0, 1) := dk_3 (dk_at dksX7_text_1 3 rfl rfl)
theorem dX7_text_26 : decode cX7_text 26 = .ok (.istore_n 1, 1) := dk_60 (dk_at dksX7_text_1 4 rfl rfl)
theorem dX7_text_27 : decode cX7_text 27 = .ok (.iconst 0, 1) := dk_3 (dk_at dksX7_text_1 5 rfl rfl)
theorem dX7_text_28 : decode cX7_text 28 = .ok (.istore_n 2, 1) := dk_61 (dk_at dksX7_text_1 6 rfl rfl)
theorem dX7_text_29 : decode cX7_text 29 = .ok (.iload_n 2, 1) := dk_28 (dk_at dksX7_text_1 7 rfl rfl)
theorem dX7_text_30 : decode cX7_text 30 = .ok (.bipush 67, 2) := dk_16 67 (dk_at dksX7_text_1 8 rfl rfl)
theorem dX7_text_32 : decode cX7_text 32 = .ok (.if_icmp .ge 16, 3) := dk_162 0 16 (dk_at dksX7_text_1 10 rfl rfl)
theorem dX7_text_35 : decode cX7_text 35 = .ok (.aload_n 0, 1) := dk_42 (dk_at dksX7_text_1 13 rfl rfl)
theorem dX7_text_36 : decode cX7_text 36 = .ok (.getfield 13, 3) := dk_180 0 13 (dk_at dksX7_text_1 14 rfl rfl)
theorem dX7_text_39 : decode cX7_text 39 = .ok (.iload_n 2, 1) := dk_28 (dk_at dksX7_text_1 17 rfl rfl)
theorem dX7_text_40 : decode cX7_text 40 = .ok (.iconst 0, 1) := dk_3 (dk_at dksX7_text_1 18 rfl rfl)
theorem dX7_text_41 : decode cX7_text 41 = .ok (.iastore, 1) := dk_79 (dk_at dksX7_text_1 19 rfl rfl)
theorem dX7_text_42 : decode cX7_text 42 = .ok (.iinc 2 1, 3) := dk_132 2 1 (dk_at dksX7_text_1 20 rfl rfl)
theorem dX7_text_45 : decode cX7_text 45 = .ok (.goto (-16), 3) := dk_167 255 240 (dk_at dksX7_text_2 0 rfl rfl)
theorem dX7_text_48 : decode cX7_text 48 = .ok (.aload_n 0, 1) := dk_42 (dk_at dksX7_text_2 3 rfl rfl)
theorem dX7_text_49 : decode cX7_text 49 = .ok (.invokevirtual 88, 3) := dk_182 0 88 (dk_at dksX7_text_2 4 rfl rfl)
theorem dX7_text_52 : decode cX7_text 52 = .ok (.aload_n 0, 1) := dk_42 (dk_at dksX7_text_2 7 rfl rfl)
theorem dX7_text_53 : decode cX7_text 53 = .ok (.getfield 54, 3) := dk_180 0 54 (dk_at dksX7_text_2 8 rfl rfl)
theorem dX7_text_56 : decode cX7_text 56 = .ok (.ifCond .ne 20, 3) := dk_154 0 20 (dk_at dksX7_text_2 11 rfl rfl)
theorem dX7_text_59 : decode cX7_text 59 = .ok (.aload_n 0, 1) := dk_42 (dk_at dksX7_text_2 14 rfl rfl)
theorem dX7_text_60 : decode cX7_text 60 = .ok (.getfield 63, 3) := dk_180 0 63 (dk_at dksX7_text_2 15 rfl rfl)
theorem dX7_text_63 : decode cX7_text 63 = .ok (.ifCond .eq 13, 3) := dk_153 0 13 (dk_at dksX7_text_2 18 rfl rfl)
theorem dX7_text_66 : decode cX7_text 66 = .ok (.aload_n 0, 1) := dk_42 (dk_at dksX7_text_2 21 rfl rfl)
theorem dX7_text_67 : decode cX7_text 67 = .ok (.invokevirtual 120, 3) := dk_182 0 120 (dk_at dksX7_text_3 0 rfl rfl)
theorem dX7_text_70 : decode cX7_text 70 = .ok (.iinc 1 1, 3) := dk_132 1 1 (dk_at dksX7_text_3 3 rfl rfl)
theorem dX7_text_73 : decode cX7_text 73 = .ok (.goto (-21), 3) := dk_167 255 235 (dk_at dksX7_text_3 6 rfl rfl)
theorem dX7_text_76 : decode cX7_text 76 = .ok (.aload_n 0, 1) := dk_42 (dk_at dksX7_text_3 9 rfl rfl)
theorem dX7_text_77 : decode cX7_text 77 = .ok (.getfield 54, 3) := dk_180 0 54 (dk_at dksX7_text_3 10 rfl rfl)
theorem dX7_text_80 : decode cX7_text 80 = .ok (.ifCond .ne 20, 3) := dk_154 0 20 (dk_at dksX7_text_3 13 rfl rfl)
theorem dX7_text_83 : decode cX7_text 83 = .ok (.aload_n 0, 1) := dk_42 (dk_at dksX7_text_3 16 rfl rfl)
theorem dX7_text_84 : decode cX7_text 84 = .ok (.getfield 95, 3) := dk_180 0 95 (dk_at dksX7_text_3 17 rfl rfl)
theorem dX7_text_87 : decode cX7_text 87 = .ok (.aload_n 0, 1) := dk_42 (dk_at dksX7_text_3 20 rfl rfl)
theorem dX7_text_88 : decode cX7_text 88 = .ok (.getfield 98, 3) := dk_180 0 98 (dk_at dksX7_text_3 21 rfl rfl)
theorem dX7_text_91 : decode cX7_text 91 = .ok (.if_icmp .lt 9, 3) := dk_161 0 9 (dk_at dksX7_text_4 0 rfl rfl)
theorem dX7_text_94 : decode cX7_text 94 = .ok (.aload_n 0, 1) := dk_42 (dk_at dksX7_text_4 3 rfl rfl)
theorem dX7_text_95 : decode cX7_text 95 = .ok (.bipush 6, 2) := dk_16 6 (dk_at dksX7_text_4 4 rfl rfl)
theorem dX7_text_97 : decode cX7_text 97 = .ok (.invokevirtual 84, 3) := dk_182 0 84 (dk_at dksX7_text_4 6 rfl rfl)
theorem dX7_text_100 : decode cX7_text 100 = .ok (.aload_n 0, 1) := dk_42 (dk_at dksX7_text_4 9 rfl rfl)
theorem dX7_text_101 : decode cX7_text 101 = .ok (.iconst 0, 1) := dk_3 (dk_at dksX7_text_4 10 rfl rfl)
theorem dX7_text_102 : decode cX7_text 102 = .ok (.putfield 50, 3) := dk_181 0 50 (dk_at dksX7_text_4 11 rfl rfl)
theorem dX7_text_105 : decode cX7_text 105 = .ok (.aload_n 0, 1) := dk_42 (dk_at dksX7_text_4 14 rfl rfl)
theorem dX7_text_106 : decode cX7_text 106 = .ok (.aload_n 0, 1) := dk_42 (dk_at dksX7_text_4 15 rfl rfl)
theorem dX7_text_107 : decode cX7_text 107 = .ok (.getfield 54, 3) := dk_180 0 54 (dk_at dksX7_text_4 16 rfl rfl)
theorem dX7_text_110 : decode cX7_text 110 = .ok (.putfield 123, 3) := dk_181 0 123 (dk_at dksX7_text_4 19 rfl rfl)
theorem dX7_text_113 : decode cX7_text 113 = .ok (.aload_n 0, 1) := dk_42 (dk_at dksX7_text_4 22 rfl rfl)
theorem dX7_text_114 : decode cX7_text 114 = .ok (.getfield 54, 3) := dk_180 0 54 (dk_at dksX7_text_5 0 rfl rfl)
theorem dX7_text_117 : decode cX7_text 117 = .ok (.ifCond .le 11, 3) := dk_158 0 11 (dk_at dksX7_text_5 3 rfl rfl)
theorem dX7_text_120 : decode cX7_text 120 = .ok (.bipush (-10), 2) := dk_16 246 (dk_at dksX7_text_5 6 rfl rfl)
theorem dX7_text_122 : decode cX7_text 122 = .ok (.aload_n 0, 1) := dk_42 (dk_at dksX7_text_5 8 rfl rfl)
theorem dX7_text_123 : decode cX7_text 123 = .ok (.getfield 60, 3) := dk_180 0 60 (dk_at dksX7_text_5 9 rfl rfl)
theorem dX7_text_126 : decode cX7_text 126 = .ok (.isub, 1) := dk_100 (dk_at dksX7_text_5 12 rfl rfl)
theorem dX7_text_127 : decode cX7_text 127 = .ok (.ireturn, 1) := dk_172 (dk_at dksX7_text_5 13 rfl rfl)
theorem dX7_text_128 : decode cX7_text 128 = .ok (.iconst 0, 1) := dk_3 (dk_at dksX7_text_5 14 rfl rfl)
theorem dX7_text_129 : decode cX7_text 129 = .ok (.istore_n 2, 1) := dk_61 (dk_at dksX7_text_5 15 rfl rfl)
theorem dX7_text_130 : decode cX7_text 130 = .ok (.iload_n 2, 1) := dk_28 (dk_at dksX7_text_5 16 rfl rfl)
theorem dX7_text_131 : decode cX7_text 131 = .ok (.bipush 67, 2) := dk_16 67 (dk_at dksX7_text_5 17 rfl rfl)
theorem dX7_text_133 : decode cX7_text 133 = .ok (.if_icmp .ge 21, 3) := dk_162 0 21 (dk_at dksX7_text_5 19 rfl rfl)
theorem dX7_text_136 : decode cX7_text 136 = .ok (.aload_n 0, 1) := dk_42 (dk_at dksX7_text_5 22 rfl rfl)
theorem dX7_text_137 : decode cX7_text 137 = .ok (.getfield 7, 3) := dk_180 0 7 (dk_at dksX7_text_6 0 rfl rfl)
theorem dX7_text_140 : decode cX7_text 140 = .ok (.iload_n 2, 1) := dk_28 (dk_at dksX7_text_6 3 rfl rfl)
theorem dX7_text_141 : decode cX7_text 141 = .ok (.aload_n 0, 1) := dk_42 (dk_at dksX7_text_6 4 rfl rfl)
theorem dX7_text_142 : decode cX7_text 142 = .ok (.getfield 13, 3) := dk_180 0 13 (dk_at dksX7_text_6 5 rfl rfl)
theorem dX7_text_145 : decode cX7_text 145 = .ok (.iload_n 2, 1) := dk_28 (dk_at dksX7_text_6 8 rfl rfl)
theorem dX7_text_146 : decode cX7_text 146 = .ok (.iaload, 1) := dk_46 (dk_at dksX7_text_6 9 rfl rfl)
theorem dX7_text_147 : decode cX7_text 147 = .ok (.iastore, 1) := dk_79 (dk_at dksX7_text_6 10 rfl rfl)
theorem dX7_text_148 : decode cX7_text 148 = .ok (.iinc 2 1, 3) := dk_132 2 1 (dk_at dksX7_text_6 11 rfl rfl)
theorem dX7_text_151 : decode cX7_text 151 = .ok (.goto (-21), 3) := dk_167 255 235 (dk_at dksX7_text_6 14 rfl rfl)
theorem dX7_text_154 : decode cX7_text 154 = .ok (.aload_n 0, 1) := dk_42 (dk_at dksX7_text_6 17 rfl rfl)
theorem dX7_text_155 : decode cX7_text 155 = .ok (.aload_n 0, 1) := dk_42 (dk_at dksX7_text_6 18 rfl rfl)
theorem dX7_text_156 : decode cX7_text 156 = .ok (.getfield 98, 3) := dk_180 0 98 (dk_at dksX7_text_6 19 rfl rfl)
theorem dX7_text_159 : decode cX7_text 159 = .ok (.putfield 126, 3) := dk_181 0 126 (dk_at dksX7_text_7 0 rfl rfl)
theorem dX7_text_162 : decode cX7_text 162 = .ok (.aload_n 0, 1) := dk_42 (dk_at dksX7_text_7 3 rfl rfl)
theorem dX7_text_163 : decode cX7_text 163 = .ok (.iconst 0, 1) := dk_3 (dk_at dksX7_text_7 4 rfl rfl)
theorem dX7_text_164 : decode cX7_text 164 = .ok (.putfield 129, 3) := dk_181 0 129 (dk_at dksX7_text_7 5 rfl rfl)
theorem dX7_text_167 : decode cX7_text 167 = .ok (.aload_n 0, 1) := dk_42 (dk_at dksX7_text_7 8 rfl rfl)
theorem dX7_text_168 : decode cX7_text 168 = .ok (.getfield 31, 3) := dk_180 0 31 (dk_at dksX7_text_7 9 rfl rfl)
theorem dX7_text_171 : decode cX7_text 171 = .ok (.iconst 0, 1) := dk_3 (dk_at dksX7_text_7 12 rfl rfl)
theorem dX7_text_172 : decode cX7_text 172 = .ok (.iconst 0, 1) := dk_3 (dk_at dksX7_text_7 13 rfl rfl)
theorem dX7_text_173 : decode cX7_text 173 = .ok (.bastore, 1) := dk_84 (dk_at dksX7_text_7 14 rfl rfl)
theorem dX7_text_174 : decode cX7_text 174 = .ok (.aload_n 0, 1) := dk_42 (dk_at dksX7_text_7 15 rfl rfl)
theorem dX7_text_175 : decode cX7_text 175 = .ok (.getfield 31, 3) := dk_180 0 31 (dk_at dksX7_text_7 16 rfl rfl)
theorem dX7_text_178 : decode cX7_text 178 = .ok (.iconst 1, 1) := dk_4 (dk_at dksX7_text_7 19 rfl rfl)
theorem dX7_text_179 : decode cX7_text 179 = .ok (.iconst 0, 1) := dk_3 (dk_at dksX7_text_7 20 rfl rfl)
theorem dX7_text_180 : decode cX7_text 180 = .ok (.bastore, 1) := dk_84 (dk_at dksX7_text_7 21 rfl rfl)
theorem dX7_text_181 : decode cX7_text 181 = .ok (.iload_n 1, 1) := dk_27 (dk_at dksX7_text_7 22 rfl rfl)
theorem dX7_text_182 : decode cX7_text 182 = .ok (.ireturn, 1) := dk_172 (dk_at dksX7_text_7 23 rfl rfl)
abbrev cX7_step : ByteArray := prog_11_method_9_code
def yX7_step : MethodName := ⟨RX7, "step", "()V"⟩
def dkwX7_step_11 : List UInt8 := [96, 181, 0, 66, 27, 16, 59, 159, 0, 8, 42, 4, 182, 0, 84, 177]
abbrev dktX7_step_11 : List UInt8 := dkwX7_step_11 ++ []
def dkwX7_step_10 : List UInt8 := [100, 5, 164, 0, 37, 42, 4, 182, 0, 84, 167, 0, 29, 42, 6, 181, 0, 63, 42, 89, 180, 0, 66, 4]
abbrev dktX7_step_10 : List UInt8 := dkwX7_step_10 ++ dktX7_step_11
def dkwX7_step_9 : List UInt8 := [180, 0, 66, 4, 96, 181, 0, 66, 167, 255, 182, 42, 5, 181, 0, 63, 42, 180, 0, 66, 42, 180, 0, 57]
abbrev dktX7_step_9 : List UInt8 := dkwX7_step_9 ++ dktX7_step_10
def dkwX7_step_8 : List UInt8 := [180, 0, 66, 182, 0, 69, 96, 16, 48, 100, 167, 0, 7, 42, 180, 0, 73, 181, 0, 73, 42, 89]
abbrev dktX7_step_8 : List UInt8 := dkwX7_step_8 ++ dktX7_step_9
def dkwX7_step_7 : List UInt8 := [42, 42, 180, 0, 66, 42, 180, 0, 57, 100, 5, 162, 0, 25, 16, 10, 42, 180, 0, 73, 104, 42, 42]
abbrev dktX7_step_7 : List UInt8 := dkwX7_step_7 ++ dktX7_step_8
def dkwX7_step_6 : List UInt8 := [153, 0, 106, 42, 42, 180, 0, 66, 182, 0, 69, 133, 20, 0, 80, 20, 0, 82, 184, 0, 46, 153, 0, 59]
abbrev dktX7_step_6 : List UInt8 := dkwX7_step_6 ++ dktX7_step_7
def dkwX7_step_5 : List UInt8 := [167, 255, 225, 42, 4, 181, 0, 63, 167, 0, 146, 27, 133, 20, 0, 80, 20, 0, 82, 184, 0, 46]
abbrev dktX7_step_5 : List UInt8 := dkwX7_step_5 ++ dktX7_step_6
def dkwX7_step_4 : List UInt8 := [20, 0, 76, 20, 0, 78, 184, 0, 46, 153, 0, 16, 42, 89, 180, 0, 66, 4, 96, 181, 0, 66]
abbrev dktX7_step_4 : List UInt8 := dkwX7_step_4 ++ dktX7_step_5
def dkwX7_step_3 : List UInt8 := [133, 20, 0, 76, 20, 0, 78, 184, 0, 46, 153, 0, 45, 42, 42, 180, 0, 66, 182, 0, 69, 133]
abbrev dktX7_step_3 : List UInt8 := dkwX7_step_3 ++ dktX7_step_4
def dkwX7_step_2 : List UInt8 := [182, 0, 69, 60, 42, 3, 181, 0, 73, 27, 16, 252, 160, 0, 11, 42, 3, 181, 0, 63, 167, 0, 202, 27]
abbrev dktX7_step_2 : List UInt8 := dkwX7_step_2 ++ dktX7_step_3
def dkwX7_step_1 : List UInt8 := [180, 0, 66, 4, 96, 181, 0, 66, 167, 255, 233, 42, 42, 180, 0, 66, 181, 0, 57, 42, 42, 180, 0, 66]
abbrev dktX7_step_1 : List UInt8 := dkwX7_step_1 ++ dktX7_step_2
def dkwX7_step_0 : List UInt8 := [42, 180, 0, 54, 158, 0, 4, 177, 42, 42, 180, 0, 66, 182, 0, 69, 16, 32, 160, 0, 16, 42, 89]
abbrev dktX7_step_0 : List UInt8 := dkwX7_step_0 ++ dktX7_step_1
theorem dksX7_step_0 : cX7_step.data.toList.drop 0 = dktX7_step_0 := by decide +kernel
theorem dksX7_step_1 : cX7_step.data.toList.drop 23 = dktX7_step_1 := dk_seg dksX7_step_0 23 rfl rfl
theorem dksX7_step_2 : cX7_step.data.toList.drop 47 = dktX7_step_2 := dk_seg dksX7_step_1 24 rfl rfl
theorem dksX7_step_3 : cX7_step.data.toList.drop 71 = dktX7_step_3 := dk_seg dksX7_step_2 24 rfl rfl
theorem dksX7_step_4 : cX7_step.data.toList.drop 93 = dktX7_step_4 := dk_seg dksX7_step_3 22 rfl rfl
theorem dksX7_step_5 : cX7_step.data.toList.drop 115 = dktX7_step_5 := dk_seg dksX7_step_4 22 rfl rfl
theorem dksX7_step_6 : cX7_step.data.toList.drop 137 = dktX7_step_6 := dk_seg dksX7_step_5 22 rfl rfl
theorem dksX7_step_7 : cX7_step.data.toList.drop 161 = dktX7_step_7 := dk_seg dksX7_step_6 24 rfl rfl
theorem dksX7_step_8 : cX7_step.data.toList.drop 184 = dktX7_step_8 := dk_seg dksX7_step_7 23 rfl rfl
theorem dksX7_step_9 : cX7_step.data.toList.drop 206 = dktX7_step_9 := dk_seg dksX7_step_8 22 rfl rfl
theorem dksX7_step_10 : cX7_step.data.toList.drop 230 = dktX7_step_10 := dk_seg dksX7_step_9 24 rfl rfl
theorem dksX7_step_11 : cX7_step.data.toList.drop 254 = dktX7_step_11 := dk_seg dksX7_step_10 24 rfl rfl
theorem dX7_step_0 : decode cX7_step 0 = .ok (.aload_n 0, 1) := dk_42 (dk_at dksX7_step_0 0 rfl rfl)
theorem dX7_step_1 : decode cX7_step 1 = .ok (.getfield 54, 3) := dk_180 0 54 (dk_at dksX7_step_0 1 rfl rfl)
theorem dX7_step_4 : decode cX7_step 4 = .ok (.ifCond .le 4, 3) := dk_158 0 4 (dk_at dksX7_step_0 4 rfl rfl)
theorem dX7_step_7 : decode cX7_step 7 = .ok (.return_, 1) := dk_177 (dk_at dksX7_step_0 7 rfl rfl)
theorem dX7_step_8 : decode cX7_step 8 = .ok (.aload_n 0, 1) := dk_42 (dk_at dksX7_step_0 8 rfl rfl)
theorem dX7_step_9 : decode cX7_step 9 = .ok (.aload_n 0, 1) := dk_42 (dk_at dksX7_step_0 9 rfl rfl)
theorem dX7_step_10 : decode cX7_step 10 = .ok (.getfield 66, 3) := dk_180 0 66 (dk_at dksX7_step_0 10 rfl rfl)
theorem dX7_step_13 : decode cX7_step 13 = .ok (.invokevirtual 69, 3) := dk_182 0 69 (dk_at dksX7_step_0 13 rfl rfl)
theorem dX7_step_16 : decode cX7_step 16 = .ok (.bipush 32, 2) := dk_16 32 (dk_at dksX7_step_0 16 rfl rfl)
theorem dX7_step_18 : decode cX7_step 18 = .ok (.if_icmp .ne 16, 3) := dk_160 0 16 (dk_at dksX7_step_0 18 rfl rfl)
theorem dX7_step_21 : decode cX7_step 21 = .ok (.aload_n 0, 1) := dk_42 (dk_at dksX7_step_0 21 rfl rfl)
theorem dX7_step_22 : decode cX7_step 22 = .ok (.dup, 1) := dk_89 (dk_at dksX7_step_0 22 rfl rfl)
theorem dX7_step_23 : decode cX7_step 23 = .ok (.getfield 66, 3) := dk_180 0 66 (dk_at dksX7_step_1 0 rfl rfl)
theorem dX7_step_26 : decode cX7_step 26 = .ok (.iconst 1, 1) := dk_4 (dk_at dksX7_step_1 3 rfl rfl)
theorem dX7_step_27 : decode cX7_step 27 = .ok (.iadd, 1) := dk_96 (dk_at dksX7_step_1 4 rfl rfl)
theorem dX7_step_28 : decode cX7_step 28 = .ok (.putfield 66, 3) := dk_181 0 66 (dk_at dksX7_step_1 5 rfl rfl)
theorem dX7_step_31 : decode cX7_step 31 = .ok (.goto (-23), 3) := dk_167 255 233 (dk_at dksX7_step_1 8 rfl rfl)
theorem dX7_step_34 : decode cX7_step 34 = .ok (.aload_n 0, 1) := dk_42 (dk_at dksX7_step_1 11 rfl rfl)
theorem dX7_step_35 : decode cX7_step 35 = .ok (.aload_n 0, 1) := dk_42 (dk_at dksX7_step_1 12 rfl rfl)
theorem dX7_step_36 : decode cX7_step 36 = .ok (.getfield 66, 3) := dk_180 0 66 (dk_at dksX7_step_1 13 rfl rfl)
theorem dX7_step_39 : decode cX7_step 39 = .ok (.putfield 57, 3) := dk_181 0 57 (dk_at dksX7_step_1 16 rfl rfl)
theorem dX7_step_42 : decode cX7_step 42 = .ok (.aload_n 0, 1) := dk_42 (dk_at dksX7_step_1 19 rfl rfl)
theorem dX7_step_43 : decode cX7_step 43 = .ok (.aload_n 0, 1) := dk_42 (dk_at dksX7_step_1 20 rfl rfl)
theorem dX7_step_44 : decode cX7_step 44 = .ok (.getfield 66, 3) := dk_180 0 66 (dk_at dksX7_step_1 21 rfl rfl)
theorem dX7_step_47 : decode cX7_step 47 = .ok (.invokevirtual 69, 3) := dk_182 0 69 (dk_at dksX7_step_2 0 rfl rfl)
theorem dX7_step_50 : decode cX7_step 50 = .ok (.istore_n 1, 1) := dk_60 (dk_at dksX7_step_2 3 rfl rfl)
theorem dX7_step_51 : decode cX7_step 51 = .ok (.aload_n 0, 1) := dk_42 (dk_at dksX7_step_2 4 rfl rfl)
theorem dX7_step_52 : decode cX7_step 52 = .ok (.iconst 0, 1) := dk_3 (dk_at dksX7_step_2 5 rfl rfl)
theorem dX7_step_53 : decode cX7_step 53 = .ok (.putfield 73, 3) := dk_181 0 73 (dk_at dksX7_step_2 6 rfl rfl)
theorem dX7_step_56 : decode cX7_step 56 = .ok (.iload_n 1, 1) := dk_27 (dk_at dksX7_step_2 9 rfl rfl)
theorem dX7_step_57 : decode cX7_step 57 = .ok (.bipush (-4), 2) := dk_16 252 (dk_at dksX7_step_2 10 rfl rfl)
theorem dX7_step_59 : decode cX7_step 59 = .ok (.if_icmp .ne 11, 3) := dk_160 0 11 (dk_at dksX7_step_2 12 rfl rfl)
theorem dX7_step_62 : decode cX7_step 62 = .ok (.aload_n 0, 1) := dk_42 (dk_at dksX7_step_2 15 rfl rfl)
theorem dX7_step_63 : decode cX7_step 63 = .ok (.iconst 0, 1) := dk_3 (dk_at dksX7_step_2 16 rfl rfl)
theorem dX7_step_64 : decode cX7_step 64 = .ok (.putfield 63, 3) := dk_181 0 63 (dk_at dksX7_step_2 17 rfl rfl)
theorem dX7_step_67 : decode cX7_step 67 = .ok (.goto 202, 3) := dk_167 0 202 (dk_at dksX7_step_2 20 rfl rfl)
theorem dX7_step_70 : decode cX7_step 70 = .ok (.iload_n 1, 1) := dk_27 (dk_at dksX7_step_2 23 rfl rfl)
theorem dX7_step_71 : decode cX7_step 71 = .ok (.i2l, 1) := dk_133 (dk_at dksX7_step_3 0 rfl rfl)
theorem dX7_step_72 : decode cX7_step 72 = .ok (.ldc2_w 76, 3) := dk_20 0 76 (dk_at dksX7_step_3 1 rfl rfl)
theorem dX7_step_75 : decode cX7_step 75 = .ok (.ldc2_w 78, 3) := dk_20 0 78 (dk_at dksX7_step_3 4 rfl rfl)
theorem dX7_step_78 : decode cX7_step 78 = .ok (.invokestatic 46, 3) := dk_184 0 46 (dk_at dksX7_step_3 7 rfl rfl)
theorem dX7_step_81 : decode cX7_step 81 = .ok (.ifCond .eq 45, 3) := dk_153 0 45 (dk_at dksX7_step_3 10 rfl rfl)
theorem dX7_step_84 : decode cX7_step 84 = .ok (.aload_n 0, 1) := dk_42 (dk_at dksX7_step_3 13 rfl rfl)
theorem dX7_step_85 : decode cX7_step 85 = .ok (.aload_n 0, 1) := dk_42 (dk_at dksX7_step_3 14 rfl rfl)
theorem dX7_step_86 : decode cX7_step 86 = .ok (.getfield 66, 3) := dk_180 0 66 (dk_at dksX7_step_3 15 rfl rfl)
theorem dX7_step_89 : decode cX7_step 89 = .ok (.invokevirtual 69, 3) := dk_182 0 69 (dk_at dksX7_step_3 18 rfl rfl)
theorem dX7_step_92 : decode cX7_step 92 = .ok (.i2l, 1) := dk_133 (dk_at dksX7_step_3 21 rfl rfl)
theorem dX7_step_93 : decode cX7_step 93 = .ok (.ldc2_w 76, 3) := dk_20 0 76 (dk_at dksX7_step_4 0 rfl rfl)
theorem dX7_step_96 : decode cX7_step 96 = .ok (.ldc2_w 78, 3) := dk_20 0 78 (dk_at dksX7_step_4 3 rfl rfl)
theorem dX7_step_99 : decode cX7_step 99 = .ok (.invokestatic 46, 3) := dk_184 0 46 (dk_at dksX7_step_4 6 rfl rfl)
theorem dX7_step_102 : decode cX7_step 102 = .ok (.ifCond .eq 16, 3) := dk_153 0 16 (dk_at dksX7_step_4 9 rfl rfl)
theorem dX7_step_105 : decode cX7_step 105 = .ok (.aload_n 0, 1) := dk_42 (dk_at dksX7_step_4 12 rfl rfl)
theorem dX7_step_106 : decode cX7_step 106 = .ok (.dup, 1) := dk_89 (dk_at dksX7_step_4 13 rfl rfl)
theorem dX7_step_107 : decode cX7_step 107 = .ok (.getfield 66, 3) := dk_180 0 66 (dk_at dksX7_step_4 14 rfl rfl)
theorem dX7_step_110 : decode cX7_step 110 = .ok (.iconst 1, 1) := dk_4 (dk_at dksX7_step_4 17 rfl rfl)
theorem dX7_step_111 : decode cX7_step 111 = .ok (.iadd, 1) := dk_96 (dk_at dksX7_step_4 18 rfl rfl)
theorem dX7_step_112 : decode cX7_step 112 = .ok (.putfield 66, 3) := dk_181 0 66 (dk_at dksX7_step_4 19 rfl rfl)
theorem dX7_step_115 : decode cX7_step 115 = .ok (.goto (-31), 3) := dk_167 255 225 (dk_at dksX7_step_5 0 rfl rfl)
theorem dX7_step_118 : decode cX7_step 118 = .ok (.aload_n 0, 1) := dk_42 (dk_at dksX7_step_5 3 rfl rfl)
theorem dX7_step_119 : decode cX7_step 119 = .ok (.iconst 1, 1) := dk_4 (dk_at dksX7_step_5 4 rfl rfl)
theorem dX7_step_120 : decode cX7_step 120 = .ok (.putfield 63, 3) := dk_181 0 63 (dk_at dksX7_step_5 5 rfl rfl)
theorem dX7_step_123 : decode cX7_step 123 = .ok (.goto 146, 3) := dk_167 0 146 (dk_at dksX7_step_5 8 rfl rfl)
theorem dX7_step_126 : decode cX7_step 126 = .ok (.iload_n 1, 1) := dk_27 (dk_at dksX7_step_5 11 rfl rfl)
theorem dX7_step_127 : decode cX7_step 127 = .ok (.i2l, 1) := dk_133 (dk_at dksX7_step_5 12 rfl rfl)
theorem dX7_step_128 : decode cX7_step 128 = .ok (.ldc2_w 80, 3) := dk_20 0 80 (dk_at dksX7_step_5 13 rfl rfl)
theorem dX7_step_131 : decode cX7_step 131 = .ok (.ldc2_w 82, 3) := dk_20 0 82 (dk_at dksX7_step_5 16 rfl rfl)
theorem dX7_step_134 : decode cX7_step 134 = .ok (.invokestatic 46, 3) := dk_184 0 46 (dk_at dksX7_step_5 19 rfl rfl)
theorem dX7_step_137 : decode cX7_step 137 = .ok (.ifCond .eq 106, 3) := dk_153 0 106 (dk_at dksX7_step_6 0 rfl rfl)
theorem dX7_step_140 : decode cX7_step 140 = .ok (.aload_n 0, 1) := dk_42 (dk_at dksX7_step_6 3 rfl rfl)
theorem dX7_step_141 : decode cX7_step 141 = .ok (.aload_n 0, 1) := dk_42 (dk_at dksX7_step_6 4 rfl rfl)
theorem dX7_step_142 : decode cX7_step 142 = .ok (.getfield 66, 3) := dk_180 0 66 (dk_at dksX7_step_6 5 rfl rfl)
theorem dX7_step_145 : decode cX7_step 145 = .ok (.invokevirtual 69, 3) := dk_182 0 69 (dk_at dksX7_step_6 8 rfl rfl)
theorem dX7_step_148 : decode cX7_step 148 = .ok (.i2l, 1) := dk_133 (dk_at dksX7_step_6 11 rfl rfl)
theorem dX7_step_149 : decode cX7_step 149 = .ok (.ldc2_w 80, 3) := dk_20 0 80 (dk_at dksX7_step_6 12 rfl rfl)
theorem dX7_step_152 : decode cX7_step 152 = .ok (.ldc2_w 82, 3) := dk_20 0 82 (dk_at dksX7_step_6 15 rfl rfl)
theorem dX7_step_155 : decode cX7_step 155 = .ok (.invokestatic 46, 3) := dk_184 0 46 (dk_at dksX7_step_6 18 rfl rfl)
theorem dX7_step_158 : decode cX7_step 158 = .ok (.ifCond .eq 59, 3) := dk_153 0 59 (dk_at dksX7_step_6 21 rfl rfl)
theorem dX7_step_161 : decode cX7_step 161 = .ok (.aload_n 0, 1) := dk_42 (dk_at dksX7_step_7 0 rfl rfl)
theorem dX7_step_162 : decode cX7_step 162 = .ok (.aload_n 0, 1) := dk_42 (dk_at dksX7_step_7 1 rfl rfl)
theorem dX7_step_163 : decode cX7_step 163 = .ok (.getfield 66, 3) := dk_180 0 66 (dk_at dksX7_step_7 2 rfl rfl)
theorem dX7_step_166 : decode cX7_step 166 = .ok (.aload_n 0, 1) := dk_42 (dk_at dksX7_step_7 5 rfl rfl)
theorem dX7_step_167 : decode cX7_step 167 = .ok (.getfield 57, 3) := dk_180 0 57 (dk_at dksX7_step_7 6 rfl rfl)
theorem dX7_step_170 : decode cX7_step 170 = .ok (.isub, 1) := dk_100 (dk_at dksX7_step_7 9 rfl rfl)
theorem dX7_step_171 : decode cX7_step 171 = .ok (.iconst 2, 1) := dk_5 (dk_at dksX7_step_7 10 rfl rfl)
theorem dX7_step_172 : decode cX7_step 172 = .ok (.if_icmp .ge 25, 3) := dk_162 0 25 (dk_at dksX7_step_7 11 rfl rfl)
theorem dX7_step_175 : decode cX7_step 175 = .ok (.bipush 10, 2) := dk_16 10 (dk_at dksX7_step_7 14 rfl rfl)
theorem dX7_step_177 : decode cX7_step 177 = .ok (.aload_n 0, 1) := dk_42 (dk_at dksX7_step_7 16 rfl rfl)
theorem dX7_step_178 : decode cX7_step 178 = .ok (.getfield 73, 3) := dk_180 0 73 (dk_at dksX7_step_7 17 rfl rfl)
theorem dX7_step_181 : decode cX7_step 181 = .ok (.imul, 1) := dk_104 (dk_at dksX7_step_7 20 rfl rfl)
theorem dX7_step_182 : decode cX7_step 182 = .ok (.aload_n 0, 1) := dk_42 (dk_at dksX7_step_7 21 rfl rfl)
theorem dX7_step_183 : decode cX7_step 183 = .ok (.aload_n 0, 1) := dk_42 (dk_at dksX7_step_7 22 rfl rfl)
theorem dX7_step_184 : decode cX7_step 184 = .ok (.getfield 66, 3) := dk_180 0 66 (dk_at dksX7_step_8 0 rfl rfl)
theorem dX7_step_187 : decode cX7_step 187 = .ok (.invokevirtual 69, 3) := dk_182 0 69 (dk_at dksX7_step_8 3 rfl rfl)
theorem dX7_step_190 : decode cX7_step 190 = .ok (.iadd, 1) := dk_96 (dk_at dksX7_step_8 6 rfl rfl)
theorem dX7_step_191 : decode cX7_step 191 = .ok (.bipush 48, 2) := dk_16 48 (dk_at dksX7_step_8 7 rfl rfl)
theorem dX7_step_193 : decode cX7_step 193 = .ok (.isub, 1) := dk_100 (dk_at dksX7_step_8 9 rfl rfl)
theorem dX7_step_194 : decode cX7_step 194 = .ok (.goto 7, 3) := dk_167 0 7 (dk_at dksX7_step_8 10 rfl rfl)
theorem dX7_step_197 : decode cX7_step 197 = .ok (.aload_n 0, 1) := dk_42 (dk_at dksX7_step_8 13 rfl rfl)
theorem dX7_step_198 : decode cX7_step 198 = .ok (.getfield 73, 3) := dk_180 0 73 (dk_at dksX7_step_8 14 rfl rfl)
theorem dX7_step_201 : decode cX7_step 201 = .ok (.putfield 73, 3) := dk_181 0 73 (dk_at dksX7_step_8 17 rfl rfl)
theorem dX7_step_204 : decode cX7_step 204 = .ok (.aload_n 0, 1) := dk_42 (dk_at dksX7_step_8 20 rfl rfl)
theorem dX7_step_205 : decode cX7_step 205 = .ok (.dup, 1) := dk_89 (dk_at dksX7_step_8 21 rfl rfl)
theorem dX7_step_206 : decode cX7_step 206 = .ok (.getfield 66, 3) := dk_180 0 66 (dk_at dksX7_step_9 0 rfl rfl)
theorem dX7_step_209 : decode cX7_step 209 = .ok (.iconst 1, 1) := dk_4 (dk_at dksX7_step_9 3 rfl rfl)
theorem dX7_step_210 : decode cX7_step 210 = .ok (.iadd, 1) := dk_96 (dk_at dksX7_step_9 4 rfl rfl)
theorem dX7_step_211 : decode cX7_step 211 = .ok (.putfield 66, 3) := dk_181 0 66 (dk_at dksX7_step_9 5 rfl rfl)
theorem dX7_step_214 : decode cX7_step 214 = .ok (.goto (-74), 3) := dk_167 255 182 (dk_at dksX7_step_9 8 rfl rfl)
theorem dX7_step_217 : decode cX7_step 217 = .ok (.aload_n 0, 1) := dk_42 (dk_at dksX7_step_9 11 rfl rfl)
theorem dX7_step_218 : decode cX7_step 218 = .ok (.iconst 2, 1) := dk_5 (dk_at dksX7_step_9 12 rfl rfl)
theorem dX7_step_219 : decode cX7_step 219 = .ok (.putfield 63, 3) := dk_181 0 63 (dk_at dksX7_step_9 13 rfl rfl)
theorem dX7_step_222 : decode cX7_step 222 = .ok (.aload_n 0, 1) := dk_42 (dk_at dksX7_step_9 16 rfl rfl)
theorem dX7_step_223 : decode cX7_step 223 = .ok (.getfield 66, 3) := dk_180 0 66 (dk_at dksX7_step_9 17 rfl rfl)
theorem dX7_step_226 : decode cX7_step 226 = .ok (.aload_n 0, 1) := dk_42 (dk_at dksX7_step_9 20 rfl rfl)
theorem dX7_step_227 : decode cX7_step 227 = .ok (.getfield 57, 3) := dk_180 0 57 (dk_at dksX7_step_9 21 rfl rfl)
theorem dX7_step_230 : decode cX7_step 230 = .ok (.isub, 1) := dk_100 (dk_at dksX7_step_10 0 rfl rfl)
theorem dX7_step_231 : decode cX7_step 231 = .ok (.iconst 2, 1) := dk_5 (dk_at dksX7_step_10 1 rfl rfl)
theorem dX7_step_232 : decode cX7_step 232 = .ok (.if_icmp .le 37, 3) := dk_164 0 37 (dk_at dksX7_step_10 2 rfl rfl)
theorem dX7_step_235 : decode cX7_step 235 = .ok (.aload_n 0, 1) := dk_42 (dk_at dksX7_step_10 5 rfl rfl)
theorem dX7_step_236 : decode cX7_step 236 = .ok (.iconst 1, 1) := dk_4 (dk_at dksX7_step_10 6 rfl rfl)
theorem dX7_step_237 : decode cX7_step 237 = .ok (.invokevirtual 84, 3) := dk_182 0 84 (dk_at dksX7_step_10 7 rfl rfl)
theorem dX7_step_240 : decode cX7_step 240 = .ok (.goto 29, 3) := dk_167 0 29 (dk_at dksX7_step_10 10 rfl rfl)
theorem dX7_step_243 : decode cX7_step 243 = .ok (.aload_n 0, 1) := dk_42 (dk_at dksX7_step_10 13 rfl rfl)
theorem dX7_step_244 : decode cX7_step 244 = .ok (.iconst 3, 1) := dk_6 (dk_at dksX7_step_10 14 rfl rfl)
theorem dX7_step_245 : decode cX7_step 245 = .ok (.putfield 63, 3) := dk_181 0 63 (dk_at dksX7_step_10 15 rfl rfl)
theorem dX7_step_248 : decode cX7_step 248 = .ok (.aload_n 0, 1) := dk_42 (dk_at dksX7_step_10 18 rfl rfl)
theorem dX7_step_249 : decode cX7_step 249 = .ok (.dup, 1) := dk_89 (dk_at dksX7_step_10 19 rfl rfl)
theorem dX7_step_250 : decode cX7_step 250 = .ok (.getfield 66, 3) := dk_180 0 66 (dk_at dksX7_step_10 20 rfl rfl)
theorem dX7_step_253 : decode cX7_step 253 = .ok (.iconst 1, 1) := dk_4 (dk_at dksX7_step_10 23 rfl rfl)
theorem dX7_step_254 : decode cX7_step 254 = .ok (.iadd, 1) := dk_96 (dk_at dksX7_step_11 0 rfl rfl)
theorem dX7_step_255 : decode cX7_step 255 = .ok (.putfield 66, 3) := dk_181 0 66 (dk_at dksX7_step_11 1 rfl rfl)
theorem dX7_step_258 : decode cX7_step 258 = .ok (.iload_n 1, 1) := dk_27 (dk_at dksX7_step_11 4 rfl rfl)
theorem dX7_step_259 : decode cX7_step 259 = .ok (.bipush 59, 2) := dk_16 59 (dk_at dksX7_step_11 5 rfl rfl)
theorem dX7_step_261 : decode cX7_step 261 = .ok (.if_icmp .eq 8, 3) := dk_159 0 8 (dk_at dksX7_step_11 7 rfl rfl)
theorem dX7_step_264 : decode cX7_step 264 = .ok (.aload_n 0, 1) := dk_42 (dk_at dksX7_step_11 10 rfl rfl)
theorem dX7_step_265 : decode cX7_step 265 = .ok (.iconst 1, 1) := dk_4 (dk_at dksX7_step_11 11 rfl rfl)
theorem dX7_step_266 : decode cX7_step 266 = .ok (.invokevirtual 84, 3) := dk_182 0 84 (dk_at dksX7_step_11 12 rfl rfl)
theorem dX7_step_269 : decode cX7_step 269 = .ok (.return_, 1) := dk_177 (dk_at dksX7_step_11 15 rfl rfl)
abbrev cX7_byteAt : ByteArray := prog_11_method_6_code
def yX7_byteAt : MethodName := ⟨RX7, "byteAt", "(I)I"⟩
def dkwX7_byteAt_0 : List UInt8 := [27, 42, 180, 0, 50, 162, 0, 12, 42, 180, 0, 16, 27, 46, 167, 0, 5, 16, 252, 172]
abbrev dktX7_byteAt_0 : List UInt8 := dkwX7_byteAt_0 ++ []
theorem dksX7_byteAt_0 : cX7_byteAt.data.toList.drop 0 = dktX7_byteAt_0 := by decide +kernel
theorem dX7_byteAt_0 : decode cX7_byteAt 0 = .ok (.iload_n 1, 1) := dk_27 (dk_at dksX7_byteAt_0 0 rfl rfl)
theorem dX7_byteAt_1 : decode cX7_byteAt 1 = .ok (.aload_n 0, 1) := dk_42 (dk_at dksX7_byteAt_0 1 rfl rfl)
theorem dX7_byteAt_2 : decode cX7_byteAt 2 = .ok (.getfield 50, 3) := dk_180 0 50 (dk_at dksX7_byteAt_0 2 rfl rfl)
theorem dX7_byteAt_5 : decode cX7_byteAt 5 = .ok (.if_icmp .ge 12, 3) := dk_162 0 12 (dk_at dksX7_byteAt_0 5 rfl rfl)
theorem dX7_byteAt_8 : decode cX7_byteAt 8 = .ok (.aload_n 0, 1) := dk_42 (dk_at dksX7_byteAt_0 8 rfl rfl)
theorem dX7_byteAt_9 : decode cX7_byteAt 9 = .ok (.getfield 16, 3) := dk_180 0 16 (dk_at dksX7_byteAt_0 9 rfl rfl)
theorem dX7_byteAt_12 : decode cX7_byteAt 12 = .ok (.iload_n 1, 1) := dk_27 (dk_at dksX7_byteAt_0 12 rfl rfl)
theorem dX7_byteAt_13 : decode cX7_byteAt 13 = .ok (.iaload, 1) := dk_46 (dk_at dksX7_byteAt_0 13 rfl rfl)
theorem dX7_byteAt_14 : decode cX7_byteAt 14 = .ok (.goto 5, 3) := dk_167 0 5 (dk_at dksX7_byteAt_0 14 rfl rfl)
theorem dX7_byteAt_17 : decode cX7_byteAt 17 = .ok (.bipush (-4), 2) := dk_16 252 (dk_at dksX7_byteAt_0 17 rfl rfl)
theorem dX7_byteAt_19 : decode cX7_byteAt 19 = .ok (.ireturn, 1) := dk_172 (dk_at dksX7_byteAt_0 19 rfl rfl)
abbrev cX7_fails : ByteArray := prog_11_method_7_code
def yX7_fails : MethodName := ⟨RX7, "fails", "(I)V"⟩
def dkwX7_fails_0 : List UInt8 := [42, 180, 0, 54, 154, 0, 16, 42, 27, 181, 0, 54, 42, 42, 180, 0, 57, 181, 0, 60, 177]
abbrev dktX7_fails_0 : List UInt8 := dkwX7_fails_0 ++ []
theorem dksX7_fails_0 : cX7_fails.data.toList.drop 0 = dktX7_fails_0 := by decide +kernel
theorem dX7_fails_0 : decode cX7_fails 0 = .ok (.aload_n 0, 1) := dk_42 (dk_at dksX7_fails_0 0 rfl rfl)
theorem dX7_fails_1 : decode cX7_fails 1 = .ok (.getfield 54, 3) := dk_180 0 54 (dk_at dksX7_fails_0 1 rfl rfl)
theorem dX7_fails_4 : decode cX7_fails 4 = .ok (.ifCond .ne 16, 3) := dk_154 0 16 (dk_at dksX7_fails_0 4 rfl rfl)
theorem dX7_fails_7 : decode cX7_fails 7 = .ok (.aload_n 0, 1) := dk_42 (dk_at dksX7_fails_0 7 rfl rfl)
theorem dX7_fails_8 : decode cX7_fails 8 = .ok (.iload_n 1, 1) := dk_27 (dk_at dksX7_fails_0 8 rfl rfl)
theorem dX7_fails_9 : decode cX7_fails 9 = .ok (.putfield 54, 3) := dk_181 0 54 (dk_at dksX7_fails_0 9 rfl rfl)
theorem dX7_fails_12 : decode cX7_fails 12 = .ok (.aload_n 0, 1) := dk_42 (dk_at dksX7_fails_0 12 rfl rfl)
theorem dX7_fails_13 : decode cX7_fails 13 = .ok (.aload_n 0, 1) := dk_42 (dk_at dksX7_fails_0 13 rfl rfl)
theorem dX7_fails_14 : decode cX7_fails 14 = .ok (.getfield 57, 3) := dk_180 0 57 (dk_at dksX7_fails_0 14 rfl rfl)
theorem dX7_fails_17 : decode cX7_fails 17 = .ok (.putfield 60, 3) := dk_181 0 60 (dk_at dksX7_fails_0 17 rfl rfl)
theorem dX7_fails_20 : decode cX7_fails 20 = .ok (.return_, 1) := dk_177 (dk_at dksX7_fails_0 20 rfl rfl)
abbrev cX7_readLine : ByteArray := prog_11_method_14_code
def yX7_readLine : MethodName := ⟨RX7, "readLine", "()V"⟩
def dkwX7_readLine_7 : List UInt8 := [5, 182, 0, 84, 42, 182, 0, 88, 177]
abbrev dktX7_readLine_7 : List UInt8 := dkwX7_readLine_7 ++ []
def dkwX7_readLine_6 : List UInt8 := [79, 167, 0, 7, 42, 182, 0, 117, 42, 180, 0, 54, 154, 0, 16, 42, 180, 0, 63, 6, 159, 0, 8, 42]
abbrev dktX7_readLine_6 : List UInt8 := dkwX7_readLine_6 ++ dktX7_readLine_7
def dkwX7_readLine_5 : List UInt8 := [167, 0, 32, 27, 7, 160, 0, 23, 42, 180, 0, 13, 16, 20, 42, 3, 16, 50, 182, 0, 91, 16, 40, 100]
abbrev dktX7_readLine_5 : List UInt8 := dkwX7_readLine_5 ++ dktX7_readLine_6
def dkwX7_readLine_4 : List UInt8 := [42, 182, 0, 88, 42, 180, 0, 54, 158, 0, 4, 177, 27, 6, 163, 0, 11, 42, 27, 182, 0, 114]
abbrev dktX7_readLine_4 : List UInt8 := dkwX7_readLine_4 ++ dktX7_readLine_5
def dkwX7_readLine_3 : List UInt8 := [182, 0, 84, 42, 42, 180, 0, 110, 154, 0, 8, 27, 7, 160, 0, 7, 4, 167, 0, 4, 3, 181, 0, 110]
abbrev dktX7_readLine_3 : List UInt8 := dkwX7_readLine_3 ++ dktX7_readLine_4
def dkwX7_readLine_2 : List UInt8 := [16, 6, 160, 0, 8, 42, 8, 182, 0, 84, 27, 7, 160, 0, 15, 42, 180, 0, 110, 153, 0, 8, 42, 7]
abbrev dktX7_readLine_2 : List UInt8 := dkwX7_readLine_2 ++ dktX7_readLine_3
def dkwX7_readLine_1 : List UInt8 := [6, 163, 0, 11, 42, 180, 0, 98, 8, 159, 0, 20, 27, 8, 160, 0, 20, 42, 180, 0, 13, 16, 66, 46]
abbrev dktX7_readLine_1 : List UInt8 := dkwX7_readLine_1 ++ dktX7_readLine_2
def dkwX7_readLine_0 : List UInt8 := [42, 182, 0, 105, 60, 27, 133, 9, 20, 0, 108, 184, 0, 46, 154, 0, 9, 42, 5, 182, 0, 84, 177, 27]
abbrev dktX7_readLine_0 : List UInt8 := dkwX7_readLine_0 ++ dktX7_readLine_1
theorem dksX7_readLine_0 : cX7_readLine.data.toList.drop 0 = dktX7_readLine_0 := by decide +kernel
theorem dksX7_readLine_1 : cX7_readLine.data.toList.drop 24 = dktX7_readLine_1 := dk_seg dksX7_readLine_0 24 rfl rfl
theorem dksX7_readLine_2 : cX7_readLine.data.toList.drop 48 = dktX7_readLine_2 := dk_seg dksX7_readLine_1 24 rfl rfl
theorem dksX7_readLine_3 : cX7_readLine.data.toList.drop 72 = dktX7_readLine_3 := dk_seg dksX7_readLine_2 24 rfl rfl
theorem dksX7_readLine_4 : cX7_readLine.data.toList.drop 96 = dktX7_readLine_4 := dk_seg dksX7_readLine_3 24 rfl rfl
theorem dksX7_readLine_5 : cX7_readLine.data.toList.drop 118 = dktX7_readLine_5 := dk_seg dksX7_readLine_4 22 rfl rfl
theorem dksX7_readLine_6 : cX7_readLine.data.toList.drop 142 = dktX7_readLine_6 := dk_seg dksX7_readLine_5 24 rfl rfl
theorem dksX7_readLine_7 : cX7_readLine.data.toList.drop 166 = dktX7_readLine_7 := dk_seg dksX7_readLine_6 24 rfl rfl
theorem dX7_readLine_0 : decode cX7_readLine 0 = .ok (.aload_n 0, 1) := dk_42 (dk_at dksX7_readLine_0 0 rfl rfl)
theorem dX7_readLine_1 : decode cX7_readLine 1 = .ok (.invokevirtual 105, 3) := dk_182 0 105 (dk_at dksX7_readLine_0 1 rfl rfl)
theorem dX7_readLine_4 : decode cX7_readLine 4 = .ok (.istore_n 1, 1) := dk_60 (dk_at dksX7_readLine_0 4 rfl rfl)
theorem dX7_readLine_5 : decode cX7_readLine 5 = .ok (.iload_n 1, 1) := dk_27 (dk_at dksX7_readLine_0 5 rfl rfl)
theorem dX7_readLine_6 : decode cX7_readLine 6 = .ok (.i2l, 1) := dk_133 (dk_at dksX7_readLine_0 6 rfl rfl)
theorem dX7_readLine_7 : decode cX7_readLine 7 = .ok (.lconst 0, 1) := dk_9 (dk_at dksX7_readLine_0 7 rfl rfl)
theorem dX7_readLine_8 : decode cX7_readLine 8 = .ok (.ldc2_w 108, 3) := dk_20 0 108 (dk_at dksX7_readLine_0 8 rfl rfl)
theorem dX7_readLine_11 : decode cX7_readLine 11 = .ok (.invokestatic 46, 3) := dk_184 0 46 (dk_at dksX7_readLine_0 11 rfl rfl)
theorem dX7_readLine_14 : decode cX7_readLine 14 = .ok (.ifCond .ne 9, 3) := dk_154 0 9 (dk_at dksX7_readLine_0 14 rfl rfl)
theorem dX7_readLine_17 : decode cX7_readLine 17 = .ok (.aload_n 0, 1) := dk_42 (dk_at dksX7_readLine_0 17 rfl rfl)
theorem dX7_readLine_18 : decode cX7_readLine 18 = .ok (.iconst 2, 1) := dk_5 (dk_at dksX7_readLine_0 18 rfl rfl)
theorem dX7_readLine_19 : decode cX7_readLine 19 = .ok (.invokevirtual 84, 3) := dk_182 0 84 (dk_at dksX7_readLine_0 19 rfl rfl)
theorem dX7_readLine_22 : decode cX7_readLine 22 = .ok (.return_, 1) := dk_177 (dk_at dksX7_readLine_0 22 rfl rfl)
theorem dX7_readLine_23 : decode cX7_readLine 23 = .ok (.iload_n 1, 1) := dk_27 (dk_at dksX7_readLine_0 23 rfl rfl)
theorem dX7_readLine_24 : decode cX7_readLine 24 = .ok (.iconst 3, 1) := dk_6 (dk_at dksX7_readLine_1 0 rfl rfl)
theorem dX7_readLine_25 : decode cX7_readLine 25 = .ok (.if_icmp .gt 11, 3) := dk_163 0 11 (dk_at dksX7_readLine_1 1 rfl rfl)
theorem dX7_readLine_28 : decode cX7_readLine 28 = .ok (.aload_n 0, 1) := dk_42 (dk_at dksX7_readLine_1 4 rfl rfl)
theorem dX7_readLine_29 : decode cX7_readLine 29 = .ok (.getfield 98, 3) := dk_180 0 98 (dk_at dksX7_readLine_1 5 rfl rfl)
theorem dX7_readLine_32 : decode cX7_readLine 32 = .ok (.iconst 5, 1) := dk_8 (dk_at dksX7_readLine_1 8 rfl rfl)
theorem dX7_readLine_33 : decode cX7_readLine 33 = .ok (.if_icmp .eq 20, 3) := dk_159 0 20 (dk_at dksX7_readLine_1 9 rfl rfl)
theorem dX7_readLine_36 : decode cX7_readLine 36 = .ok (.iload_n 1, 1) := dk_27 (dk_at dksX7_readLine_1 12 rfl rfl)
theorem dX7_readLine_37 : decode cX7_readLine 37 = .ok (.iconst 5, 1) := dk_8 (dk_at dksX7_readLine_1 13 rfl rfl)
theorem dX7_readLine_38 : decode cX7_readLine 38 = .ok (.if_icmp .ne 20, 3) := dk_160 0 20 (dk_at dksX7_readLine_1 14 rfl rfl)
theorem dX7_readLine_41 : decode cX7_readLine 41 = .ok (.aload_n 0, 1) := dk_42 (dk_at dksX7_readLine_1 17 rfl rfl)
theorem dX7_readLine_42 : decode cX7_readLine 42 = .ok (.getfield 13, 3) := dk_180 0 13 (dk_at dksX7_readLine_1 18 rfl rfl)
theorem dX7_readLine_45 : decode cX7_readLine 45 = .ok (.bipush 66, 2) := dk_16 66 (dk_at dksX7_readLine_1 21 rfl rfl)
theorem dX7_readLine_47 : decode cX7_readLine 47 = .ok (.iaload, 1) := dk_46 (dk_at dksX7_readLine_1 23 rfl rfl)
theorem dX7_readLine_48 : decode cX7_readLine 48 = .ok (.bipush 6, 2) := dk_16 6 (dk_at dksX7_readLine_2 0 rfl rfl)
theorem dX7_readLine_50 : decode cX7_readLine 50 = .ok (.if_icmp .ne 8, 3) := dk_160 0 8 (dk_at dksX7_readLine_2 2 rfl rfl)
theorem dX7_readLine_53 : decode cX7_readLine 53 = .ok (.aload_n 0, 1) := dk_42 (dk_at dksX7_readLine_2 5 rfl rfl)
theorem dX7_readLine_54 : decode cX7_readLine 54 = .ok (.iconst 5, 1) := dk_8 (dk_at dksX7_readLine_2 6 rfl rfl)
theorem dX7_readLine_55 : decode cX7_readLine 55 = .ok (.invokevirtual 84, 3) := dk_182 0 84 (dk_at dksX7_readLine_2 7 rfl rfl)
theorem dX7_readLine_58 : decode cX7_readLine 58 = .ok (.iload_n 1, 1) := dk_27 (dk_at dksX7_readLine_2 10 rfl rfl)
theorem dX7_readLine_59 : decode cX7_readLine 59 = .ok (.iconst 4, 1) := dk_7 (dk_at dksX7_readLine_2 11 rfl rfl)
theorem dX7_readLine_60 : decode cX7_readLine 60 = .ok (.if_icmp .ne 15, 3) := dk_160 0 15 (dk_at dksX7_readLine_2 12 rfl rfl)
theorem dX7_readLine_63 : decode cX7_readLine 63 = .ok (.aload_n 0, 1) := dk_42 (dk_at dksX7_readLine_2 15 rfl rfl)
theorem dX7_readLine_64 : decode cX7_readLine 64 = .ok (.getfield 110, 3) := dk_180 0 110 (dk_at dksX7_readLine_2 16 rfl rfl)
theorem dX7_readLine_67 : decode cX7_readLine 67 = .ok (.ifCond .eq 8, 3) := dk_153 0 8 (dk_at dksX7_readLine_2 19 rfl rfl)
theorem dX7_readLine_70 : decode cX7_readLine 70 = .ok (.aload_n 0, 1) := dk_42 (dk_at dksX7_readLine_2 22 rfl rfl)
theorem dX7_readLine_71 : decode cX7_readLine 71 = .ok (.iconst 4, 1) := dk_7 (dk_at dksX7_readLine_2 23 rfl rfl)
theorem dX7_readLine_72 : decode cX7_readLine 72 = .ok (.invokevirtual 84, 3) := dk_182 0 84 (dk_at dksX7_readLine_3 0 rfl rfl)
theorem dX7_readLine_75 : decode cX7_readLine 75 = .ok (.aload_n 0, 1) := dk_42 (dk_at dksX7_readLine_3 3 rfl rfl)
theorem dX7_readLine_76 : decode cX7_readLine 76 = .ok (.aload_n 0, 1) := dk_42 (dk_at dksX7_readLine_3 4 rfl rfl)
theorem dX7_readLine_77 : decode cX7_readLine 77 = .ok (.getfield 110, 3) := dk_180 0 110 (dk_at dksX7_readLine_3 5 rfl rfl)
theorem dX7_readLine_80 : decode cX7_readLine 80 = .ok (.ifCond .ne 8, 3) := dk_154 0 8 (dk_at dksX7_readLine_3 8 rfl rfl)
theorem dX7_readLine_83 : decode cX7_readLine 83 = .ok (.iload_n 1, 1) := dk_27 (dk_at dksX7_readLine_3 11 rfl rfl)
theorem dX7_readLine_84 : decode cX7_readLine 84 = .ok (.iconst 4, 1) := dk_7 (dk_at dksX7_readLine_3 12 rfl rfl)
theorem dX7_readLine_85 : decode cX7_readLine 85 = .ok (.if_icmp .ne 7, 3) := dk_160 0 7 (dk_at dksX7_readLine_3 13 rfl rfl)
theorem dX7_readLine_88 : decode cX7_readLine 88 = .ok (.iconst 1, 1) := dk_4 (dk_at dksX7_readLine_3 16 rfl rfl)
theorem dX7_readLine_89 : decode cX7_readLine 89 = .ok (.goto 4, 3) := dk_167 0 4 (dk_at dksX7_readLine_3 17 rfl rfl)
theorem dX7_readLine_92 : decode cX7_readLine 92 = .ok (.iconst 0, 1) := dk_3 (dk_at dksX7_readLine_3 20 rfl rfl)
theorem dX7_readLine_93 : decode cX7_readLine 93 = .ok (.putfield 110, 3) := dk_181 0 110 (dk_at dksX7_readLine_3 21 rfl rfl)
theorem dX7_readLine_96 : decode cX7_readLine 96 = .ok (.aload_n 0, 1) := dk_42 (dk_at dksX7_readLine_4 0 rfl rfl)
theorem dX7_readLine_97 : decode cX7_readLine 97 = .ok (.invokevirtual 88, 3) := dk_182 0 88 (dk_at dksX7_readLine_4 1 rfl rfl)
theorem dX7_readLine_100 : decode cX7_readLine 100 = .ok (.aload_n 0, 1) := dk_42 (dk_at dksX7_readLine_4 4 rfl rfl)
theorem dX7_readLine_101 : decode cX7_readLine 101 = .ok (.getfield 54, 3) := dk_180 0 54 (dk_at dksX7_readLine_4 5 rfl rfl)
theorem dX7_readLine_104 : decode cX7_readLine 104 = .ok (.ifCond .le 4, 3) := dk_158 0 4 (dk_at dksX7_readLine_4 8 rfl rfl)
theorem dX7_readLine_107 : decode cX7_readLine 107 = .ok (.return_, 1) := dk_177 (dk_at dksX7_readLine_4 11 rfl rfl)
theorem dX7_readLine_108 : decode cX7_readLine 108 = .ok (.iload_n 1, 1) := dk_27 (dk_at dksX7_readLine_4 12 rfl rfl)
theorem dX7_readLine_109 : decode cX7_readLine 109 = .ok (.iconst 3, 1) := dk_6 (dk_at dksX7_readLine_4 13 rfl rfl)
theorem dX7_readLine_110 : decode cX7_readLine 110 = .ok (.if_icmp .gt 11, 3) := dk_163 0 11 (dk_at dksX7_readLine_4 14 rfl rfl)
theorem dX7_readLine_113 : decode cX7_readLine 113 = .ok (.aload_n 0, 1) := dk_42 (dk_at dksX7_readLine_4 17 rfl rfl)
theorem dX7_readLine_114 : decode cX7_readLine 114 = .ok (.iload_n 1, 1) := dk_27 (dk_at dksX7_readLine_4 18 rfl rfl)
theorem dX7_readLine_115 : decode cX7_readLine 115 = .ok (.invokevirtual 114, 3) := dk_182 0 114 (dk_at dksX7_readLine_4 19 rfl rfl)
theorem dX7_readLine_118 : decode cX7_readLine 118 = .ok (.goto 32, 3) := dk_167 0 32 (dk_at dksX7_readLine_5 0 rfl rfl)
theorem dX7_readLine_121 : decode cX7_readLine 121 = .ok (.iload_n 1, 1) := dk_27 (dk_at dksX7_readLine_5 3 rfl rfl)
theorem dX7_readLine_122 : decode cX7_readLine 122 = .ok (.iconst 4, 1) := dk_7 (dk_at dksX7_readLine_5 4 rfl rfl)
theorem dX7_readLine_123 : decode cX7_readLine 123 = .ok (.if_icmp .ne 23, 3) := dk_160 0 23 (dk_at dksX7_readLine_5 5 rfl rfl)
theorem dX7_readLine_126 : decode cX7_readLine 126 = .ok (.aload_n 0, 1) := dk_42 (dk_at dksX7_readLine_5 8 rfl rfl)
theorem dX7_readLine_127 : decode cX7_readLine 127 = .ok (.getfield 13, 3) := dk_180 0 13 (dk_at dksX7_readLine_5 9 rfl rfl)
theorem dX7_readLine_130 : decode cX7_readLine 130 = .ok (.bipush 20, 2) := dk_16 20 (dk_at dksX7_readLine_5 12 rfl rfl)
theorem dX7_readLine_132 : decode cX7_readLine 132 = .ok (.aload_n 0, 1) := dk_42 (dk_at dksX7_readLine_5 14 rfl rfl)
theorem dX7_readLine_133 : decode cX7_readLine 133 = .ok (.iconst 0, 1) := dk_3 (dk_at dksX7_readLine_5 15 rfl rfl)
theorem dX7_readLine_134 : decode cX7_readLine 134 = .ok (.bipush 50, 2) := dk_16 50 (dk_at dksX7_readLine_5 16 rfl rfl)
theorem dX7_readLine_136 : decode cX7_readLine 136 = .ok (.invokevirtual 91, 3) := dk_182 0 91 (dk_at dksX7_readLine_5 18 rfl rfl)
theorem dX7_readLine_139 : decode cX7_readLine 139 = .ok (.bipush 40, 2) := dk_16 40 (dk_at dksX7_readLine_5 21 rfl rfl)
theorem dX7_readLine_141 : decode cX7_readLine 141 = .ok (.isub, 1) := dk_100 (dk_at dksX7_readLine_5 23 rfl rfl)
theorem dX7_readLine_142 : decode cX7_readLine 142 = .ok (.iastore, 1) := dk_79 (dk_at dksX7_readLine_6 0 rfl rfl)
theorem dX7_readLine_143 : decode cX7_readLine 143 = .ok (.goto 7, 3) := dk_167 0 7 (dk_at dksX7_readLine_6 1 rfl rfl)
theorem dX7_readLine_146 : decode cX7_readLine 146 = .ok (.aload_n 0, 1) := dk_42 (dk_at dksX7_readLine_6 4 rfl rfl)
theorem dX7_readLine_147 : decode cX7_readLine 147 = .ok (.invokevirtual 117, 3) := dk_182 0 117 (dk_at dksX7_readLine_6 5 rfl rfl)
theorem dX7_readLine_150 : decode cX7_readLine 150 = .ok (.aload_n 0, 1) := dk_42 (dk_at dksX7_readLine_6 8 rfl rfl)
theorem dX7_readLine_151 : decode cX7_readLine 151 = .ok (.getfield 54, 3) := dk_180 0 54 (dk_at dksX7_readLine_6 9 rfl rfl)
theorem dX7_readLine_154 : decode cX7_readLine 154 = .ok (.ifCond .ne 16, 3) := dk_154 0 16 (dk_at dksX7_readLine_6 12 rfl rfl)
theorem dX7_readLine_157 : decode cX7_readLine 157 = .ok (.aload_n 0, 1) := dk_42 (dk_at dksX7_readLine_6 15 rfl rfl)
theorem dX7_readLine_158 : decode cX7_readLine 158 = .ok (.getfield 63, 3) := dk_180 0 63 (dk_at dksX7_readLine_6 16 rfl rfl)
theorem dX7_readLine_161 : decode cX7_readLine 161 = .ok (.iconst 3, 1) := dk_6 (dk_at dksX7_readLine_6 19 rfl rfl)
theorem dX7_readLine_162 : decode cX7_readLine 162 = .ok (.if_icmp .eq 8, 3) := dk_159 0 8 (dk_at dksX7_readLine_6 20 rfl rfl)
theorem dX7_readLine_165 : decode cX7_readLine 165 = .ok (.aload_n 0, 1) := dk_42 (dk_at dksX7_readLine_6 23 rfl rfl)
theorem dX7_readLine_166 : decode cX7_readLine 166 = .ok (.iconst 2, 1) := dk_5 (dk_at dksX7_readLine_7 0 rfl rfl)
theorem dX7_readLine_167 : decode cX7_readLine 167 = .ok (.invokevirtual 84, 3) := dk_182 0 84 (dk_at dksX7_readLine_7 1 rfl rfl)
theorem dX7_readLine_170 : decode cX7_readLine 170 = .ok (.aload_n 0, 1) := dk_42 (dk_at dksX7_readLine_7 4 rfl rfl)
theorem dX7_readLine_171 : decode cX7_readLine 171 = .ok (.invokevirtual 88, 3) := dk_182 0 88 (dk_at dksX7_readLine_7 5 rfl rfl)
theorem dX7_readLine_174 : decode cX7_readLine 174 = .ok (.return_, 1) := dk_177 (dk_at dksX7_readLine_7 8 rfl rfl)
abbrev cX7_nameHere : ByteArray := prog_11_method_8_code
def yX7_nameHere : MethodName := ⟨RX7, "nameHere", "()I"⟩
def dkwX7_nameHere_5 : List UInt8 := [16, 252, 172]
abbrev dktX7_nameHere_5 : List UInt8 := dkwX7_nameHere_5 ++ []
def dkwX7_nameHere_4 : List UInt8 := [4, 167, 0, 4, 3, 61, 132, 3, 1, 167, 255, 204, 28, 153, 0, 5, 27, 172, 132, 1, 1, 167, 255, 143]
abbrev dktX7_nameHere_4 : List UInt8 := dkwX7_nameHere_4 ++ dktX7_nameHere_5
def dkwX7_nameHere_3 : List UInt8 := [180, 0, 57, 29, 96, 182, 0, 69, 42, 180, 0, 22, 42, 180, 0, 19, 27, 46, 29, 96, 46, 160, 0, 7]
abbrev dktX7_nameHere_3 : List UInt8 := dkwX7_nameHere_3 ++ dktX7_nameHere_4
def dkwX7_nameHere_2 : List UInt8 := [61, 3, 62, 28, 153, 0, 54, 29, 42, 180, 0, 66, 42, 180, 0, 57, 100, 162, 0, 41, 42, 42]
abbrev dktX7_nameHere_2 : List UInt8 := dkwX7_nameHere_2 ++ dktX7_nameHere_3
def dkwX7_nameHere_1 : List UInt8 := [100, 42, 180, 0, 19, 27, 4, 96, 46, 42, 180, 0, 19, 27, 46, 100, 160, 0, 7, 4, 167, 0, 4, 3]
abbrev dktX7_nameHere_1 : List UInt8 := dkwX7_nameHere_1 ++ dktX7_nameHere_2
def dkwX7_nameHere_0 : List UInt8 := [3, 60, 27, 16, 6, 162, 0, 113, 42, 180, 0, 63, 4, 160, 0, 105, 42, 180, 0, 66, 42, 180, 0, 57]
abbrev dktX7_nameHere_0 : List UInt8 := dkwX7_nameHere_0 ++ dktX7_nameHere_1
theorem dksX7_nameHere_0 : cX7_nameHere.data.toList.drop 0 = dktX7_nameHere_0 := by decide +kernel
theorem dksX7_nameHere_1 : cX7_nameHere.data.toList.drop 24 = dktX7_nameHere_1 := dk_seg dksX7_nameHere_0 24 rfl rfl
theorem dksX7_nameHere_2 : cX7_nameHere.data.toList.drop 48 = dktX7_nameHere_2 := dk_seg dksX7_nameHere_1 24 rfl rfl
theorem dksX7_nameHere_3 : cX7_nameHere.data.toList.drop 70 = dktX7_nameHere_3 := dk_seg dksX7_nameHere_2 22 rfl rfl
theorem dksX7_nameHere_4 : cX7_nameHere.data.toList.drop 94 = dktX7_nameHere_4 := dk_seg dksX7_nameHere_3 24 rfl rfl
theorem dksX7_nameHere_5 : cX7_nameHere.data.toList.drop 118 = dktX7_nameHere_5 := dk_seg dksX7_nameHere_4 24 rfl rfl
theorem dX7_nameHere_0 : decode cX7_nameHere 0 = .ok (.iconst 0, 1) := dk_3 (dk_at dksX7_nameHere_0 0 rfl rfl)
theorem dX7_nameHere_1 : decode cX7_nameHere 1 = .ok (.istore_n 1, 1) := dk_60 (dk_at dksX7_nameHere_0 1 rfl rfl)
theorem dX7_nameHere_2 : decode cX7_nameHere 2 = .ok (.iload_n 1, 1) := dk_27 (dk_at dksX7_nameHere_0 2 rfl rfl)
theorem dX7_nameHere_3 : decode cX7_nameHere 3 = .ok (.bipush 6, 2) := dk_16 6 (dk_at dksX7_nameHere_0 3 rfl rfl)
theorem dX7_nameHere_5 : decode cX7_nameHere 5 = .ok (.if_icmp .ge 113, 3) := dk_162 0 113 (dk_at dksX7_nameHere_0 5 rfl rfl)
theorem dX7_nameHere_8 : decode cX7_nameHere 8 = .ok (.aload_n 0, 1) := dk_42 (dk_at dksX7_nameHere_0 8 rfl rfl)
theorem dX7_nameHere_9 : decode cX7_nameHere 9 = .ok (.getfield 63, 3) := dk_180 0 63 (dk_at dksX7_nameHere_0 9 rfl rfl)
theorem dX7_nameHere_12 : decode cX7_nameHere 12 = .ok (.iconst 1, 1) := dk_4 (dk_at dksX7_nameHere_0 12 rfl rfl)
theorem dX7_nameHere_13 : decode cX7_nameHere 13 = .ok (.if_icmp .ne 105, 3) := dk_160 0 105 (dk_at dksX7_nameHere_0 13 rfl rfl)
theorem dX7_nameHere_16 : decode cX7_nameHere 16 = .ok (.aload_n 0, 1) := dk_42 (dk_at dksX7_nameHere_0 16 rfl rfl)
theorem dX7_nameHere_17 : decode cX7_nameHere 17 = .ok (.getfield 66, 3) := dk_180 0 66 (dk_at dksX7_nameHere_0 17 rfl rfl)
theorem dX7_nameHere_20 : decode cX7_nameHere 20 = .ok (.aload_n 0, 1) := dk_42 (dk_at dksX7_nameHere_0 20 rfl rfl)
theorem dX7_nameHere_21 : decode cX7_nameHere 21 = .ok (.getfield 57, 3) := dk_180 0 57 (dk_at dksX7_nameHere_0 21 rfl rfl)
theorem dX7_nameHere_24 : decode cX7_nameHere 24 = .ok (.isub, 1) := dk_100 (dk_at dksX7_nameHere_1 0 rfl rfl)
theorem dX7_nameHere_25 : decode cX7_nameHere 25 = .ok (.aload_n 0, 1) := dk_42 (dk_at dksX7_nameHere_1 1 rfl rfl)
theorem dX7_nameHere_26 : decode cX7_nameHere 26 = .ok (.getfield 19, 3) := dk_180 0 19 (dk_at dksX7_nameHere_1 2 rfl rfl)
theorem dX7_nameHere_29 : decode cX7_nameHere 29 = .ok (.iload_n 1, 1) := dk_27 (dk_at dksX7_nameHere_1 5 rfl rfl)
theorem dX7_nameHere_30 : decode cX7_nameHere 30 = .ok (.iconst 1, 1) := dk_4 (dk_at dksX7_nameHere_1 6 rfl rfl)
theorem dX7_nameHere_31 : decode cX7_nameHere 31 = .ok (.iadd, 1) := dk_96 (dk_at dksX7_nameHere_1 7 rfl rfl)
theorem dX7_nameHere_32 : decode cX7_nameHere 32 = .ok (.iaload, 1) := dk_46 (dk_at dksX7_nameHere_1 8 rfl rfl)
theorem dX7_nameHere_33 : decode cX7_nameHere 33 = .ok (.aload_n 0, 1) := dk_42 (dk_at dksX7_nameHere_1 9 rfl rfl)
theorem dX7_nameHere_34 : decode cX7_nameHere 34 = .ok (.getfield 19, 3) := dk_180 0 19 (dk_at dksX7_nameHere_1 10 rfl rfl)
theorem dX7_nameHere_37 : decode cX7_nameHere 37 = .ok (.iload_n 1, 1) := dk_27 (dk_at dksX7_nameHere_1 13 rfl rfl)
theorem dX7_nameHere_38 : decode cX7_nameHere 38 = .ok (.iaload, 1) := dk_46 (dk_at dksX7_nameHere_1 14 rfl rfl)
theorem dX7_nameHere_39 : decode cX7_nameHere 39 = .ok (.isub, 1) := dk_100 (dk_at dksX7_nameHere_1 15 rfl rfl)
theorem dX7_nameHere_40 : decode cX7_nameHere 40 = .ok (.if_icmp .ne 7, 3) := dk_160 0 7 (dk_at dksX7_nameHere_1 16 rfl rfl)
theorem dX7_nameHere_43 : decode cX7_nameHere 43 = .ok (.iconst 1, 1) := dk_4 (dk_at dksX7_nameHere_1 19 rfl rfl)
theorem dX7_nameHere_44 : decode cX7_nameHere 44 = .ok (.goto 4, 3) := dk_167 0 4 (dk_at dksX7_nameHere_1 20 rfl rfl)
theorem dX7_nameHere_47 : decode cX7_nameHere 47 = .ok (.iconst 0, 1) := dk_3 (dk_at dksX7_nameHere_1 23 rfl rfl)
theorem dX7_nameHere_48 : decode cX7_nameHere 48 = .ok (.istore_n 2, 1) := dk_61 (dk_at dksX7_nameHere_2 0 rfl rfl)
theorem dX7_nameHere_49 : decode cX7_nameHere 49 = .ok (.iconst 0, 1) := dk_3 (dk_at dksX7_nameHere_2 1 rfl rfl)
theorem dX7_nameHere_50 : decode cX7_nameHere 50 = .ok (.istore_n 3, 1) := dk_62 (dk_at dksX7_nameHere_2 2 rfl rfl)
theorem dX7_nameHere_51 : decode cX7_nameHere 51 = .ok (.iload_n 2, 1) := dk_28 (dk_at dksX7_nameHere_2 3 rfl rfl)
theorem dX7_nameHere_52 : decode cX7_nameHere 52 = .ok (.ifCond .eq 54, 3) := dk_153 0 54 (dk_at dksX7_nameHere_2 4 rfl rfl)
theorem dX7_nameHere_55 : decode cX7_nameHere 55 = .ok (.iload_n 3, 1) := dk_29 (dk_at dksX7_nameHere_2 7 rfl rfl)
theorem dX7_nameHere_56 : decode cX7_nameHere 56 = .ok (.aload_n 0, 1) := dk_42 (dk_at dksX7_nameHere_2 8 rfl rfl)
theorem dX7_nameHere_57 : decode cX7_nameHere 57 = .ok (.getfield 66, 3) := dk_180 0 66 (dk_at dksX7_nameHere_2 9 rfl rfl)
theorem dX7_nameHere_60 : decode cX7_nameHere 60 = .ok (.aload_n 0, 1) := dk_42 (dk_at dksX7_nameHere_2 12 rfl rfl)
theorem dX7_nameHere_61 : decode cX7_nameHere 61 = .ok (.getfield 57, 3) := dk_180 0 57 (dk_at dksX7_nameHere_2 13 rfl rfl)
theorem dX7_nameHere_64 : decode cX7_nameHere 64 = .ok (.isub, 1) := dk_100 (dk_at dksX7_nameHere_2 16 rfl rfl)
theorem dX7_nameHere_65 : decode cX7_nameHere 65 = .ok (.if_icmp .ge 41, 3) := dk_162 0 41 (dk_at dksX7_nameHere_2 17 rfl rfl)
theorem dX7_nameHere_68 : decode cX7_nameHere 68 = .ok (.aload_n 0, 1) := dk_42 (dk_at dksX7_nameHere_2 20 rfl rfl)
theorem dX7_nameHere_69 : decode cX7_nameHere 69 = .ok (.aload_n 0, 1) := dk_42 (dk_at dksX7_nameHere_2 21 rfl rfl)
theorem dX7_nameHere_70 : decode cX7_nameHere 70 = .ok (.getfield 57, 3) := dk_180 0 57 (dk_at dksX7_nameHere_3 0 rfl rfl)
theorem dX7_nameHere_73 : decode cX7_nameHere 73 = .ok (.iload_n 3, 1) := dk_29 (dk_at dksX7_nameHere_3 3 rfl rfl)
theorem dX7_nameHere_74 : decode cX7_nameHere 74 = .ok (.iadd, 1) := dk_96 (dk_at dksX7_nameHere_3 4 rfl rfl)
theorem dX7_nameHere_75 : decode cX7_nameHere 75 = .ok (.invokevirtual 69, 3) := dk_182 0 69 (dk_at dksX7_nameHere_3 5 rfl rfl)
theorem dX7_nameHere_78 : decode cX7_nameHere 78 = .ok (.aload_n 0, 1) := dk_42 (dk_at dksX7_nameHere_3 8 rfl rfl)
theorem dX7_nameHere_79 : decode cX7_nameHere 79 = .ok (.getfield 22, 3) := dk_180 0 22 (dk_at dksX7_nameHere_3 9 rfl rfl)
theorem dX7_nameHere_82 : decode cX7_nameHere 82 = .ok (.aload_n 0, 1) := dk_42 (dk_at dksX7_nameHere_3 12 rfl rfl)
theorem dX7_nameHere_83 : decode cX7_nameHere 83 = .ok (.getfield 19, 3) := dk_180 0 19 (dk_at dksX7_nameHere_3 13 rfl rfl)
theorem dX7_nameHere_86 : decode cX7_nameHere 86 = .ok (.iload_n 1, 1) := dk_27 (dk_at dksX7_nameHere_3 16 rfl rfl)
theorem dX7_nameHere_87 : decode cX7_nameHere 87 = .ok (.iaload, 1) := dk_46 (dk_at dksX7_nameHere_3 17 rfl rfl)
theorem dX7_nameHere_88 : decode cX7_nameHere 88 = .ok (.iload_n 3, 1) := dk_29 (dk_at dksX7_nameHere_3 18 rfl rfl)
theorem dX7_nameHere_89 : decode cX7_nameHere 89 = .ok (.iadd, 1) := dk_96 (dk_at dksX7_nameHere_3 19 rfl rfl)
theorem dX7_nameHere_90 : decode cX7_nameHere 90 = .ok (.iaload, 1) := dk_46 (dk_at dksX7_nameHere_3 20 rfl rfl)
theorem dX7_nameHere_91 : decode cX7_nameHere 91 = .ok (.if_icmp .ne 7, 3) := dk_160 0 7 (dk_at dksX7_nameHere_3 21 rfl rfl)
theorem dX7_nameHere_94 : decode cX7_nameHere 94 = .ok (.iconst 1, 1) := dk_4 (dk_at dksX7_nameHere_4 0 rfl rfl)
theorem dX7_nameHere_95 : decode cX7_nameHere 95 = .ok (.goto 4, 3) := dk_167 0 4 (dk_at dksX7_nameHere_4 1 rfl rfl)
theorem dX7_nameHere_98 : decode cX7_nameHere 98 = .ok (.iconst 0, 1) := dk_3 (dk_at dksX7_nameHere_4 4 rfl rfl)
theorem dX7_nameHere_99 : decode cX7_nameHere 99 = .ok (.istore_n 2, 1) := dk_61 (dk_at dksX7_nameHere_4 5 rfl rfl)
theorem dX7_nameHere_100 : decode cX7_nameHere 100 = .ok (.iinc 3 1, 3) := dk_132 3 1 (dk_at dksX7_nameHere_4 6 rfl rfl)
theorem dX7_nameHere_103 : decode cX7_nameHere 103 = .ok (.goto (-52), 3) := dk_167 255 204 (dk_at dksX7_nameHere_4 9 rfl rfl)
theorem dX7_nameHere_106 : decode cX7_nameHere 106 = .ok (.iload_n 2, 1) := dk_28 (dk_at dksX7_nameHere_4 12 rfl rfl)
theorem dX7_nameHere_107 : decode cX7_nameHere 107 = .ok (.ifCond .eq 5, 3) := dk_153 0 5 (dk_at dksX7_nameHere_4 13 rfl rfl)
theorem dX7_nameHere_110 : decode cX7_nameHere 110 = .ok (.iload_n 1, 1) := dk_27 (dk_at dksX7_nameHere_4 16 rfl rfl)
theorem dX7_nameHere_111 : decode cX7_nameHere 111 = .ok (.ireturn, 1) := dk_172 (dk_at dksX7_nameHere_4 17 rfl rfl)
theorem dX7_nameHere_112 : decode cX7_nameHere 112 = .ok (.iinc 1 1, 3) := dk_132 1 1 (dk_at dksX7_nameHere_4 18 rfl rfl)
theorem dX7_nameHere_115 : decode cX7_nameHere 115 = .ok (.goto (-113), 3) := dk_167 255 143 (dk_at dksX7_nameHere_4 21 rfl rfl)
theorem dX7_nameHere_118 : decode cX7_nameHere 118 = .ok (.bipush (-4), 2) := dk_16 252 (dk_at dksX7_nameHere_5 0 rfl rfl)
theorem dX7_nameHere_120 : decode cX7_nameHere 120 = .ok (.ireturn, 1) := dk_172 (dk_at dksX7_nameHere_5 2 rfl rfl)
abbrev cX7_readClock : ByteArray := prog_11_method_12_code
def yX7_readClock : MethodName := ⟨RX7, "readClock", "(I)V"⟩
def dkwX7_readClock_4 : List UInt8 := [89, 180, 0, 98, 4, 96, 181, 0, 98, 177]
abbrev dktX7_readClock_4 : List UInt8 := dkwX7_readClock_4 ++ []
def dkwX7_readClock_3 : List UInt8 := [5, 160, 0, 22, 42, 180, 0, 13, 16, 15, 42, 180, 0, 98, 96, 42, 3, 16, 99, 182, 0, 91, 79, 42]
abbrev dktX7_readClock_3 : List UInt8 := dkwX7_readClock_3 ++ dktX7_readClock_4
def dkwX7_readClock_2 : List UInt8 := [180, 0, 13, 16, 15, 42, 180, 0, 98, 96, 16, 50, 79, 42, 180, 0, 54, 154, 0, 30, 42, 180, 0, 63]
abbrev dktX7_readClock_2 : List UInt8 := dkwX7_readClock_2 ++ dktX7_readClock_3
def dkwX7_readClock_1 : List UInt8 := [182, 0, 91, 79, 42, 180, 0, 13, 16, 10, 42, 180, 0, 98, 96, 42, 3, 16, 6, 182, 0, 91, 79, 42]
abbrev dktX7_readClock_1 : List UInt8 := dkwX7_readClock_1 ++ dktX7_readClock_2
def dkwX7_readClock_0 : List UInt8 := [42, 180, 0, 13, 42, 180, 0, 98, 27, 79, 42, 180, 0, 13, 8, 42, 180, 0, 98, 96, 42, 3, 6]
abbrev dktX7_readClock_0 : List UInt8 := dkwX7_readClock_0 ++ dktX7_readClock_1
theorem dksX7_readClock_0 : cX7_readClock.data.toList.drop 0 = dktX7_readClock_0 := by decide +kernel
theorem dksX7_readClock_1 : cX7_readClock.data.toList.drop 23 = dktX7_readClock_1 := dk_seg dksX7_readClock_0 23 rfl rfl
theorem dksX7_readClock_2 : cX7_readClock.data.toList.drop 47 = dktX7_readClock_2 := dk_seg dksX7_readClock_1 24 rfl rfl
theorem dksX7_readClock_3 : cX7_readClock.data.toList.drop 71 = dktX7_readClock_3 := dk_seg dksX7_readClock_2 24 rfl rfl
theorem dksX7_readClock_4 : cX7_readClock.data.toList.drop 95 = dktX7_readClock_4 := dk_seg dksX7_readClock_3 24 rfl rfl
theorem dX7_readClock_0 : decode cX7_readClock 0 = .ok (.aload_n 0, 1) := dk_42 (dk_at dksX7_readClock_0 0 rfl rfl)
theorem dX7_readClock_1 : decode cX7_readClock 1 = .ok (.getfield 13, 3) := dk_180 0 13 (dk_at dksX7_readClock_0 1 rfl rfl)
theorem dX7_readClock_4 : decode cX7_readClock 4 = .ok (.aload_n 0, 1) := dk_42 (dk_at dksX7_readClock_0 4 rfl rfl)
theorem dX7_readClock_5 : decode cX7_readClock 5 = .ok (.getfield 98, 3) := dk_180 0 98 (dk_at dksX7_readClock_0 5 rfl rfl)
theorem dX7_readClock_8 : decode cX7_readClock 8 = .ok (.iload_n 1, 1) := dk_27 (dk_at dksX7_readClock_0 8 rfl rfl)
theorem dX7_readClock_9 : decode cX7_readClock 9 = .ok (.iastore, 1) := dk_79 (dk_at dksX7_readClock_0 9 rfl rfl)
theorem dX7_readClock_10 : decode cX7_readClock 10 = .ok (.aload_n 0, 1) := dk_42 (dk_at dksX7_readClock_0 10 rfl rfl)
theorem dX7_readClock_11 : decode cX7_readClock 11 = .ok (.getfield 13, 3) := dk_180 0 13 (dk_at dksX7_readClock_0 11 rfl rfl)
theorem dX7_readClock_14 : decode cX7_readClock 14 = .ok (.iconst 5, 1) := dk_8 (dk_at dksX7_readClock_0 14 rfl rfl)
theorem dX7_readClock_15 : decode cX7_readClock 15 = .ok (.aload_n 0, 1) := dk_42 (dk_at dksX7_readClock_0 15 rfl rfl)
theorem dX7_readClock_16 : decode cX7_readClock 16 = .ok (.getfield 98, 3) := dk_180 0 98 (dk_at dksX7_readClock_0 16 rfl rfl)
theorem dX7_readClock_19 : decode cX7_readClock 19 = .ok (.iadd, 1) := dk_96 (dk_at dksX7_readClock_0 19 rfl rfl)
theorem dX7_readClock_20 : decode cX7_readClock 20 = .ok (.aload_n 0, 1) := dk_42 (dk_at dksX7_readClock_0 20 rfl rfl)
theorem dX7_readClock_21 : decode cX7_readClock 21 = .ok (.iconst 0, 1) := dk_3 (dk_at dksX7_readClock_0 21 rfl rfl)
theorem dX7_readClock_22 : decode cX7_readClock 22 = .ok (.iconst 3, 1) := dk_6 (dk_at dksX7_readClock_0 22 rfl rfl)
theorem dX7_readClock_23 : decode cX7_readClock 23 = .ok (.invokevirtual 91, 3) := dk_182 0 91 (dk_at dksX7_readClock_1 0 rfl rfl)
theorem dX7_readClock_26 : decode cX7_readClock 26 = .ok (.iastore, 1) := dk_79 (dk_at dksX7_readClock_1 3 rfl rfl)
theorem dX7_readClock_27 : decode cX7_readClock 27 = .ok (.aload_n 0, 1) := dk_42 (dk_at dksX7_readClock_1 4 rfl rfl)
theorem dX7_readClock_28 : decode cX7_readClock 28 = .ok (.getfield 13, 3) := dk_180 0 13 (dk_at dksX7_readClock_1 5 rfl rfl)
theorem dX7_readClock_31 : decode cX7_readClock 31 = .ok (.bipush 10, 2) := dk_16 10 (dk_at dksX7_readClock_1 8 rfl rfl)
theorem dX7_readClock_33 : decode cX7_readClock 33 = .ok (.aload_n 0, 1) := dk_42 (dk_at dksX7_readClock_1 10 rfl rfl)
theorem dX7_readClock_34 : decode cX7_readClock 34 = .ok (.getfield 98, 3) := dk_180 0 98 (dk_at dksX7_readClock_1 11 rfl rfl)
theorem dX7_readClock_37 : decode cX7_readClock 37 = .ok (.iadd, 1) := dk_96 (dk_at dksX7_readClock_1 14 rfl rfl)
theorem dX7_readClock_38 : decode cX7_readClock 38 = .ok (.aload_n 0, 1) := dk_42 (dk_at dksX7_readClock_1 15 rfl rfl)
theorem dX7_readClock_39 : decode cX7_readClock 39 = .ok (.iconst 0, 1) := dk_3 (dk_at dksX7_readClock_1 16 rfl rfl)
theorem dX7_readClock_40 : decode cX7_readClock 40 = .ok (.bipush 6, 2) := dk_16 6 (dk_at dksX7_readClock_1 17 rfl rfl)
theorem dX7_readClock_42 : decode cX7_readClock 42 = .ok (.invokevirtual 91, 3) := dk_182 0 91 (dk_at dksX7_readClock_1 19 rfl rfl)
theorem dX7_readClock_45 : decode cX7_readClock 45 = .ok (.iastore, 1) := dk_79 (dk_at dksX7_readClock_1 22 rfl rfl)
theorem dX7_readClock_46 : decode cX7_readClock 46 = .ok (.aload_n 0, 1) := dk_42 (dk_at dksX7_readClock_1 23 rfl rfl)
theorem dX7_readClock_47 : decode cX7_readClock 47 = .ok (.getfield 13, 3) := dk_180 0 13 (dk_at dksX7_readClock_2 0 rfl rfl)
theorem dX7_readClock_50 : decode cX7_readClock 50 = .ok (.bipush 15, 2) := dk_16 15 (dk_at dksX7_readClock_2 3 rfl rfl)
theorem dX7_readClock_52 : decode cX7_readClock 52 = .ok (.aload_n 0, 1) := dk_42 (dk_at dksX7_readClock_2 5 rfl rfl)
theorem dX7_readClock_53 : decode cX7_readClock 53 = .ok (.getfield 98, 3) := dk_180 0 98 (dk_at dksX7_readClock_2 6 rfl rfl)
theorem dX7_readClock_56 : decode cX7_readClock 56 = .ok (.iadd, 1) := dk_96 (dk_at dksX7_readClock_2 9 rfl rfl)
theorem dX7_readClock_57 : decode cX7_readClock 57 = .ok (.bipush 50, 2) := dk_16 50 (dk_at dksX7_readClock_2 10 rfl rfl)
theorem dX7_readClock_59 : decode cX7_readClock 59 = .ok (.iastore, 1) := dk_79 (dk_at dksX7_readClock_2 12 rfl rfl)
theorem dX7_readClock_60 : decode cX7_readClock 60 = .ok (.aload_n 0, 1) := dk_42 (dk_at dksX7_readClock_2 13 rfl rfl)
theorem dX7_readClock_61 : decode cX7_readClock 61 = .ok (.getfield 54, 3) := dk_180 0 54 (dk_at dksX7_readClock_2 14 rfl rfl)
theorem dX7_readClock_64 : decode cX7_readClock 64 = .ok (.ifCond .ne 30, 3) := dk_154 0 30 (dk_at dksX7_readClock_2 17 rfl rfl)
theorem dX7_readClock_67 : decode cX7_readClock 67 = .ok (.aload_n 0, 1) := dk_42 (dk_at dksX7_readClock_2 20 rfl rfl)
theorem dX7_readClock_68 : decode cX7_readClock 68 = .ok (.getfield 63, 3) := dk_180 0 63 (dk_at dksX7_readClock_2 21 rfl rfl)
theorem dX7_readClock_71 : decode cX7_readClock 71 = .ok (.iconst 2, 1) := dk_5 (dk_at dksX7_readClock_3 0 rfl rfl)
theorem dX7_readClock_72 : decode cX7_readClock 72 = .ok (.if_icmp .ne 22, 3) := dk_160 0 22 (dk_at dksX7_readClock_3 1 rfl rfl)
theorem dX7_readClock_75 : decode cX7_readClock 75 = .ok (.aload_n 0, 1) := dk_42 (dk_at dksX7_readClock_3 4 rfl rfl)
theorem dX7_readClock_76 : decode cX7_readClock 76 = .ok (.getfield 13, 3) := dk_180 0 13 (dk_at dksX7_readClock_3 5 rfl rfl)
theorem dX7_readClock_79 : decode cX7_readClock 79 = .ok (.bipush 15, 2) := dk_16 15 (dk_at dksX7_readClock_3 8 rfl rfl)
theorem dX7_readClock_81 : decode cX7_readClock 81 = .ok (.aload_n 0, 1) := dk_42 (dk_at dksX7_readClock_3 10 rfl rfl)
theorem dX7_readClock_82 : decode cX7_readClock 82 = .ok (.getfield 98, 3) := dk_180 0 98 (dk_at dksX7_readClock_3 11 rfl rfl)
theorem dX7_readClock_85 : decode cX7_readClock 85 = .ok (.iadd, 1) := dk_96 (dk_at dksX7_readClock_3 14 rfl rfl)
theorem dX7_readClock_86 : decode cX7_readClock 86 = .ok (.aload_n 0, 1) := dk_42 (dk_at dksX7_readClock_3 15 rfl rfl)
theorem dX7_readClock_87 : decode cX7_readClock 87 = .ok (.iconst 0, 1) := dk_3 (dk_at dksX7_readClock_3 16 rfl rfl)
theorem dX7_readClock_88 : decode cX7_readClock 88 = .ok (.bipush 99, 2) := dk_16 99 (dk_at dksX7_readClock_3 17 rfl rfl)
theorem dX7_readClock_90 : decode cX7_readClock 90 = .ok (.invokevirtual 91, 3) := dk_182 0 91 (dk_at dksX7_readClock_3 19 rfl rfl)
theorem dX7_readClock_93 : decode cX7_readClock 93 = .ok (.iastore, 1) := dk_79 (dk_at dksX7_readClock_3 22 rfl rfl)
theorem dX7_readClock_94 : decode cX7_readClock 94 = .ok (.aload_n 0, 1) := dk_42 (dk_at dksX7_readClock_3 23 rfl rfl)
theorem dX7_readClock_95 : decode cX7_readClock 95 = .ok (.dup, 1) := dk_89 (dk_at dksX7_readClock_4 0 rfl rfl)
theorem dX7_readClock_96 : decode cX7_readClock 96 = .ok (.getfield 98, 3) := dk_180 0 98 (dk_at dksX7_readClock_4 1 rfl rfl)
theorem dX7_readClock_99 : decode cX7_readClock 99 = .ok (.iconst 1, 1) := dk_4 (dk_at dksX7_readClock_4 4 rfl rfl)
theorem dX7_readClock_100 : decode cX7_readClock 100 = .ok (.iadd, 1) := dk_96 (dk_at dksX7_readClock_4 5 rfl rfl)
theorem dX7_readClock_101 : decode cX7_readClock 101 = .ok (.putfield 98, 3) := dk_181 0 98 (dk_at dksX7_readClock_4 6 rfl rfl)
theorem dX7_readClock_104 : decode cX7_readClock 104 = .ok (.return_, 1) := dk_177 (dk_at dksX7_readClock_4 9 rfl rfl)
abbrev cX7_number : ByteArray := prog_11_method_10_code
def yX7_number : MethodName := ⟨RX7, "number", "(II)I"⟩
def dkwX7_number_2 : List UInt8 := [180, 0, 54, 154, 0, 10, 42, 180, 0, 73, 167, 0, 4, 27, 62, 42, 182, 0, 88, 29, 172]
abbrev dktX7_number_2 : List UInt8 := dkwX7_number_2 ++ []
def dkwX7_number_1 : List UInt8 := [154, 0, 23, 42, 180, 0, 73, 133, 27, 133, 28, 133, 184, 0, 46, 154, 0, 8, 42, 6, 182, 0, 84, 42]
abbrev dktX7_number_1 : List UInt8 := dkwX7_number_1 ++ dktX7_number_2
def dkwX7_number_0 : List UInt8 := [42, 180, 0, 54, 154, 0, 16, 42, 180, 0, 63, 5, 159, 0, 8, 42, 5, 182, 0, 84, 42, 180, 0, 54]
abbrev dktX7_number_0 : List UInt8 := dkwX7_number_0 ++ dktX7_number_1
theorem dksX7_number_0 : cX7_number.data.toList.drop 0 = dktX7_number_0 := by decide +kernel
theorem dksX7_number_1 : cX7_number.data.toList.drop 24 = dktX7_number_1 := dk_seg dksX7_number_0 24 rfl rfl
theorem dksX7_number_2 : cX7_number.data.toList.drop 48 = dktX7_number_2 := dk_seg dksX7_number_1 24 rfl rfl
theorem dX7_number_0 : decode cX7_number 0 = .ok (.aload_n 0, 1) := dk_42 (dk_at dksX7_number_0 0 rfl rfl)
theorem dX7_number_1 : decode cX7_number 1 = .ok (.getfield 54, 3) := dk_180 0 54 (dk_at dksX7_number_0 1 rfl rfl)
theorem dX7_number_4 : decode cX7_number 4 = .ok (.ifCond .ne 16, 3) := dk_154 0 16 (dk_at dksX7_number_0 4 rfl rfl)
theorem dX7_number_7 : decode cX7_number 7 = .ok (.aload_n 0, 1) := dk_42 (dk_at dksX7_number_0 7 rfl rfl)
theorem dX7_number_8 : decode cX7_number 8 = .ok (.getfield 63, 3) := dk_180 0 63 (dk_at dksX7_number_0 8 rfl rfl)
theorem dX7_number_11 : decode cX7_number 11 = .ok (.iconst 2, 1) := dk_5 (dk_at dksX7_number_0 11 rfl rfl)
theorem dX7_number_12 : decode cX7_number 12 = .ok (.if_icmp .eq 8, 3) := dk_159 0 8 (dk_at dksX7_number_0 12 rfl rfl)
theorem dX7_number_15 : decode cX7_number 15 = .ok (.aload_n 0, 1) := dk_42 (dk_at dksX7_number_0 15 rfl rfl)
theorem dX7_number_16 : decode cX7_number 16 = .ok (.iconst 2, 1) := dk_5 (dk_at dksX7_number_0 16 rfl rfl)
theorem dX7_number_17 : decode cX7_number 17 = .ok (.invokevirtual 84, 3) := dk_182 0 84 (dk_at dksX7_number_0 17 rfl rfl)
theorem dX7_number_20 : decode cX7_number 20 = .ok (.aload_n 0, 1) := dk_42 (dk_at dksX7_number_0 20 rfl rfl)
theorem dX7_number_21 : decode cX7_number 21 = .ok (.getfield 54, 3) := dk_180 0 54 (dk_at dksX7_number_0 21 rfl rfl)
theorem dX7_number_24 : decode cX7_number 24 = .ok (.ifCond .ne 23, 3) := dk_154 0 23 (dk_at dksX7_number_1 0 rfl rfl)
theorem dX7_number_27 : decode cX7_number 27 = .ok (.aload_n 0, 1) := dk_42 (dk_at dksX7_number_1 3 rfl rfl)
theorem dX7_number_28 : decode cX7_number 28 = .ok (.getfield 73, 3) := dk_180 0 73 (dk_at dksX7_number_1 4 rfl rfl)
theorem dX7_number_31 : decode cX7_number 31 = .ok (.i2l, 1) := dk_133 (dk_at dksX7_number_1 7 rfl rfl)
theorem dX7_number_32 : decode cX7_number 32 = .ok (.iload_n 1, 1) := dk_27 (dk_at dksX7_number_1 8 rfl rfl)
theorem dX7_number_33 : decode cX7_number 33 = .ok (.i2l, 1) := dk_133 (dk_at dksX7_number_1 9 rfl rfl)
theorem dX7_number_34 : decode cX7_number 34 = .ok (.iload_n 2, 1) := dk_28 (dk_at dksX7_number_1 10 rfl rfl)
theorem dX7_number_35 : decode cX7_number 35 = .ok (.i2l, 1) := dk_133 (dk_at dksX7_number_1 11 rfl rfl)
theorem dX7_number_36 : decode cX7_number 36 = .ok (.invokestatic 46, 3) := dk_184 0 46 (dk_at dksX7_number_1 12 rfl rfl)
theorem dX7_number_39 : decode cX7_number 39 = .ok (.ifCond .ne 8, 3) := dk_154 0 8 (dk_at dksX7_number_1 15 rfl rfl)
theorem dX7_number_42 : decode cX7_number 42 = .ok (.aload_n 0, 1) := dk_42 (dk_at dksX7_number_1 18 rfl rfl)
theorem dX7_number_43 : decode cX7_number 43 = .ok (.iconst 3, 1) := dk_6 (dk_at dksX7_number_1 19 rfl rfl)
theorem dX7_number_44 : decode cX7_number 44 = .ok (.invokevirtual 84, 3) := dk_182 0 84 (dk_at dksX7_number_1 20 rfl rfl)
theorem dX7_number_47 : decode cX7_number 47 = .ok (.aload_n 0, 1) := dk_42 (dk_at dksX7_number_1 23 rfl rfl)
theorem dX7_number_48 : decode cX7_number 48 = .ok (.getfield 54, 3) := dk_180 0 54 (dk_at dksX7_number_2 0 rfl rfl)
theorem dX7_number_51 : decode cX7_number 51 = .ok (.ifCond .ne 10, 3) := dk_154 0 10 (dk_at dksX7_number_2 3 rfl rfl)
theorem dX7_number_54 : decode cX7_number 54 = .ok (.aload_n 0, 1) := dk_42 (dk_at dksX7_number_2 6 rfl rfl)
theorem dX7_number_55 : decode cX7_number 55 = .ok (.getfield 73, 3) := dk_180 0 73 (dk_at dksX7_number_2 7 rfl rfl)
theorem dX7_number_58 : decode cX7_number 58 = .ok (.goto 4, 3) := dk_167 0 4 (dk_at dksX7_number_2 10 rfl rfl)
theorem dX7_number_61 : decode cX7_number 61 = .ok (.iload_n 1, 1) := dk_27 (dk_at dksX7_number_2 13 rfl rfl)
theorem dX7_number_62 : decode cX7_number 62 = .ok (.istore_n 3, 1) := dk_62 (dk_at dksX7_number_2 14 rfl rfl)
theorem dX7_number_63 : decode cX7_number 63 = .ok (.aload_n 0, 1) := dk_42 (dk_at dksX7_number_2 15 rfl rfl)
theorem dX7_number_64 : decode cX7_number 64 = .ok (.invokevirtual 88, 3) := dk_182 0 88 (dk_at dksX7_number_2 16 rfl rfl)
theorem dX7_number_67 : decode cX7_number 67 = .ok (.iload_n 3, 1) := dk_29 (dk_at dksX7_number_2 19 rfl rfl)
theorem dX7_number_68 : decode cX7_number 68 = .ok (.ireturn, 1) := dk_172 (dk_at dksX7_number_2 20 rfl rfl)
abbrev cX7_readGift : ByteArray := prog_11_method_13_code
def yX7_readGift : MethodName := ⟨RX7, "readGift", "()V"⟩
def dkwX7_readGift_3 : List UInt8 := [27, 5, 96, 42, 4, 16, 9, 182, 0, 91, 79, 42, 180, 0, 13, 16, 66, 92, 46, 4, 96, 79, 177]
abbrev dktX7_readGift_3 : List UInt8 := dkwX7_readGift_3 ++ []
def dkwX7_readGift_2 : List UInt8 := [160, 0, 8, 42, 6, 182, 0, 84, 42, 180, 0, 13, 27, 4, 96, 42, 182, 0, 101, 79, 42, 180, 0, 13]
abbrev dktX7_readGift_2 : List UInt8 := dkwX7_readGift_2 ++ dktX7_readGift_3
def dkwX7_readGift_1 : List UInt8 := [180, 0, 54, 154, 0, 29, 42, 180, 0, 63, 5, 160, 0, 21, 42, 180, 0, 73, 42, 180, 0, 13, 27, 46]
abbrev dktX7_readGift_1 : List UInt8 := dkwX7_readGift_1 ++ dktX7_readGift_2
def dkwX7_readGift_0 : List UInt8 := [16, 48, 6, 42, 180, 0, 13, 16, 66, 46, 104, 96, 60, 42, 180, 0, 13, 27, 42, 182, 0, 101, 79, 42]
abbrev dktX7_readGift_0 : List UInt8 := dkwX7_readGift_0 ++ dktX7_readGift_1
theorem dksX7_readGift_0 : cX7_readGift.data.toList.drop 0 = dktX7_readGift_0 := by decide +kernel
theorem dksX7_readGift_1 : cX7_readGift.data.toList.drop 24 = dktX7_readGift_1 := dk_seg dksX7_readGift_0 24 rfl rfl
theorem dksX7_readGift_2 : cX7_readGift.data.toList.drop 48 = dktX7_readGift_2 := dk_seg dksX7_readGift_1 24 rfl rfl
theorem dksX7_readGift_3 : cX7_readGift.data.toList.drop 72 = dktX7_readGift_3 := dk_seg dksX7_readGift_2 24 rfl rfl
theorem dX7_readGift_0 : decode cX7_readGift 0 = .ok (.bipush 48, 2) := dk_16 48 (dk_at dksX7_readGift_0 0 rfl rfl)
theorem dX7_readGift_2 : decode cX7_readGift 2 = .ok (.iconst 3, 1) := dk_6 (dk_at dksX7_readGift_0 2 rfl rfl)
theorem dX7_readGift_3 : decode cX7_readGift 3 = .ok (.aload_n 0, 1) := dk_42 (dk_at dksX7_readGift_0 3 rfl rfl)
theorem dX7_readGift_4 : decode cX7_readGift 4 = .ok (.getfield 13, 3) := dk_180 0 13 (dk_at dksX7_readGift_0 4 rfl rfl)
theorem dX7_readGift_7 : decode cX7_readGift 7 = .ok (.bipush 66, 2) := dk_16 66 (dk_at dksX7_readGift_0 7 rfl rfl)
theorem dX7_readGift_9 : decode cX7_readGift 9 = .ok (.iaload, 1) := dk_46 (dk_at dksX7_readGift_0 9 rfl rfl)
theorem dX7_readGift_10 : decode cX7_readGift 10 = .ok (.imul, 1) := dk_104 (dk_at dksX7_readGift_0 10 rfl rfl)
theorem dX7_readGift_11 : decode cX7_readGift 11 = .ok (.iadd, 1) := dk_96 (dk_at dksX7_readGift_0 11 rfl rfl)
theorem dX7_readGift_12 : decode cX7_readGift 12 = .ok (.istore_n 1, 1) := dk_60 (dk_at dksX7_readGift_0 12 rfl rfl)
theorem dX7_readGift_13 : decode cX7_readGift 13 = .ok (.aload_n 0, 1) := dk_42 (dk_at dksX7_readGift_0 13 rfl rfl)
theorem dX7_readGift_14 : decode cX7_readGift 14 = .ok (.getfield 13, 3) := dk_180 0 13 (dk_at dksX7_readGift_0 14 rfl rfl)
theorem dX7_readGift_17 : decode cX7_readGift 17 = .ok (.iload_n 1, 1) := dk_27 (dk_at dksX7_readGift_0 17 rfl rfl)
theorem dX7_readGift_18 : decode cX7_readGift 18 = .ok (.aload_n 0, 1) := dk_42 (dk_at dksX7_readGift_0 18 rfl rfl)
theorem dX7_readGift_19 : decode cX7_readGift 19 = .ok (.invokevirtual 101, 3) := dk_182 0 101 (dk_at dksX7_readGift_0 19 rfl rfl)
theorem dX7_readGift_22 : decode cX7_readGift 22 = .ok (.iastore, 1) := dk_79 (dk_at dksX7_readGift_0 22 rfl rfl)
theorem dX7_readGift_23 : decode cX7_readGift 23 = .ok (.aload_n 0, 1) := dk_42 (dk_at dksX7_readGift_0 23 rfl rfl)
theorem dX7_readGift_24 : decode cX7_readGift 24 = .ok (.getfield 54, 3) := dk_180 0 54 (dk_at dksX7_readGift_1 0 rfl rfl)
theorem dX7_readGift_27 : decode cX7_readGift 27 = .ok (.ifCond .ne 29, 3) := dk_154 0 29 (dk_at dksX7_readGift_1 3 rfl rfl)
theorem dX7_readGift_30 : decode cX7_readGift 30 = .ok (.aload_n 0, 1) := dk_42 (dk_at dksX7_readGift_1 6 rfl rfl)
theorem dX7_readGift_31 : decode cX7_readGift 31 = .ok (.getfield 63, 3) := dk_180 0 63 (dk_at dksX7_readGift_1 7 rfl rfl)
theorem dX7_readGift_34 : decode cX7_readGift 34 = .ok (.iconst 2, 1) := dk_5 (dk_at dksX7_readGift_1 10 rfl rfl)
theorem dX7_readGift_35 : decode cX7_readGift 35 = .ok (.if_icmp .ne 21, 3) := dk_160 0 21 (dk_at dksX7_readGift_1 11 rfl rfl)
theorem dX7_readGift_38 : decode cX7_readGift 38 = .ok (.aload_n 0, 1) := dk_42 (dk_at dksX7_readGift_1 14 rfl rfl)
theorem dX7_readGift_39 : decode cX7_readGift 39 = .ok (.getfield 73, 3) := dk_180 0 73 (dk_at dksX7_readGift_1 15 rfl rfl)
theorem dX7_readGift_42 : decode cX7_readGift 42 = .ok (.aload_n 0, 1) := dk_42 (dk_at dksX7_readGift_1 18 rfl rfl)
theorem dX7_readGift_43 : decode cX7_readGift 43 = .ok (.getfield 13, 3) := dk_180 0 13 (dk_at dksX7_readGift_1 19 rfl rfl)
theorem dX7_readGift_46 : decode cX7_readGift 46 = .ok (.iload_n 1, 1) := dk_27 (dk_at dksX7_readGift_1 22 rfl rfl)
theorem dX7_readGift_47 : decode cX7_readGift 47 = .ok (.iaload, 1) := dk_46 (dk_at dksX7_readGift_1 23 rfl rfl)
theorem dX7_readGift_48 : decode cX7_readGift 48 = .ok (.if_icmp .ne 8, 3) := dk_160 0 8 (dk_at dksX7_readGift_2 0 rfl rfl)
theorem dX7_readGift_51 : decode cX7_readGift 51 = .ok (.aload_n 0, 1) := dk_42 (dk_at dksX7_readGift_2 3 rfl rfl)
theorem dX7_readGift_52 : decode cX7_readGift 52 = .ok (.iconst 3, 1) := dk_6 (dk_at dksX7_readGift_2 4 rfl rfl)
theorem dX7_readGift_53 : decode cX7_readGift 53 = .ok (.invokevirtual 84, 3) := dk_182 0 84 (dk_at dksX7_readGift_2 5 rfl rfl)
theorem dX7_readGift_56 : decode cX7_readGift 56 = .ok (.aload_n 0, 1) := dk_42 (dk_at dksX7_readGift_2 8 rfl rfl)
theorem dX7_readGift_57 : decode cX7_readGift 57 = .ok (.getfield 13, 3) := dk_180 0 13 (dk_at dksX7_readGift_2 9 rfl rfl)
theorem dX7_readGift_60 : decode cX7_readGift 60 = .ok (.iload_n 1, 1) := dk_27 (dk_at dksX7_readGift_2 12 rfl rfl)
theorem dX7_readGift_61 : decode cX7_readGift 61 = .ok (.iconst 1, 1) := dk_4 (dk_at dksX7_readGift_2 13 rfl rfl)
theorem dX7_readGift_62 : decode cX7_readGift 62 = .ok (.iadd, 1) := dk_96 (dk_at dksX7_readGift_2 14 rfl rfl)
theorem dX7_readGift_63 : decode cX7_readGift 63 = .ok (.aload_n 0, 1) := dk_42 (dk_at dksX7_readGift_2 15 rfl rfl)
theorem dX7_readGift_64 : decode cX7_readGift 64 = .ok (.invokevirtual 101, 3) := dk_182 0 101 (dk_at dksX7_readGift_2 16 rfl rfl)
theorem dX7_readGift_67 : decode cX7_readGift 67 = .ok (.iastore, 1) := dk_79 (dk_at dksX7_readGift_2 19 rfl rfl)
theorem dX7_readGift_68 : decode cX7_readGift 68 = .ok (.aload_n 0, 1) := dk_42 (dk_at dksX7_readGift_2 20 rfl rfl)
theorem dX7_readGift_69 : decode cX7_readGift 69 = .ok (.getfield 13, 3) := dk_180 0 13 (dk_at dksX7_readGift_2 21 rfl rfl)
theorem dX7_readGift_72 : decode cX7_readGift 72 = .ok (.iload_n 1, 1) := dk_27 (dk_at dksX7_readGift_3 0 rfl rfl)
theorem dX7_readGift_73 : decode cX7_readGift 73 = .ok (.iconst 2, 1) := dk_5 (dk_at dksX7_readGift_3 1 rfl rfl)
theorem dX7_readGift_74 : decode cX7_readGift 74 = .ok (.iadd, 1) := dk_96 (dk_at dksX7_readGift_3 2 rfl rfl)
theorem dX7_readGift_75 : decode cX7_readGift 75 = .ok (.aload_n 0, 1) := dk_42 (dk_at dksX7_readGift_3 3 rfl rfl)
theorem dX7_readGift_76 : decode cX7_readGift 76 = .ok (.iconst 1, 1) := dk_4 (dk_at dksX7_readGift_3 4 rfl rfl)
theorem dX7_readGift_77 : decode cX7_readGift 77 = .ok (.bipush 9, 2) := dk_16 9 (dk_at dksX7_readGift_3 5 rfl rfl)
theorem dX7_readGift_79 : decode cX7_readGift 79 = .ok (.invokevirtual 91, 3) := dk_182 0 91 (dk_at dksX7_readGift_3 7 rfl rfl)
theorem dX7_readGift_82 : decode cX7_readGift 82 = .ok (.iastore, 1) := dk_79 (dk_at dksX7_readGift_3 10 rfl rfl)
theorem dX7_readGift_83 : decode cX7_readGift 83 = .ok (.aload_n 0, 1) := dk_42 (dk_at dksX7_readGift_3 11 rfl rfl)
theorem dX7_readGift_84 : decode cX7_readGift 84 = .ok (.getfield 13, 3) := dk_180 0 13 (dk_at dksX7_readGift_3 12 rfl rfl)
theorem dX7_readGift_87 : decode cX7_readGift 87 = .ok (.bipush 66, 2) := dk_16 66 (dk_at dksX7_readGift_3 15 rfl rfl)
theorem dX7_readGift_89 : decode cX7_readGift 89 = .ok (.dup2, 1) := dk_92 (dk_at dksX7_readGift_3 17 rfl rfl)
theorem dX7_readGift_90 : decode cX7_readGift 90 = .ok (.iaload, 1) := dk_46 (dk_at dksX7_readGift_3 18 rfl rfl)
theorem dX7_readGift_91 : decode cX7_readGift 91 = .ok (.iconst 1, 1) := dk_4 (dk_at dksX7_readGift_3 19 rfl rfl)
theorem dX7_readGift_92 : decode cX7_readGift 92 = .ok (.iadd, 1) := dk_96 (dk_at dksX7_readGift_3 20 rfl rfl)
theorem dX7_readGift_93 : decode cX7_readGift 93 = .ok (.iastore, 1) := dk_79 (dk_at dksX7_readGift_3 21 rfl rfl)
theorem dX7_readGift_94 : decode cX7_readGift 94 = .ok (.return_, 1) := dk_177 (dk_at dksX7_readGift_3 22 rfl rfl)
abbrev cX7_clockHere : ByteArray := prog_11_method_11_code
def yX7_clockHere : MethodName := ⟨RX7, "clockHere", "()I"⟩
def dkwX7_clockHere_1 : List UInt8 := [181, 0, 95, 27, 172]
abbrev dktX7_clockHere_1 : List UInt8 := dkwX7_clockHere_1 ++ []
def dkwX7_clockHere_0 : List UInt8 := [42, 3, 7, 182, 0, 91, 60, 42, 27, 42, 180, 0, 95, 164, 0, 7, 27, 167, 0, 7, 42, 180, 0, 95]
abbrev dktX7_clockHere_0 : List UInt8 := dkwX7_clockHere_0 ++ dktX7_clockHere_1
theorem dksX7_clockHere_0 : cX7_clockHere.data.toList.drop 0 = dktX7_clockHere_0 := by decide +kernel
theorem dksX7_clockHere_1 : cX7_clockHere.data.toList.drop 24 = dktX7_clockHere_1 := dk_seg dksX7_clockHere_0 24 rfl rfl
theorem dX7_clockHere_0 : decode cX7_clockHere 0 = .ok (.aload_n 0, 1) := dk_42 (dk_at dksX7_clockHere_0 0 rfl rfl)
theorem dX7_clockHere_1 : decode cX7_clockHere 1 = .ok (.iconst 0, 1) := dk_3 (dk_at dksX7_clockHere_0 1 rfl rfl)
theorem dX7_clockHere_2 : decode cX7_clockHere 2 = .ok (.iconst 4, 1) := dk_7 (dk_at dksX7_clockHere_0 2 rfl rfl)
theorem dX7_clockHere_3 : decode cX7_clockHere 3 = .ok (.invokevirtual 91, 3) := dk_182 0 91 (dk_at dksX7_clockHere_0 3 rfl rfl)
theorem dX7_clockHere_6 : decode cX7_clockHere 6 = .ok (.istore_n 1, 1) := dk_60 (dk_at dksX7_clockHere_0 6 rfl rfl)
theorem dX7_clockHere_7 : decode cX7_clockHere 7 = .ok (.aload_n 0, 1) := dk_42 (dk_at dksX7_clockHere_0 7 rfl rfl)
theorem dX7_clockHere_8 : decode cX7_clockHere 8 = .ok (.iload_n 1, 1) := dk_27 (dk_at dksX7_clockHere_0 8 rfl rfl)
theorem dX7_clockHere_9 : decode cX7_clockHere 9 = .ok (.aload_n 0, 1) := dk_42 (dk_at dksX7_clockHere_0 9 rfl rfl)
theorem dX7_clockHere_10 : decode cX7_clockHere 10 = .ok (.getfield 95, 3) := dk_180 0 95 (dk_at dksX7_clockHere_0 10 rfl rfl)
theorem dX7_clockHere_13 : decode cX7_clockHere 13 = .ok (.if_icmp .le 7, 3) := dk_164 0 7 (dk_at dksX7_clockHere_0 13 rfl rfl)
theorem dX7_clockHere_16 : decode cX7_clockHere 16 = .ok (.iload_n 1, 1) := dk_27 (dk_at dksX7_clockHere_0 16 rfl rfl)
theorem dX7_clockHere_17 : decode cX7_clockHere 17 = .ok (.goto 7, 3) := dk_167 0 7 (dk_at dksX7_clockHere_0 17 rfl rfl)
theorem dX7_clockHere_20 : decode cX7_clockHere 20 = .ok (.aload_n 0, 1) := dk_42 (dk_at dksX7_clockHere_0 20 rfl rfl)
theorem dX7_clockHere_21 : decode cX7_clockHere 21 = .ok (.getfield 95, 3) := dk_180 0 95 (dk_at dksX7_clockHere_0 21 rfl rfl)
theorem dX7_clockHere_24 : decode cX7_clockHere 24 = .ok (.putfield 95, 3) := dk_181 0 95 (dk_at dksX7_clockHere_1 0 rfl rfl)
theorem dX7_clockHere_27 : decode cX7_clockHere 27 = .ok (.iload_n 1, 1) := dk_27 (dk_at dksX7_clockHere_1 3 rfl rfl)
theorem dX7_clockHere_28 : decode cX7_clockHere 28 = .ok (.ireturn, 1) := dk_172 (dk_at dksX7_clockHere_1 4 rfl rfl)
abbrev cX7_fault : ByteArray := prog_11_method_16_code
def yX7_fault : MethodName := ⟨RX7, "fault", "()I"⟩
theorem dX7_fault_0 : decode cX7_fault 0 = .ok (.aload_n 0, 1) := by decide +kernel
theorem dX7_fault_1 : decode cX7_fault 1 = .ok (.getfield 123, 3) := by decide +kernel
theorem dX7_fault_4 : decode cX7_fault 4 = .ok (.ireturn, 1) := by decide +kernel
abbrev cX7_rule : ByteArray := prog_11_method_28_code
def yX7_rule : MethodName := ⟨RX7, "rule", "(I)I"⟩
def dkwX7_rule_5 : List UInt8 := [2, 172]
abbrev dktX7_rule_5 : List UInt8 := dkwX7_rule_5 ++ []
def dkwX7_rule_4 : List UInt8 := [42, 180, 0, 7, 16, 66, 46, 172, 42, 3, 182, 0, 150, 172, 28, 172, 42, 180, 0, 7, 16, 22, 46, 172]
abbrev dktX7_rule_4 : List UInt8 := dkwX7_rule_4 ++ dktX7_rule_5
def dkwX7_rule_3 : List UInt8 := [42, 180, 0, 126, 172, 42, 180, 0, 7, 16, 20, 46, 16, 40, 96, 172, 42, 180, 0, 7, 16, 21, 46, 172]
abbrev dktX7_rule_3 : List UInt8 := dkwX7_rule_3 ++ dktX7_rule_4
def dkwX7_rule_2 : List UInt8 := [170, 0, 0, 0, 89, 0, 0, 0, 0, 0, 0, 0, 6, 0, 0, 0, 41, 0, 0, 0, 46, 0, 0, 0, 57, 0, 0, 0, 65, 0, 0, 0, 73, 0, 0, 0, 79, 0, 0, 0, 81]
abbrev dktX7_rule_2 : List UInt8 := dkwX7_rule_2 ++ dktX7_rule_3
def dkwX7_rule_1 : List UInt8 := [132, 3, 1, 167, 255, 233, 27]
abbrev dktX7_rule_1 : List UInt8 := dkwX7_rule_1 ++ dktX7_rule_2
def dkwX7_rule_0 : List UInt8 := [3, 61, 3, 62, 29, 42, 180, 0, 126, 162, 0, 21, 28, 42, 180, 0, 7, 16, 15, 29, 96, 46, 96, 61]
abbrev dktX7_rule_0 : List UInt8 := dkwX7_rule_0 ++ dktX7_rule_1
theorem dksX7_rule_0 : cX7_rule.data.toList.drop 0 = dktX7_rule_0 := by decide +kernel
theorem dksX7_rule_1 : cX7_rule.data.toList.drop 24 = dktX7_rule_1 := dk_seg dksX7_rule_0 24 rfl rfl
theorem dksX7_rule_2 : cX7_rule.data.toList.drop 31 = dktX7_rule_2 := dk_seg dksX7_rule_1 7 rfl rfl
theorem dksX7_rule_3 : cX7_rule.data.toList.drop 72 = dktX7_rule_3 := dk_seg dksX7_rule_2 41 rfl rfl
theorem dksX7_rule_4 : cX7_rule.data.toList.drop 96 = dktX7_rule_4 := dk_seg dksX7_rule_3 24 rfl rfl
theorem dksX7_rule_5 : cX7_rule.data.toList.drop 120 = dktX7_rule_5 := dk_seg dksX7_rule_4 24 rfl rfl
theorem dX7_rule_0 : decode cX7_rule 0 = .ok (.iconst 0, 1) := dk_3 (dk_at dksX7_rule_0 0 rfl rfl)
theorem dX7_rule_1 : decode cX7_rule 1 = .ok (.istore_n 2, 1) := dk_61 (dk_at dksX7_rule_0 1 rfl rfl)
theorem dX7_rule_2 : decode cX7_rule 2 = .ok (.iconst 0, 1) := dk_3 (dk_at dksX7_rule_0 2 rfl rfl)
theorem dX7_rule_3 : decode cX7_rule 3 = .ok (.istore_n 3, 1) := dk_62 (dk_at dksX7_rule_0 3 rfl rfl)
theorem dX7_rule_4 : decode cX7_rule 4 = .ok (.iload_n 3, 1) := dk_29 (dk_at dksX7_rule_0 4 rfl rfl)
theorem dX7_rule_5 : decode cX7_rule 5 = .ok (.aload_n 0, 1) := dk_42 (dk_at dksX7_rule_0 5 rfl rfl)
theorem dX7_rule_6 : decode cX7_rule 6 = .ok (.getfield 126, 3) := dk_180 0 126 (dk_at dksX7_rule_0 6 rfl rfl)
theorem dX7_rule_9 : decode cX7_rule 9 = .ok (.if_icmp .ge 21, 3) := dk_162 0 21 (dk_at dksX7_rule_0 9 rfl rfl)
theorem dX7_rule_12 : decode cX7_rule 12 = .ok (.iload_n 2, 1) := dk_28 (dk_at dksX7_rule_0 12 rfl rfl)
theorem dX7_rule_13 : decode cX7_rule 13 = .ok (.aload_n 0, 1) := dk_42 (dk_at dksX7_rule_0 13 rfl rfl)
theorem dX7_rule_14 : decode cX7_rule 14 = .ok (.getfield 7, 3) := dk_180 0 7 (dk_at dksX7_rule_0 14 rfl rfl)
theorem dX7_rule_17 : decode cX7_rule 17 = .ok (.bipush 15, 2) := dk_16 15 (dk_at dksX7_rule_0 17 rfl rfl)
theorem dX7_rule_19 : decode cX7_rule 19 = .ok (.iload_n 3, 1) := dk_29 (dk_at dksX7_rule_0 19 rfl rfl)
theorem dX7_rule_20 : decode cX7_rule 20 = .ok (.iadd, 1) := dk_96 (dk_at dksX7_rule_0 20 rfl rfl)
theorem dX7_rule_21 : decode cX7_rule 21 = .ok (.iaload, 1) := dk_46 (dk_at dksX7_rule_0 21 rfl rfl)
theorem dX7_rule_22 : decode cX7_rule 22 = .ok (.iadd, 1) := dk_96 (dk_at dksX7_rule_0 22 rfl rfl)
theorem dX7_rule_23 : decode cX7_rule 23 = .ok (.istore_n 2, 1) := dk_61 (dk_at dksX7_rule_0 23 rfl rfl)
theorem dX7_rule_24 : decode cX7_rule 24 = .ok (.iinc 3 1, 3) := dk_132 3 1 (dk_at dksX7_rule_1 0 rfl rfl)
theorem dX7_rule_27 : decode cX7_rule 27 = .ok (.goto (-23), 3) := dk_167 255 233 (dk_at dksX7_rule_1 3 rfl rfl)
theorem dX7_rule_30 : decode cX7_rule 30 = .ok (.iload_n 1, 1) := dk_27 (dk_at dksX7_rule_1 6 rfl rfl)
theorem dX7_rule_31 : decode cX7_rule 31 = .ok (.tableswitch 89 0 6 #[41, 46, 57, 65, 73, 79, 81], 41) := by decide +kernel
theorem dX7_rule_72 : decode cX7_rule 72 = .ok (.aload_n 0, 1) := dk_42 (dk_at dksX7_rule_3 0 rfl rfl)
theorem dX7_rule_73 : decode cX7_rule 73 = .ok (.getfield 126, 3) := dk_180 0 126 (dk_at dksX7_rule_3 1 rfl rfl)
theorem dX7_rule_76 : decode cX7_rule 76 = .ok (.ireturn, 1) := dk_172 (dk_at dksX7_rule_3 4 rfl rfl)
theorem dX7_rule_77 : decode cX7_rule 77 = .ok (.aload_n 0, 1) := dk_42 (dk_at dksX7_rule_3 5 rfl rfl)
theorem dX7_rule_78 : decode cX7_rule 78 = .ok (.getfield 7, 3) := dk_180 0 7 (dk_at dksX7_rule_3 6 rfl rfl)
theorem dX7_rule_81 : decode cX7_rule 81 = .ok (.bipush 20, 2) := dk_16 20 (dk_at dksX7_rule_3 9 rfl rfl)
theorem dX7_rule_83 : decode cX7_rule 83 = .ok (.iaload, 1) := dk_46 (dk_at dksX7_rule_3 11 rfl rfl)
theorem dX7_rule_84 : decode cX7_rule 84 = .ok (.bipush 40, 2) := dk_16 40 (dk_at dksX7_rule_3 12 rfl rfl)
theorem dX7_rule_86 : decode cX7_rule 86 = .ok (.iadd, 1) := dk_96 (dk_at dksX7_rule_3 14 rfl rfl)
theorem dX7_rule_87 : decode cX7_rule 87 = .ok (.ireturn, 1) := dk_172 (dk_at dksX7_rule_3 15 rfl rfl)
theorem dX7_rule_88 : decode cX7_rule 88 = .ok (.aload_n 0, 1) := dk_42 (dk_at dksX7_rule_3 16 rfl rfl)
theorem dX7_rule_89 : decode cX7_rule 89 = .ok (.getfield 7, 3) := dk_180 0 7 (dk_at dksX7_rule_3 17 rfl rfl)
theorem dX7_rule_92 : decode cX7_rule 92 = .ok (.bipush 21, 2) := dk_16 21 (dk_at dksX7_rule_3 20 rfl rfl)
theorem dX7_rule_94 : decode cX7_rule 94 = .ok (.iaload, 1) := dk_46 (dk_at dksX7_rule_3 22 rfl rfl)
theorem dX7_rule_95 : decode cX7_rule 95 = .ok (.ireturn, 1) := dk_172 (dk_at dksX7_rule_3 23 rfl rfl)
theorem dX7_rule_96 : decode cX7_rule 96 = .ok (.aload_n 0, 1) := dk_42 (dk_at dksX7_rule_4 0 rfl rfl)
theorem dX7_rule_97 : decode cX7_rule 97 = .ok (.getfield 7, 3) := dk_180 0 7 (dk_at dksX7_rule_4 1 rfl rfl)
theorem dX7_rule_100 : decode cX7_rule 100 = .ok (.bipush 66, 2) := dk_16 66 (dk_at dksX7_rule_4 4 rfl rfl)
theorem dX7_rule_102 : decode cX7_rule 102 = .ok (.iaload, 1) := dk_46 (dk_at dksX7_rule_4 6 rfl rfl)
theorem dX7_rule_103 : decode cX7_rule 103 = .ok (.ireturn, 1) := dk_172 (dk_at dksX7_rule_4 7 rfl rfl)
theorem dX7_rule_104 : decode cX7_rule 104 = .ok (.aload_n 0, 1) := dk_42 (dk_at dksX7_rule_4 8 rfl rfl)
theorem dX7_rule_105 : decode cX7_rule 105 = .ok (.iconst 0, 1) := dk_3 (dk_at dksX7_rule_4 9 rfl rfl)
theorem dX7_rule_106 : decode cX7_rule 106 = .ok (.invokevirtual 150, 3) := dk_182 0 150 (dk_at dksX7_rule_4 10 rfl rfl)
theorem dX7_rule_109 : decode cX7_rule 109 = .ok (.ireturn, 1) := dk_172 (dk_at dksX7_rule_4 13 rfl rfl)
theorem dX7_rule_110 : decode cX7_rule 110 = .ok (.iload_n 2, 1) := dk_28 (dk_at dksX7_rule_4 14 rfl rfl)
theorem dX7_rule_111 : decode cX7_rule 111 = .ok (.ireturn, 1) := dk_172 (dk_at dksX7_rule_4 15 rfl rfl)
theorem dX7_rule_112 : decode cX7_rule 112 = .ok (.aload_n 0, 1) := dk_42 (dk_at dksX7_rule_4 16 rfl rfl)
theorem dX7_rule_113 : decode cX7_rule 113 = .ok (.getfield 7, 3) := dk_180 0 7 (dk_at dksX7_rule_4 17 rfl rfl)
theorem dX7_rule_116 : decode cX7_rule 116 = .ok (.bipush 22, 2) := dk_16 22 (dk_at dksX7_rule_4 20 rfl rfl)
theorem dX7_rule_118 : decode cX7_rule 118 = .ok (.iaload, 1) := dk_46 (dk_at dksX7_rule_4 22 rfl rfl)
theorem dX7_rule_119 : decode cX7_rule 119 = .ok (.ireturn, 1) := dk_172 (dk_at dksX7_rule_4 23 rfl rfl)
theorem dX7_rule_120 : decode cX7_rule 120 = .ok (.iconst (-1), 1) := dk_2 (dk_at dksX7_rule_5 0 rfl rfl)
theorem dX7_rule_121 : decode cX7_rule 121 = .ok (.ireturn, 1) := dk_172 (dk_at dksX7_rule_5 1 rfl rfl)
abbrev cX7_rightOn : ByteArray := prog_11_method_22_code
def yX7_rightOn : MethodName := ⟨RX7, "rightOn", "(I)I"⟩
def dkwX7_rightOn_1 : List UInt8 := [16, 50, 160, 0, 9, 4, 29, 120, 167, 0, 4, 3, 128, 61, 132, 3, 1, 167, 255, 219, 28, 172]
abbrev dktX7_rightOn_1 : List UInt8 := dkwX7_rightOn_1 ++ []
def dkwX7_rightOn_0 : List UInt8 := [3, 61, 3, 62, 29, 42, 180, 0, 126, 162, 0, 35, 28, 42, 180, 0, 7, 27, 16, 15, 96, 29, 96, 46]
abbrev dktX7_rightOn_0 : List UInt8 := dkwX7_rightOn_0 ++ dktX7_rightOn_1
theorem dksX7_rightOn_0 : cX7_rightOn.data.toList.drop 0 = dktX7_rightOn_0 := by decide +kernel
theorem dksX7_rightOn_1 : cX7_rightOn.data.toList.drop 24 = dktX7_rightOn_1 := dk_seg dksX7_rightOn_0 24 rfl rfl
theorem dX7_rightOn_0 : decode cX7_rightOn 0 = .ok (.iconst 0, 1) := dk_3 (dk_at dksX7_rightOn_0 0 rfl rfl)
theorem dX7_rightOn_1 : decode cX7_rightOn 1 = .ok (.istore_n 2, 1) := dk_61 (dk_at dksX7_rightOn_0 1 rfl rfl)
theorem dX7_rightOn_2 : decode cX7_rightOn 2 = .ok (.iconst 0, 1) := dk_3 (dk_at dksX7_rightOn_0 2 rfl rfl)
theorem dX7_rightOn_3 : decode cX7_rightOn 3 = .ok (.istore_n 3, 1) := dk_62 (dk_at dksX7_rightOn_0 3 rfl rfl)
theorem dX7_rightOn_4 : decode cX7_rightOn 4 = .ok (.iload_n 3, 1) := dk_29 (dk_at dksX7_rightOn_0 4 rfl rfl)
theorem dX7_rightOn_5 : decode cX7_rightOn 5 = .ok (.aload_n 0, 1) := dk_42 (dk_at dksX7_rightOn_0 5 rfl rfl)
theorem dX7_rightOn_6 : decode cX7_rightOn 6 = .ok (.getfield 126, 3) := dk_180 0 126 (dk_at dksX7_rightOn_0 6 rfl rfl)
theorem dX7_rightOn_9 : decode cX7_rightOn 9 = .ok (.if_icmp .ge 35, 3) := dk_162 0 35 (dk_at dksX7_rightOn_0 9 rfl rfl)
theorem dX7_rightOn_12 : decode cX7_rightOn 12 = .ok (.iload_n 2, 1) := dk_28 (dk_at dksX7_rightOn_0 12 rfl rfl)
theorem dX7_rightOn_13 : decode cX7_rightOn 13 = .ok (.aload_n 0, 1) := dk_42 (dk_at dksX7_rightOn_0 13 rfl rfl)
theorem dX7_rightOn_14 : decode cX7_rightOn 14 = .ok (.getfield 7, 3) := dk_180 0 7 (dk_at dksX7_rightOn_0 14 rfl rfl)
theorem dX7_rightOn_17 : decode cX7_rightOn 17 = .ok (.iload_n 1, 1) := dk_27 (dk_at dksX7_rightOn_0 17 rfl rfl)
theorem dX7_rightOn_18 : decode cX7_rightOn 18 = .ok (.bipush 15, 2) := dk_16 15 (dk_at dksX7_rightOn_0 18 rfl rfl)
theorem dX7_rightOn_20 : decode cX7_rightOn 20 = .ok (.iadd, 1) := dk_96 (dk_at dksX7_rightOn_0 20 rfl rfl)
theorem dX7_rightOn_21 : decode cX7_rightOn 21 = .ok (.iload_n 3, 1) := dk_29 (dk_at dksX7_rightOn_0 21 rfl rfl)
theorem dX7_rightOn_22 : decode cX7_rightOn 22 = .ok (.iadd, 1) := dk_96 (dk_at dksX7_rightOn_0 22 rfl rfl)
theorem dX7_rightOn_23 : decode cX7_rightOn 23 = .ok (.iaload, 1) := dk_46 (dk_at dksX7_rightOn_0 23 rfl rfl)
theorem dX7_rightOn_24 : decode cX7_rightOn 24 = .ok (.bipush 50, 2) := dk_16 50 (dk_at dksX7_rightOn_1 0 rfl rfl)
theorem dX7_rightOn_26 : decode cX7_rightOn 26 = .ok (.if_icmp .ne 9, 3) := dk_160 0 9 (dk_at dksX7_rightOn_1 2 rfl rfl)
theorem dX7_rightOn_29 : decode cX7_rightOn 29 = .ok (.iconst 1, 1) := dk_4 (dk_at dksX7_rightOn_1 5 rfl rfl)
theorem dX7_rightOn_30 : decode cX7_rightOn 30 = .ok (.iload_n 3, 1) := dk_29 (dk_at dksX7_rightOn_1 6 rfl rfl)
theorem dX7_rightOn_31 : decode cX7_rightOn 31 = .ok (.ishl, 1) := dk_120 (dk_at dksX7_rightOn_1 7 rfl rfl)
theorem dX7_rightOn_32 : decode cX7_rightOn 32 = .ok (.goto 4, 3) := dk_167 0 4 (dk_at dksX7_rightOn_1 8 rfl rfl)
theorem dX7_rightOn_35 : decode cX7_rightOn 35 = .ok (.iconst 0, 1) := dk_3 (dk_at dksX7_rightOn_1 11 rfl rfl)
theorem dX7_rightOn_36 : decode cX7_rightOn 36 = .ok (.ior, 1) := dk_128 (dk_at dksX7_rightOn_1 12 rfl rfl)
theorem dX7_rightOn_37 : decode cX7_rightOn 37 = .ok (.istore_n 2, 1) := dk_61 (dk_at dksX7_rightOn_1 13 rfl rfl)
theorem dX7_rightOn_38 : decode cX7_rightOn 38 = .ok (.iinc 3 1, 3) := dk_132 3 1 (dk_at dksX7_rightOn_1 14 rfl rfl)
theorem dX7_rightOn_41 : decode cX7_rightOn 41 = .ok (.goto (-37), 3) := dk_167 255 219 (dk_at dksX7_rightOn_1 17 rfl rfl)
theorem dX7_rightOn_44 : decode cX7_rightOn 44 = .ok (.iload_n 2, 1) := dk_28 (dk_at dksX7_rightOn_1 20 rfl rfl)
theorem dX7_rightOn_45 : decode cX7_rightOn 45 = .ok (.ireturn, 1) := dk_172 (dk_at dksX7_rightOn_1 21 rfl rfl)
abbrev cX7_clock : ByteArray := prog_11_method_29_code
def yX7_clock : MethodName := ⟨RX7, "clock", "(II)I"⟩
def dkwX7_clock_2 : List UInt8 := [172]
abbrev dktX7_clock_2 : List UInt8 := dkwX7_clock_2 ++ []
def dkwX7_clock_1 : List UInt8 := [28, 7, 160, 0, 12, 42, 3, 27, 182, 0, 139, 167, 0, 13, 42, 180, 0, 7, 8, 28, 104, 27, 96, 46]
abbrev dktX7_clock_1 : List UInt8 := dkwX7_clock_1 ++ dktX7_clock_2
def dkwX7_clock_0 : List UInt8 := [42, 27, 182, 0, 132, 153, 0, 15, 28, 133, 9, 20, 0, 153, 184, 0, 46, 154, 0, 7, 2, 167, 0, 27]
abbrev dktX7_clock_0 : List UInt8 := dkwX7_clock_0 ++ dktX7_clock_1
theorem dksX7_clock_0 : cX7_clock.data.toList.drop 0 = dktX7_clock_0 := by decide +kernel
theorem dksX7_clock_1 : cX7_clock.data.toList.drop 24 = dktX7_clock_1 := dk_seg dksX7_clock_0 24 rfl rfl
theorem dksX7_clock_2 : cX7_clock.data.toList.drop 48 = dktX7_clock_2 := dk_seg dksX7_clock_1 24 rfl rfl
theorem dX7_clock_0 : decode cX7_clock 0 = .ok (.aload_n 0, 1) := dk_42 (dk_at dksX7_clock_0 0 rfl rfl)
theorem dX7_clock_1 : decode cX7_clock 1 = .ok (.iload_n 1, 1) := dk_27 (dk_at dksX7_clock_0 1 rfl rfl)
theorem dX7_clock_2 : decode cX7_clock 2 = .ok (.invokevirtual 132, 3) := dk_182 0 132 (dk_at dksX7_clock_0 2 rfl rfl)
theorem dX7_clock_5 : decode cX7_clock 5 = .ok (.ifCond .eq 15, 3) := dk_153 0 15 (dk_at dksX7_clock_0 5 rfl rfl)
theorem dX7_clock_8 : decode cX7_clock 8 = .ok (.iload_n 2, 1) := dk_28 (dk_at dksX7_clock_0 8 rfl rfl)
theorem dX7_clock_9 : decode cX7_clock 9 = .ok (.i2l, 1) := dk_133 (dk_at dksX7_clock_0 9 rfl rfl)
theorem dX7_clock_10 : decode cX7_clock 10 = .ok (.lconst 0, 1) := dk_9 (dk_at dksX7_clock_0 10 rfl rfl)
theorem dX7_clock_11 : decode cX7_clock 11 = .ok (.ldc2_w 153, 3) := dk_20 0 153 (dk_at dksX7_clock_0 11 rfl rfl)
theorem dX7_clock_14 : decode cX7_clock 14 = .ok (.invokestatic 46, 3) := dk_184 0 46 (dk_at dksX7_clock_0 14 rfl rfl)
theorem dX7_clock_17 : decode cX7_clock 17 = .ok (.ifCond .ne 7, 3) := dk_154 0 7 (dk_at dksX7_clock_0 17 rfl rfl)
theorem dX7_clock_20 : decode cX7_clock 20 = .ok (.iconst (-1), 1) := dk_2 (dk_at dksX7_clock_0 20 rfl rfl)
theorem dX7_clock_21 : decode cX7_clock 21 = .ok (.goto 27, 3) := dk_167 0 27 (dk_at dksX7_clock_0 21 rfl rfl)
theorem dX7_clock_24 : decode cX7_clock 24 = .ok (.iload_n 2, 1) := dk_28 (dk_at dksX7_clock_1 0 rfl rfl)
theorem dX7_clock_25 : decode cX7_clock 25 = .ok (.iconst 4, 1) := dk_7 (dk_at dksX7_clock_1 1 rfl rfl)
theorem dX7_clock_26 : decode cX7_clock 26 = .ok (.if_icmp .ne 12, 3) := dk_160 0 12 (dk_at dksX7_clock_1 2 rfl rfl)
theorem dX7_clock_29 : decode cX7_clock 29 = .ok (.aload_n 0, 1) := dk_42 (dk_at dksX7_clock_1 5 rfl rfl)
theorem dX7_clock_30 : decode cX7_clock 30 = .ok (.iconst 0, 1) := dk_3 (dk_at dksX7_clock_1 6 rfl rfl)
theorem dX7_clock_31 : decode cX7_clock 31 = .ok (.iload_n 1, 1) := dk_27 (dk_at dksX7_clock_1 7 rfl rfl)
theorem dX7_clock_32 : decode cX7_clock 32 = .ok (.invokevirtual 139, 3) := dk_182 0 139 (dk_at dksX7_clock_1 8 rfl rfl)
theorem dX7_clock_35 : decode cX7_clock 35 = .ok (.goto 13, 3) := dk_167 0 13 (dk_at dksX7_clock_1 11 rfl rfl)
theorem dX7_clock_38 : decode cX7_clock 38 = .ok (.aload_n 0, 1) := dk_42 (dk_at dksX7_clock_1 14 rfl rfl)
theorem dX7_clock_39 : decode cX7_clock 39 = .ok (.getfield 7, 3) := dk_180 0 7 (dk_at dksX7_clock_1 15 rfl rfl)
theorem dX7_clock_42 : decode cX7_clock 42 = .ok (.iconst 5, 1) := dk_8 (dk_at dksX7_clock_1 18 rfl rfl)
theorem dX7_clock_43 : decode cX7_clock 43 = .ok (.iload_n 2, 1) := dk_28 (dk_at dksX7_clock_1 19 rfl rfl)
theorem dX7_clock_44 : decode cX7_clock 44 = .ok (.imul, 1) := dk_104 (dk_at dksX7_clock_1 20 rfl rfl)
theorem dX7_clock_45 : decode cX7_clock 45 = .ok (.iload_n 1, 1) := dk_27 (dk_at dksX7_clock_1 21 rfl rfl)
theorem dX7_clock_46 : decode cX7_clock 46 = .ok (.iadd, 1) := dk_96 (dk_at dksX7_clock_1 22 rfl rfl)
theorem dX7_clock_47 : decode cX7_clock 47 = .ok (.iaload, 1) := dk_46 (dk_at dksX7_clock_1 23 rfl rfl)
theorem dX7_clock_48 : decode cX7_clock 48 = .ok (.ireturn, 1) := dk_172 (dk_at dksX7_clock_2 0 rfl rfl)
abbrev cX7_isClock : ByteArray := prog_11_method_17_code
def yX7_isClock : MethodName := ⟨RX7, "isClock", "(I)Z"⟩
def dkwX7_isClock_0 : List UInt8 := [27, 133, 9, 42, 180, 0, 126, 4, 100, 133, 184, 0, 46, 172]
abbrev dktX7_isClock_0 : List UInt8 := dkwX7_isClock_0 ++ []
theorem dksX7_isClock_0 : cX7_isClock.data.toList.drop 0 = dktX7_isClock_0 := by decide +kernel
theorem dX7_isClock_0 : decode cX7_isClock 0 = .ok (.iload_n 1, 1) := dk_27 (dk_at dksX7_isClock_0 0 rfl rfl)
theorem dX7_isClock_1 : decode cX7_isClock 1 = .ok (.i2l, 1) := dk_133 (dk_at dksX7_isClock_0 1 rfl rfl)
theorem dX7_isClock_2 : decode cX7_isClock 2 = .ok (.lconst 0, 1) := dk_9 (dk_at dksX7_isClock_0 2 rfl rfl)
theorem dX7_isClock_3 : decode cX7_isClock 3 = .ok (.aload_n 0, 1) := dk_42 (dk_at dksX7_isClock_0 3 rfl rfl)
theorem dX7_isClock_4 : decode cX7_isClock 4 = .ok (.getfield 126, 3) := dk_180 0 126 (dk_at dksX7_isClock_0 4 rfl rfl)
theorem dX7_isClock_7 : decode cX7_isClock 7 = .ok (.iconst 1, 1) := dk_4 (dk_at dksX7_isClock_0 7 rfl rfl)
theorem dX7_isClock_8 : decode cX7_isClock 8 = .ok (.isub, 1) := dk_100 (dk_at dksX7_isClock_0 8 rfl rfl)
theorem dX7_isClock_9 : decode cX7_isClock 9 = .ok (.i2l, 1) := dk_133 (dk_at dksX7_isClock_0 9 rfl rfl)
theorem dX7_isClock_10 : decode cX7_isClock 10 = .ok (.invokestatic 46, 3) := dk_184 0 46 (dk_at dksX7_isClock_0 10 rfl rfl)
theorem dX7_isClock_13 : decode cX7_isClock 13 = .ok (.ireturn, 1) := dk_172 (dk_at dksX7_isClock_0 13 rfl rfl)
abbrev cX7_laterOn : ByteArray := prog_11_method_20_code
def yX7_laterOn : MethodName := ⟨RX7, "laterOn", "(II)I"⟩
def dkwX7_laterOn_2 : List UInt8 := [164, 0, 8, 16, 99, 167, 0, 4, 29, 172]
abbrev dktX7_laterOn_2 : List UInt8 := dkwX7_laterOn_2 ++ []
def dkwX7_laterOn_1 : List UInt8 := [16, 10, 96, 28, 96, 46, 184, 0, 136, 96, 62, 29, 156, 0, 7, 3, 167, 0, 15, 29, 16, 99]
abbrev dktX7_laterOn_1 : List UInt8 := dkwX7_laterOn_1 ++ dktX7_laterOn_2
def dkwX7_laterOn_0 : List UInt8 := [42, 180, 0, 7, 27, 16, 15, 96, 28, 96, 46, 42, 180, 0, 7, 27, 28, 96, 46, 42, 180, 0, 7, 27]
abbrev dktX7_laterOn_0 : List UInt8 := dkwX7_laterOn_0 ++ dktX7_laterOn_1
theorem dksX7_laterOn_0 : cX7_laterOn.data.toList.drop 0 = dktX7_laterOn_0 := by decide +kernel
theorem dksX7_laterOn_1 : cX7_laterOn.data.toList.drop 24 = dktX7_laterOn_1 := dk_seg dksX7_laterOn_0 24 rfl rfl
theorem dksX7_laterOn_2 : cX7_laterOn.data.toList.drop 46 = dktX7_laterOn_2 := dk_seg dksX7_laterOn_1 22 rfl rfl
theorem dX7_laterOn_0 : decode cX7_laterOn 0 = .ok (.aload_n 0, 1) := dk_42 (dk_at dksX7_laterOn_0 0 rfl rfl)
theorem dX7_laterOn_1 : decode cX7_laterOn 1 = .ok (.getfield 7, 3) := dk_180 0 7 (dk_at dksX7_laterOn_0 1 rfl rfl)
theorem dX7_laterOn_4 : decode cX7_laterOn 4 = .ok (.iload_n 1, 1) := dk_27 (dk_at dksX7_laterOn_0 4 rfl rfl)
theorem dX7_laterOn_5 : decode cX7_laterOn 5 = .ok (.bipush 15, 2) := dk_16 15 (dk_at dksX7_laterOn_0 5 rfl rfl)
theorem dX7_laterOn_7 : decode cX7_laterOn 7 = .ok (.iadd, 1) := dk_96 (dk_at dksX7_laterOn_0 7 rfl rfl)
theorem dX7_laterOn_8 : decode cX7_laterOn 8 = .ok (.iload_n 2, 1) := dk_28 (dk_at dksX7_laterOn_0 8 rfl rfl)
theorem dX7_laterOn_9 : decode cX7_laterOn 9 = .ok (.iadd, 1) := dk_96 (dk_at dksX7_laterOn_0 9 rfl rfl)
theorem dX7_laterOn_10 : decode cX7_laterOn 10 = .ok (.iaload, 1) := dk_46 (dk_at dksX7_laterOn_0 10 rfl rfl)
theorem dX7_laterOn_11 : decode cX7_laterOn 11 = .ok (.aload_n 0, 1) := dk_42 (dk_at dksX7_laterOn_0 11 rfl rfl)
theorem dX7_laterOn_12 : decode cX7_laterOn 12 = .ok (.getfield 7, 3) := dk_180 0 7 (dk_at dksX7_laterOn_0 12 rfl rfl)
theorem dX7_laterOn_15 : decode cX7_laterOn 15 = .ok (.iload_n 1, 1) := dk_27 (dk_at dksX7_laterOn_0 15 rfl rfl)
theorem dX7_laterOn_16 : decode cX7_laterOn 16 = .ok (.iload_n 2, 1) := dk_28 (dk_at dksX7_laterOn_0 16 rfl rfl)
theorem dX7_laterOn_17 : decode cX7_laterOn 17 = .ok (.iadd, 1) := dk_96 (dk_at dksX7_laterOn_0 17 rfl rfl)
theorem dX7_laterOn_18 : decode cX7_laterOn 18 = .ok (.iaload, 1) := dk_46 (dk_at dksX7_laterOn_0 18 rfl rfl)
theorem dX7_laterOn_19 : decode cX7_laterOn 19 = .ok (.aload_n 0, 1) := dk_42 (dk_at dksX7_laterOn_0 19 rfl rfl)
theorem dX7_laterOn_20 : decode cX7_laterOn 20 = .ok (.getfield 7, 3) := dk_180 0 7 (dk_at dksX7_laterOn_0 20 rfl rfl)
theorem dX7_laterOn_23 : decode cX7_laterOn 23 = .ok (.iload_n 1, 1) := dk_27 (dk_at dksX7_laterOn_0 23 rfl rfl)
theorem dX7_laterOn_24 : decode cX7_laterOn 24 = .ok (.bipush 10, 2) := dk_16 10 (dk_at dksX7_laterOn_1 0 rfl rfl)
theorem dX7_laterOn_26 : decode cX7_laterOn 26 = .ok (.iadd, 1) := dk_96 (dk_at dksX7_laterOn_1 2 rfl rfl)
theorem dX7_laterOn_27 : decode cX7_laterOn 27 = .ok (.iload_n 2, 1) := dk_28 (dk_at dksX7_laterOn_1 3 rfl rfl)
theorem dX7_laterOn_28 : decode cX7_laterOn 28 = .ok (.iadd, 1) := dk_96 (dk_at dksX7_laterOn_1 4 rfl rfl)
theorem dX7_laterOn_29 : decode cX7_laterOn 29 = .ok (.iaload, 1) := dk_46 (dk_at dksX7_laterOn_1 5 rfl rfl)
theorem dX7_laterOn_30 : decode cX7_laterOn 30 = .ok (.invokestatic 136, 3) := dk_184 0 136 (dk_at dksX7_laterOn_1 6 rfl rfl)
theorem dX7_laterOn_33 : decode cX7_laterOn 33 = .ok (.iadd, 1) := dk_96 (dk_at dksX7_laterOn_1 9 rfl rfl)
theorem dX7_laterOn_34 : decode cX7_laterOn 34 = .ok (.istore_n 3, 1) := dk_62 (dk_at dksX7_laterOn_1 10 rfl rfl)
theorem dX7_laterOn_35 : decode cX7_laterOn 35 = .ok (.iload_n 3, 1) := dk_29 (dk_at dksX7_laterOn_1 11 rfl rfl)
theorem dX7_laterOn_36 : decode cX7_laterOn 36 = .ok (.ifCond .ge 7, 3) := dk_156 0 7 (dk_at dksX7_laterOn_1 12 rfl rfl)
theorem dX7_laterOn_39 : decode cX7_laterOn 39 = .ok (.iconst 0, 1) := dk_3 (dk_at dksX7_laterOn_1 15 rfl rfl)
theorem dX7_laterOn_40 : decode cX7_laterOn 40 = .ok (.goto 15, 3) := dk_167 0 15 (dk_at dksX7_laterOn_1 16 rfl rfl)
theorem dX7_laterOn_43 : decode cX7_laterOn 43 = .ok (.iload_n 3, 1) := dk_29 (dk_at dksX7_laterOn_1 19 rfl rfl)
theorem dX7_laterOn_44 : decode cX7_laterOn 44 = .ok (.bipush 99, 2) := dk_16 99 (dk_at dksX7_laterOn_1 20 rfl rfl)
theorem dX7_laterOn_46 : decode cX7_laterOn 46 = .ok (.if_icmp .le 8, 3) := dk_164 0 8 (dk_at dksX7_laterOn_2 0 rfl rfl)
theorem dX7_laterOn_49 : decode cX7_laterOn 49 = .ok (.bipush 99, 2) := dk_16 99 (dk_at dksX7_laterOn_2 3 rfl rfl)
theorem dX7_laterOn_51 : decode cX7_laterOn 51 = .ok (.goto 4, 3) := dk_167 0 4 (dk_at dksX7_laterOn_2 5 rfl rfl)
theorem dX7_laterOn_54 : decode cX7_laterOn 54 = .ok (.iload_n 3, 1) := dk_29 (dk_at dksX7_laterOn_2 8 rfl rfl)
theorem dX7_laterOn_55 : decode cX7_laterOn 55 = .ok (.ireturn, 1) := dk_172 (dk_at dksX7_laterOn_2 9 rfl rfl)
abbrev cX7_gainsOf : ByteArray := prog_11_method_19_code
def yX7_gainsOf : MethodName := ⟨RX7, "gainsOf", "(II)I"⟩
def dkwX7_gainsOf_1 : List UInt8 := [5, 160, 0, 11, 5, 28, 104, 4, 100, 167, 0, 5, 28, 116, 172]
abbrev dktX7_gainsOf_1 : List UInt8 := dkwX7_gainsOf_1 ++ []
def dkwX7_gainsOf_0 : List UInt8 := [27, 6, 100, 61, 26, 154, 0, 7, 28, 167, 0, 29, 26, 4, 160, 0, 9, 5, 28, 104, 167, 0, 18, 26]
abbrev dktX7_gainsOf_0 : List UInt8 := dkwX7_gainsOf_0 ++ dktX7_gainsOf_1
theorem dksX7_gainsOf_0 : cX7_gainsOf.data.toList.drop 0 = dktX7_gainsOf_0 := by decide +kernel
theorem dksX7_gainsOf_1 : cX7_gainsOf.data.toList.drop 24 = dktX7_gainsOf_1 := dk_seg dksX7_gainsOf_0 24 rfl rfl
theorem dX7_gainsOf_0 : decode cX7_gainsOf 0 = .ok (.iload_n 1, 1) := dk_27 (dk_at dksX7_gainsOf_0 0 rfl rfl)
theorem dX7_gainsOf_1 : decode cX7_gainsOf 1 = .ok (.iconst 3, 1) := dk_6 (dk_at dksX7_gainsOf_0 1 rfl rfl)
theorem dX7_gainsOf_2 : decode cX7_gainsOf 2 = .ok (.isub, 1) := dk_100 (dk_at dksX7_gainsOf_0 2 rfl rfl)
theorem dX7_gainsOf_3 : decode cX7_gainsOf 3 = .ok (.istore_n 2, 1) := dk_61 (dk_at dksX7_gainsOf_0 3 rfl rfl)
theorem dX7_gainsOf_4 : decode cX7_gainsOf 4 = .ok (.iload_n 0, 1) := dk_26 (dk_at dksX7_gainsOf_0 4 rfl rfl)
theorem dX7_gainsOf_5 : decode cX7_gainsOf 5 = .ok (.ifCond .ne 7, 3) := dk_154 0 7 (dk_at dksX7_gainsOf_0 5 rfl rfl)
theorem dX7_gainsOf_8 : decode cX7_gainsOf 8 = .ok (.iload_n 2, 1) := dk_28 (dk_at dksX7_gainsOf_0 8 rfl rfl)
theorem dX7_gainsOf_9 : decode cX7_gainsOf 9 = .ok (.goto 29, 3) := dk_167 0 29 (dk_at dksX7_gainsOf_0 9 rfl rfl)
theorem dX7_gainsOf_12 : decode cX7_gainsOf 12 = .ok (.iload_n 0, 1) := dk_26 (dk_at dksX7_gainsOf_0 12 rfl rfl)
theorem dX7_gainsOf_13 : decode cX7_gainsOf 13 = .ok (.iconst 1, 1) := dk_4 (dk_at dksX7_gainsOf_0 13 rfl rfl)
theorem dX7_gainsOf_14 : decode cX7_gainsOf 14 = .ok (.if_icmp .ne 9, 3) := dk_160 0 9 (dk_at dksX7_gainsOf_0 14 rfl rfl)
theorem dX7_gainsOf_17 : decode cX7_gainsOf 17 = .ok (.iconst 2, 1) := dk_5 (dk_at dksX7_gainsOf_0 17 rfl rfl)
theorem dX7_gainsOf_18 : decode cX7_gainsOf 18 = .ok (.iload_n 2, 1) := dk_28 (dk_at dksX7_gainsOf_0 18 rfl rfl)
theorem dX7_gainsOf_19 : decode cX7_gainsOf 19 = .ok (.imul, 1) := dk_104 (dk_at dksX7_gainsOf_0 19 rfl rfl)
theorem dX7_gainsOf_20 : decode cX7_gainsOf 20 = .ok (.goto 18, 3) := dk_167 0 18 (dk_at dksX7_gainsOf_0 20 rfl rfl)
theorem dX7_gainsOf_23 : decode cX7_gainsOf 23 = .ok (.iload_n 0, 1) := dk_26 (dk_at dksX7_gainsOf_0 23 rfl rfl)
theorem dX7_gainsOf_24 : decode cX7_gainsOf 24 = .ok (.iconst 2, 1) := dk_5 (dk_at dksX7_gainsOf_1 0 rfl rfl)
theorem dX7_gainsOf_25 : decode cX7_gainsOf 25 = .ok (.if_icmp .ne 11, 3) := dk_160 0 11 (dk_at dksX7_gainsOf_1 1 rfl rfl)
theorem dX7_gainsOf_28 : decode cX7_gainsOf 28 = .ok (.iconst 2, 1) := dk_5 (dk_at dksX7_gainsOf_1 4 rfl rfl)
theorem dX7_gainsOf_29 : decode cX7_gainsOf 29 = .ok (.iload_n 2, 1) := dk_28 (dk_at dksX7_gainsOf_1 5 rfl rfl)
theorem dX7_gainsOf_30 : decode cX7_gainsOf 30 = .ok (.imul, 1) := dk_104 (dk_at dksX7_gainsOf_1 6 rfl rfl)
theorem dX7_gainsOf_31 : decode cX7_gainsOf 31 = .ok (.iconst 1, 1) := dk_4 (dk_at dksX7_gainsOf_1 7 rfl rfl)
theorem dX7_gainsOf_32 : decode cX7_gainsOf 32 = .ok (.isub, 1) := dk_100 (dk_at dksX7_gainsOf_1 8 rfl rfl)
theorem dX7_gainsOf_33 : decode cX7_gainsOf 33 = .ok (.goto 5, 3) := dk_167 0 5 (dk_at dksX7_gainsOf_1 9 rfl rfl)
theorem dX7_gainsOf_36 : decode cX7_gainsOf 36 = .ok (.iload_n 2, 1) := dk_28 (dk_at dksX7_gainsOf_1 12 rfl rfl)
theorem dX7_gainsOf_37 : decode cX7_gainsOf 37 = .ok (.ineg, 1) := dk_116 (dk_at dksX7_gainsOf_1 13 rfl rfl)
theorem dX7_gainsOf_38 : decode cX7_gainsOf 38 = .ok (.ireturn, 1) := dk_172 (dk_at dksX7_gainsOf_1 14 rfl rfl)
abbrev cX7_got : ByteArray := prog_11_method_30_code
def yX7_got : MethodName := ⟨RX7, "got", "(II)I"⟩
def dkwX7_got_1 : List UInt8 := [167, 0, 4, 2, 172]
abbrev dktX7_got_1 : List UInt8 := dkwX7_got_1 ++ []
def dkwX7_got_0 : List UInt8 := [42, 27, 28, 182, 0, 155, 153, 0, 19, 42, 180, 0, 7, 16, 23, 8, 27, 104, 96, 28, 96, 46]
abbrev dktX7_got_0 : List UInt8 := dkwX7_got_0 ++ dktX7_got_1
theorem dksX7_got_0 : cX7_got.data.toList.drop 0 = dktX7_got_0 := by decide +kernel
theorem dksX7_got_1 : cX7_got.data.toList.drop 22 = dktX7_got_1 := dk_seg dksX7_got_0 22 rfl rfl
theorem dX7_got_0 : decode cX7_got 0 = .ok (.aload_n 0, 1) := dk_42 (dk_at dksX7_got_0 0 rfl rfl)
theorem dX7_got_1 : decode cX7_got 1 = .ok (.iload_n 1, 1) := dk_27 (dk_at dksX7_got_0 1 rfl rfl)
theorem dX7_got_2 : decode cX7_got 2 = .ok (.iload_n 2, 1) := dk_28 (dk_at dksX7_got_0 2 rfl rfl)
theorem dX7_got_3 : decode cX7_got 3 = .ok (.invokevirtual 155, 3) := dk_182 0 155 (dk_at dksX7_got_0 3 rfl rfl)
theorem dX7_got_6 : decode cX7_got 6 = .ok (.ifCond .eq 19, 3) := dk_153 0 19 (dk_at dksX7_got_0 6 rfl rfl)
theorem dX7_got_9 : decode cX7_got 9 = .ok (.aload_n 0, 1) := dk_42 (dk_at dksX7_got_0 9 rfl rfl)
theorem dX7_got_10 : decode cX7_got 10 = .ok (.getfield 7, 3) := dk_180 0 7 (dk_at dksX7_got_0 10 rfl rfl)
theorem dX7_got_13 : decode cX7_got 13 = .ok (.bipush 23, 2) := dk_16 23 (dk_at dksX7_got_0 13 rfl rfl)
theorem dX7_got_15 : decode cX7_got 15 = .ok (.iconst 5, 1) := dk_8 (dk_at dksX7_got_0 15 rfl rfl)
theorem dX7_got_16 : decode cX7_got 16 = .ok (.iload_n 1, 1) := dk_27 (dk_at dksX7_got_0 16 rfl rfl)
theorem dX7_got_17 : decode cX7_got 17 = .ok (.imul, 1) := dk_104 (dk_at dksX7_got_0 17 rfl rfl)
theorem dX7_got_18 : decode cX7_got 18 = .ok (.iadd, 1) := dk_96 (dk_at dksX7_got_0 18 rfl rfl)
theorem dX7_got_19 : decode cX7_got 19 = .ok (.iload_n 2, 1) := dk_28 (dk_at dksX7_got_0 19 rfl rfl)
theorem dX7_got_20 : decode cX7_got 20 = .ok (.iadd, 1) := dk_96 (dk_at dksX7_got_0 20 rfl rfl)
theorem dX7_got_21 : decode cX7_got 21 = .ok (.iaload, 1) := dk_46 (dk_at dksX7_got_0 21 rfl rfl)
theorem dX7_got_22 : decode cX7_got 22 = .ok (.goto 4, 3) := dk_167 0 4 (dk_at dksX7_got_1 0 rfl rfl)
theorem dX7_got_25 : decode cX7_got 25 = .ok (.iconst (-1), 1) := dk_2 (dk_at dksX7_got_1 3 rfl rfl)
theorem dX7_got_26 : decode cX7_got 26 = .ok (.ireturn, 1) := dk_172 (dk_at dksX7_got_1 4 rfl rfl)
abbrev cX7_areTwo : ByteArray := prog_11_method_18_code
def yX7_areTwo : MethodName := ⟨RX7, "areTwo", "(II)Z"⟩
def dkwX7_areTwo_1 : List UInt8 := [167, 0, 4, 3, 172]
abbrev dktX7_areTwo_1 : List UInt8 := dkwX7_areTwo_1 ++ []
def dkwX7_areTwo_0 : List UInt8 := [42, 27, 182, 0, 132, 153, 0, 20, 42, 28, 182, 0, 132, 153, 0, 12, 27, 28, 159, 0, 7, 4]
abbrev dktX7_areTwo_0 : List UInt8 := dkwX7_areTwo_0 ++ dktX7_areTwo_1
theorem dksX7_areTwo_0 : cX7_areTwo.data.toList.drop 0 = dktX7_areTwo_0 := by decide +kernel
theorem dksX7_areTwo_1 : cX7_areTwo.data.toList.drop 22 = dktX7_areTwo_1 := dk_seg dksX7_areTwo_0 22 rfl rfl
theorem dX7_areTwo_0 : decode cX7_areTwo 0 = .ok (.aload_n 0, 1) := dk_42 (dk_at dksX7_areTwo_0 0 rfl rfl)
theorem dX7_areTwo_1 : decode cX7_areTwo 1 = .ok (.iload_n 1, 1) := dk_27 (dk_at dksX7_areTwo_0 1 rfl rfl)
theorem dX7_areTwo_2 : decode cX7_areTwo 2 = .ok (.invokevirtual 132, 3) := dk_182 0 132 (dk_at dksX7_areTwo_0 2 rfl rfl)
theorem dX7_areTwo_5 : decode cX7_areTwo 5 = .ok (.ifCond .eq 20, 3) := dk_153 0 20 (dk_at dksX7_areTwo_0 5 rfl rfl)
theorem dX7_areTwo_8 : decode cX7_areTwo 8 = .ok (.aload_n 0, 1) := dk_42 (dk_at dksX7_areTwo_0 8 rfl rfl)
theorem dX7_areTwo_9 : decode cX7_areTwo 9 = .ok (.iload_n 2, 1) := dk_28 (dk_at dksX7_areTwo_0 9 rfl rfl)
theorem dX7_areTwo_10 : decode cX7_areTwo 10 = .ok (.invokevirtual 132, 3) := dk_182 0 132 (dk_at dksX7_areTwo_0 10 rfl rfl)
theorem dX7_areTwo_13 : decode cX7_areTwo 13 = .ok (.ifCond .eq 12, 3) := dk_153 0 12 (dk_at dksX7_areTwo_0 13 rfl rfl)
theorem dX7_areTwo_16 : decode cX7_areTwo 16 = .ok (.iload_n 1, 1) := dk_27 (dk_at dksX7_areTwo_0 16 rfl rfl)
theorem dX7_areTwo_17 : decode cX7_areTwo 17 = .ok (.iload_n 2, 1) := dk_28 (dk_at dksX7_areTwo_0 17 rfl rfl)
theorem dX7_areTwo_18 : decode cX7_areTwo 18 = .ok (.if_icmp .eq 7, 3) := dk_159 0 7 (dk_at dksX7_areTwo_0 18 rfl rfl)
theorem dX7_areTwo_21 : decode cX7_areTwo 21 = .ok (.iconst 1, 1) := dk_4 (dk_at dksX7_areTwo_0 21 rfl rfl)
theorem dX7_areTwo_22 : decode cX7_areTwo 22 = .ok (.goto 4, 3) := dk_167 0 4 (dk_at dksX7_areTwo_1 0 rfl rfl)
theorem dX7_areTwo_25 : decode cX7_areTwo 25 = .ok (.iconst 0, 1) := dk_3 (dk_at dksX7_areTwo_1 3 rfl rfl)
theorem dX7_areTwo_26 : decode cX7_areTwo 26 = .ok (.ireturn, 1) := dk_172 (dk_at dksX7_areTwo_1 4 rfl rfl)
abbrev cX7_gift : ByteArray := prog_11_method_31_code
def yX7_gift : MethodName := ⟨RX7, "gift", "(II)I"⟩
def dkwX7_gift_2 : List UInt8 := [167, 0, 4, 2, 172]
abbrev dktX7_gift_2 : List UInt8 := dkwX7_gift_2 ++ []
def dkwX7_gift_1 : List UInt8 := [20, 0, 158, 184, 0, 46, 153, 0, 19, 42, 180, 0, 7, 16, 48, 6, 27, 104, 96, 28, 96, 46]
abbrev dktX7_gift_1 : List UInt8 := dkwX7_gift_1 ++ dktX7_gift_2
def dkwX7_gift_0 : List UInt8 := [27, 133, 9, 42, 180, 0, 7, 16, 66, 46, 4, 100, 133, 184, 0, 46, 153, 0, 31, 28, 133, 9]
abbrev dktX7_gift_0 : List UInt8 := dkwX7_gift_0 ++ dktX7_gift_1
theorem dksX7_gift_0 : cX7_gift.data.toList.drop 0 = dktX7_gift_0 := by decide +kernel
theorem dksX7_gift_1 : cX7_gift.data.toList.drop 22 = dktX7_gift_1 := dk_seg dksX7_gift_0 22 rfl rfl
theorem dksX7_gift_2 : cX7_gift.data.toList.drop 44 = dktX7_gift_2 := dk_seg dksX7_gift_1 22 rfl rfl
theorem dX7_gift_0 : decode cX7_gift 0 = .ok (.iload_n 1, 1) := dk_27 (dk_at dksX7_gift_0 0 rfl rfl)
theorem dX7_gift_1 : decode cX7_gift 1 = .ok (.i2l, 1) := dk_133 (dk_at dksX7_gift_0 1 rfl rfl)
theorem dX7_gift_2 : decode cX7_gift 2 = .ok (.lconst 0, 1) := dk_9 (dk_at dksX7_gift_0 2 rfl rfl)
theorem dX7_gift_3 : decode cX7_gift 3 = .ok (.aload_n 0, 1) := dk_42 (dk_at dksX7_gift_0 3 rfl rfl)
theorem dX7_gift_4 : decode cX7_gift 4 = .ok (.getfield 7, 3) := dk_180 0 7 (dk_at dksX7_gift_0 4 rfl rfl)
theorem dX7_gift_7 : decode cX7_gift 7 = .ok (.bipush 66, 2) := dk_16 66 (dk_at dksX7_gift_0 7 rfl rfl)
theorem dX7_gift_9 : decode cX7_gift 9 = .ok (.iaload, 1) := dk_46 (dk_at dksX7_gift_0 9 rfl rfl)
theorem dX7_gift_10 : decode cX7_gift 10 = .ok (.iconst 1, 1) := dk_4 (dk_at dksX7_gift_0 10 rfl rfl)
theorem dX7_gift_11 : decode cX7_gift 11 = .ok (.isub, 1) := dk_100 (dk_at dksX7_gift_0 11 rfl rfl)
theorem dX7_gift_12 : decode cX7_gift 12 = .ok (.i2l, 1) := dk_133 (dk_at dksX7_gift_0 12 rfl rfl)
theorem dX7_gift_13 : decode cX7_gift 13 = .ok (.invokestatic 46, 3) := dk_184 0 46 (dk_at dksX7_gift_0 13 rfl rfl)
theorem dX7_gift_16 : decode cX7_gift 16 = .ok (.ifCond .eq 31, 3) := dk_153 0 31 (dk_at dksX7_gift_0 16 rfl rfl)
theorem dX7_gift_19 : decode cX7_gift 19 = .ok (.iload_n 2, 1) := dk_28 (dk_at dksX7_gift_0 19 rfl rfl)
theorem dX7_gift_20 : decode cX7_gift 20 = .ok (.i2l, 1) := dk_133 (dk_at dksX7_gift_0 20 rfl rfl)
theorem dX7_gift_21 : decode cX7_gift 21 = .ok (.lconst 0, 1) := dk_9 (dk_at dksX7_gift_0 21 rfl rfl)
theorem dX7_gift_22 : decode cX7_gift 22 = .ok (.ldc2_w 158, 3) := dk_20 0 158 (dk_at dksX7_gift_1 0 rfl rfl)
theorem dX7_gift_25 : decode cX7_gift 25 = .ok (.invokestatic 46, 3) := dk_184 0 46 (dk_at dksX7_gift_1 3 rfl rfl)
theorem dX7_gift_28 : decode cX7_gift 28 = .ok (.ifCond .eq 19, 3) := dk_153 0 19 (dk_at dksX7_gift_1 6 rfl rfl)
theorem dX7_gift_31 : decode cX7_gift 31 = .ok (.aload_n 0, 1) := dk_42 (dk_at dksX7_gift_1 9 rfl rfl)
theorem dX7_gift_32 : decode cX7_gift 32 = .ok (.getfield 7, 3) := dk_180 0 7 (dk_at dksX7_gift_1 10 rfl rfl)
theorem dX7_gift_35 : decode cX7_gift 35 = .ok (.bipush 48, 2) := dk_16 48 (dk_at dksX7_gift_1 13 rfl rfl)
theorem dX7_gift_37 : decode cX7_gift 37 = .ok (.iconst 3, 1) := dk_6 (dk_at dksX7_gift_1 15 rfl rfl)
theorem dX7_gift_38 : decode cX7_gift 38 = .ok (.iload_n 1, 1) := dk_27 (dk_at dksX7_gift_1 16 rfl rfl)
theorem dX7_gift_39 : decode cX7_gift 39 = .ok (.imul, 1) := dk_104 (dk_at dksX7_gift_1 17 rfl rfl)
theorem dX7_gift_40 : decode cX7_gift 40 = .ok (.iadd, 1) := dk_96 (dk_at dksX7_gift_1 18 rfl rfl)
theorem dX7_gift_41 : decode cX7_gift 41 = .ok (.iload_n 2, 1) := dk_28 (dk_at dksX7_gift_1 19 rfl rfl)
theorem dX7_gift_42 : decode cX7_gift 42 = .ok (.iadd, 1) := dk_96 (dk_at dksX7_gift_1 20 rfl rfl)
theorem dX7_gift_43 : decode cX7_gift 43 = .ok (.iaload, 1) := dk_46 (dk_at dksX7_gift_1 21 rfl rfl)
theorem dX7_gift_44 : decode cX7_gift 44 = .ok (.goto 4, 3) := dk_167 0 4 (dk_at dksX7_gift_2 0 rfl rfl)
theorem dX7_gift_47 : decode cX7_gift 47 = .ok (.iconst (-1), 1) := dk_2 (dk_at dksX7_gift_2 3 rfl rfl)
theorem dX7_gift_48 : decode cX7_gift 48 = .ok (.ireturn, 1) := dk_172 (dk_at dksX7_gift_2 4 rfl rfl)
abbrev cX7_alter : ByteArray := prog_11_method_33_code
def yX7_alter : MethodName := ⟨RX7, "alter", "(III)I"⟩
def dkwX7_alter_3 : List UInt8 := [28, 104, 27, 96, 29, 3, 182, 0, 162, 172]
abbrev dktX7_alter_3 : List UInt8 := dkwX7_alter_3 ++ []
def dkwX7_alter_2 : List UInt8 := [184, 0, 46, 153, 0, 19, 29, 133, 9, 21, 4, 133, 184, 0, 46, 153, 0, 7, 4, 167, 0, 4, 3, 8]
abbrev dktX7_alter_2 : List UInt8 := dkwX7_alter_2 ++ dktX7_alter_3
def dkwX7_alter_1 : List UInt8 := [167, 0, 5, 16, 99, 54, 4, 42, 42, 27, 182, 0, 132, 153, 0, 31, 28, 133, 9, 20, 0, 160]
abbrev dktX7_alter_1 : List UInt8 := dkwX7_alter_1 ++ dktX7_alter_2
def dkwX7_alter_0 : List UInt8 := [28, 154, 0, 7, 6, 167, 0, 24, 28, 4, 160, 0, 7, 6, 167, 0, 15, 28, 5, 160, 0, 8, 16, 6]
abbrev dktX7_alter_0 : List UInt8 := dkwX7_alter_0 ++ dktX7_alter_1
theorem dksX7_alter_0 : cX7_alter.data.toList.drop 0 = dktX7_alter_0 := by decide +kernel
theorem dksX7_alter_1 : cX7_alter.data.toList.drop 24 = dktX7_alter_1 := dk_seg dksX7_alter_0 24 rfl rfl
theorem dksX7_alter_2 : cX7_alter.data.toList.drop 46 = dktX7_alter_2 := dk_seg dksX7_alter_1 22 rfl rfl
theorem dksX7_alter_3 : cX7_alter.data.toList.drop 70 = dktX7_alter_3 := dk_seg dksX7_alter_2 24 rfl rfl
theorem dX7_alter_0 : decode cX7_alter 0 = .ok (.iload_n 2, 1) := dk_28 (dk_at dksX7_alter_0 0 rfl rfl)
theorem dX7_alter_1 : decode cX7_alter 1 = .ok (.ifCond .ne 7, 3) := dk_154 0 7 (dk_at dksX7_alter_0 1 rfl rfl)
theorem dX7_alter_4 : decode cX7_alter 4 = .ok (.iconst 3, 1) := dk_6 (dk_at dksX7_alter_0 4 rfl rfl)
theorem dX7_alter_5 : decode cX7_alter 5 = .ok (.goto 24, 3) := dk_167 0 24 (dk_at dksX7_alter_0 5 rfl rfl)
theorem dX7_alter_8 : decode cX7_alter 8 = .ok (.iload_n 2, 1) := dk_28 (dk_at dksX7_alter_0 8 rfl rfl)
theorem dX7_alter_9 : decode cX7_alter 9 = .ok (.iconst 1, 1) := dk_4 (dk_at dksX7_alter_0 9 rfl rfl)
theorem dX7_alter_10 : decode cX7_alter 10 = .ok (.if_icmp .ne 7, 3) := dk_160 0 7 (dk_at dksX7_alter_0 10 rfl rfl)
theorem dX7_alter_13 : decode cX7_alter 13 = .ok (.iconst 3, 1) := dk_6 (dk_at dksX7_alter_0 13 rfl rfl)
theorem dX7_alter_14 : decode cX7_alter 14 = .ok (.goto 15, 3) := dk_167 0 15 (dk_at dksX7_alter_0 14 rfl rfl)
theorem dX7_alter_17 : decode cX7_alter 17 = .ok (.iload_n 2, 1) := dk_28 (dk_at dksX7_alter_0 17 rfl rfl)
theorem dX7_alter_18 : decode cX7_alter 18 = .ok (.iconst 2, 1) := dk_5 (dk_at dksX7_alter_0 18 rfl rfl)
theorem dX7_alter_19 : decode cX7_alter 19 = .ok (.if_icmp .ne 8, 3) := dk_160 0 8 (dk_at dksX7_alter_0 19 rfl rfl)
theorem dX7_alter_22 : decode cX7_alter 22 = .ok (.bipush 6, 2) := dk_16 6 (dk_at dksX7_alter_0 22 rfl rfl)
theorem dX7_alter_24 : decode cX7_alter 24 = .ok (.goto 5, 3) := dk_167 0 5 (dk_at dksX7_alter_1 0 rfl rfl)
theorem dX7_alter_27 : decode cX7_alter 27 = .ok (.bipush 99, 2) := dk_16 99 (dk_at dksX7_alter_1 3 rfl rfl)
theorem dX7_alter_29 : decode cX7_alter 29 = .ok (.istore 4, 2) := dk_54 4 (dk_at dksX7_alter_1 5 rfl rfl)
theorem dX7_alter_31 : decode cX7_alter 31 = .ok (.aload_n 0, 1) := dk_42 (dk_at dksX7_alter_1 7 rfl rfl)
theorem dX7_alter_32 : decode cX7_alter 32 = .ok (.aload_n 0, 1) := dk_42 (dk_at dksX7_alter_1 8 rfl rfl)
theorem dX7_alter_33 : decode cX7_alter 33 = .ok (.iload_n 1, 1) := dk_27 (dk_at dksX7_alter_1 9 rfl rfl)
theorem dX7_alter_34 : decode cX7_alter 34 = .ok (.invokevirtual 132, 3) := dk_182 0 132 (dk_at dksX7_alter_1 10 rfl rfl)
theorem dX7_alter_37 : decode cX7_alter 37 = .ok (.ifCond .eq 31, 3) := dk_153 0 31 (dk_at dksX7_alter_1 13 rfl rfl)
theorem dX7_alter_40 : decode cX7_alter 40 = .ok (.iload_n 2, 1) := dk_28 (dk_at dksX7_alter_1 16 rfl rfl)
theorem dX7_alter_41 : decode cX7_alter 41 = .ok (.i2l, 1) := dk_133 (dk_at dksX7_alter_1 17 rfl rfl)
theorem dX7_alter_42 : decode cX7_alter 42 = .ok (.lconst 0, 1) := dk_9 (dk_at dksX7_alter_1 18 rfl rfl)
theorem dX7_alter_43 : decode cX7_alter 43 = .ok (.ldc2_w 160, 3) := dk_20 0 160 (dk_at dksX7_alter_1 19 rfl rfl)
theorem dX7_alter_46 : decode cX7_alter 46 = .ok (.invokestatic 46, 3) := dk_184 0 46 (dk_at dksX7_alter_2 0 rfl rfl)
theorem dX7_alter_49 : decode cX7_alter 49 = .ok (.ifCond .eq 19, 3) := dk_153 0 19 (dk_at dksX7_alter_2 3 rfl rfl)
theorem dX7_alter_52 : decode cX7_alter 52 = .ok (.iload_n 3, 1) := dk_29 (dk_at dksX7_alter_2 6 rfl rfl)
theorem dX7_alter_53 : decode cX7_alter 53 = .ok (.i2l, 1) := dk_133 (dk_at dksX7_alter_2 7 rfl rfl)
theorem dX7_alter_54 : decode cX7_alter 54 = .ok (.lconst 0, 1) := dk_9 (dk_at dksX7_alter_2 8 rfl rfl)
theorem dX7_alter_55 : decode cX7_alter 55 = .ok (.iload 4, 2) := dk_21 4 (dk_at dksX7_alter_2 9 rfl rfl)
theorem dX7_alter_57 : decode cX7_alter 57 = .ok (.i2l, 1) := dk_133 (dk_at dksX7_alter_2 11 rfl rfl)
theorem dX7_alter_58 : decode cX7_alter 58 = .ok (.invokestatic 46, 3) := dk_184 0 46 (dk_at dksX7_alter_2 12 rfl rfl)
theorem dX7_alter_61 : decode cX7_alter 61 = .ok (.ifCond .eq 7, 3) := dk_153 0 7 (dk_at dksX7_alter_2 15 rfl rfl)
theorem dX7_alter_64 : decode cX7_alter 64 = .ok (.iconst 1, 1) := dk_4 (dk_at dksX7_alter_2 18 rfl rfl)
theorem dX7_alter_65 : decode cX7_alter 65 = .ok (.goto 4, 3) := dk_167 0 4 (dk_at dksX7_alter_2 19 rfl rfl)
theorem dX7_alter_68 : decode cX7_alter 68 = .ok (.iconst 0, 1) := dk_3 (dk_at dksX7_alter_2 22 rfl rfl)
theorem dX7_alter_69 : decode cX7_alter 69 = .ok (.iconst 5, 1) := dk_8 (dk_at dksX7_alter_2 23 rfl rfl)
theorem dX7_alter_70 : decode cX7_alter 70 = .ok (.iload_n 2, 1) := dk_28 (dk_at dksX7_alter_3 0 rfl rfl)
theorem dX7_alter_71 : decode cX7_alter 71 = .ok (.imul, 1) := dk_104 (dk_at dksX7_alter_3 1 rfl rfl)
theorem dX7_alter_72 : decode cX7_alter 72 = .ok (.iload_n 1, 1) := dk_27 (dk_at dksX7_alter_3 2 rfl rfl)
theorem dX7_alter_73 : decode cX7_alter 73 = .ok (.iadd, 1) := dk_96 (dk_at dksX7_alter_3 3 rfl rfl)
theorem dX7_alter_74 : decode cX7_alter 74 = .ok (.iload_n 3, 1) := dk_29 (dk_at dksX7_alter_3 4 rfl rfl)
theorem dX7_alter_75 : decode cX7_alter 75 = .ok (.iconst 0, 1) := dk_3 (dk_at dksX7_alter_3 5 rfl rfl)
theorem dX7_alter_76 : decode cX7_alter 76 = .ok (.invokevirtual 162, 3) := dk_182 0 162 (dk_at dksX7_alter_3 6 rfl rfl)
theorem dX7_alter_79 : decode cX7_alter 79 = .ok (.ireturn, 1) := dk_172 (dk_at dksX7_alter_3 9 rfl rfl)
abbrev cX7_puts : ByteArray := prog_11_method_32_code
def yX7_puts : MethodName := ⟨RX7, "puts", "(ZIII)I"⟩
def dkwX7_puts_1 : List UInt8 := [21, 4, 100, 79, 21, 5, 172]
abbrev dktX7_puts_1 : List UInt8 := dkwX7_puts_1 ++ []
def dkwX7_puts_0 : List UInt8 := [27, 154, 0, 5, 2, 172, 42, 180, 0, 7, 28, 46, 21, 4, 96, 54, 5, 42, 180, 0, 7, 28, 29]
abbrev dktX7_puts_0 : List UInt8 := dkwX7_puts_0 ++ dktX7_puts_1
theorem dksX7_puts_0 : cX7_puts.data.toList.drop 0 = dktX7_puts_0 := by decide +kernel
theorem dksX7_puts_1 : cX7_puts.data.toList.drop 23 = dktX7_puts_1 := dk_seg dksX7_puts_0 23 rfl rfl
theorem dX7_puts_0 : decode cX7_puts 0 = .ok (.iload_n 1, 1) := dk_27 (dk_at dksX7_puts_0 0 rfl rfl)
theorem dX7_puts_1 : decode cX7_puts 1 = .ok (.ifCond .ne 5, 3) := dk_154 0 5 (dk_at dksX7_puts_0 1 rfl rfl)
theorem dX7_puts_4 : decode cX7_puts 4 = .ok (.iconst (-1), 1) := dk_2 (dk_at dksX7_puts_0 4 rfl rfl)
theorem dX7_puts_5 : decode cX7_puts 5 = .ok (.ireturn, 1) := dk_172 (dk_at dksX7_puts_0 5 rfl rfl)
theorem dX7_puts_6 : decode cX7_puts 6 = .ok (.aload_n 0, 1) := dk_42 (dk_at dksX7_puts_0 6 rfl rfl)
theorem dX7_puts_7 : decode cX7_puts 7 = .ok (.getfield 7, 3) := dk_180 0 7 (dk_at dksX7_puts_0 7 rfl rfl)
theorem dX7_puts_10 : decode cX7_puts 10 = .ok (.iload_n 2, 1) := dk_28 (dk_at dksX7_puts_0 10 rfl rfl)
theorem dX7_puts_11 : decode cX7_puts 11 = .ok (.iaload, 1) := dk_46 (dk_at dksX7_puts_0 11 rfl rfl)
theorem dX7_puts_12 : decode cX7_puts 12 = .ok (.iload 4, 2) := dk_21 4 (dk_at dksX7_puts_0 12 rfl rfl)
theorem dX7_puts_14 : decode cX7_puts 14 = .ok (.iadd, 1) := dk_96 (dk_at dksX7_puts_0 14 rfl rfl)
theorem dX7_puts_15 : decode cX7_puts 15 = .ok (.istore 5, 2) := dk_54 5 (dk_at dksX7_puts_0 15 rfl rfl)
theorem dX7_puts_17 : decode cX7_puts 17 = .ok (.aload_n 0, 1) := dk_42 (dk_at dksX7_puts_0 17 rfl rfl)
theorem dX7_puts_18 : decode cX7_puts 18 = .ok (.getfield 7, 3) := dk_180 0 7 (dk_at dksX7_puts_0 18 rfl rfl)
theorem dX7_puts_21 : decode cX7_puts 21 = .ok (.iload_n 2, 1) := dk_28 (dk_at dksX7_puts_0 21 rfl rfl)
theorem dX7_puts_22 : decode cX7_puts 22 = .ok (.iload_n 3, 1) := dk_29 (dk_at dksX7_puts_0 22 rfl rfl)
theorem dX7_puts_23 : decode cX7_puts 23 = .ok (.iload 4, 2) := dk_21 4 (dk_at dksX7_puts_1 0 rfl rfl)
theorem dX7_puts_25 : decode cX7_puts 25 = .ok (.isub, 1) := dk_100 (dk_at dksX7_puts_1 2 rfl rfl)
theorem dX7_puts_26 : decode cX7_puts 26 = .ok (.iastore, 1) := dk_79 (dk_at dksX7_puts_1 3 rfl rfl)
theorem dX7_puts_27 : decode cX7_puts 27 = .ok (.iload 5, 2) := dk_21 5 (dk_at dksX7_puts_1 4 rfl rfl)
theorem dX7_puts_29 : decode cX7_puts 29 = .ok (.ireturn, 1) := dk_172 (dk_at dksX7_puts_1 6 rfl rfl)
abbrev cX7_floor : ByteArray := prog_11_method_34_code
def yX7_floor : MethodName := ⟨RX7, "floor", "(I)I"⟩
def dkwX7_floor_0 : List UInt8 := [42, 27, 133, 9, 20, 0, 166, 184, 0, 46, 16, 20, 27, 16, 40, 182, 0, 162, 172]
abbrev dktX7_floor_0 : List UInt8 := dkwX7_floor_0 ++ []
theorem dksX7_floor_0 : cX7_floor.data.toList.drop 0 = dktX7_floor_0 := by decide +kernel
theorem dX7_floor_0 : decode cX7_floor 0 = .ok (.aload_n 0, 1) := dk_42 (dk_at dksX7_floor_0 0 rfl rfl)
theorem dX7_floor_1 : decode cX7_floor 1 = .ok (.iload_n 1, 1) := dk_27 (dk_at dksX7_floor_0 1 rfl rfl)
theorem dX7_floor_2 : decode cX7_floor 2 = .ok (.i2l, 1) := dk_133 (dk_at dksX7_floor_0 2 rfl rfl)
theorem dX7_floor_3 : decode cX7_floor 3 = .ok (.lconst 0, 1) := dk_9 (dk_at dksX7_floor_0 3 rfl rfl)
theorem dX7_floor_4 : decode cX7_floor 4 = .ok (.ldc2_w 166, 3) := dk_20 0 166 (dk_at dksX7_floor_0 4 rfl rfl)
theorem dX7_floor_7 : decode cX7_floor 7 = .ok (.invokestatic 46, 3) := dk_184 0 46 (dk_at dksX7_floor_0 7 rfl rfl)
theorem dX7_floor_10 : decode cX7_floor 10 = .ok (.bipush 20, 2) := dk_16 20 (dk_at dksX7_floor_0 10 rfl rfl)
theorem dX7_floor_12 : decode cX7_floor 12 = .ok (.iload_n 1, 1) := dk_27 (dk_at dksX7_floor_0 12 rfl rfl)
theorem dX7_floor_13 : decode cX7_floor 13 = .ok (.bipush 40, 2) := dk_16 40 (dk_at dksX7_floor_0 13 rfl rfl)
theorem dX7_floor_15 : decode cX7_floor 15 = .ok (.invokevirtual 162, 3) := dk_182 0 162 (dk_at dksX7_floor_0 15 rfl rfl)
theorem dX7_floor_18 : decode cX7_floor 18 = .ok (.ireturn, 1) := dk_172 (dk_at dksX7_floor_0 18 rfl rfl)
abbrev cX7_plan : ByteArray := prog_11_method_35_code
def yX7_plan : MethodName := ⟨RX7, "plan", "(III)I"⟩
def dkwX7_plan_4 : List UInt8 := [16, 66, 46, 172]
abbrev dktX7_plan_4 : List UInt8 := dkwX7_plan_4 ++ []
def dkwX7_plan_3 : List UInt8 := [180, 0, 7, 21, 4, 5, 96, 29, 79, 42, 180, 0, 7, 16, 66, 92, 46, 4, 96, 79, 42, 180, 0, 7]
abbrev dktX7_plan_3 : List UInt8 := dkwX7_plan_3 ++ dktX7_plan_4
def dkwX7_plan_2 : List UInt8 := [104, 96, 54, 4, 42, 180, 0, 7, 21, 4, 27, 79, 42, 180, 0, 7, 21, 4, 4, 96, 28, 79, 42]
abbrev dktX7_plan_2 : List UInt8 := dkwX7_plan_2 ++ dktX7_plan_3
def dkwX7_plan_1 : List UInt8 := [180, 0, 7, 16, 66, 46, 16, 6, 160, 0, 6, 16, 253, 172, 16, 48, 6, 42, 180, 0, 7, 16, 66, 46]
abbrev dktX7_plan_1 : List UInt8 := dkwX7_plan_1 ++ dktX7_plan_2
def dkwX7_plan_0 : List UInt8 := [42, 27, 28, 182, 0, 155, 153, 0, 15, 29, 133, 10, 20, 0, 168, 184, 0, 46, 154, 0, 5, 2, 172, 42]
abbrev dktX7_plan_0 : List UInt8 := dkwX7_plan_0 ++ dktX7_plan_1
theorem dksX7_plan_0 : cX7_plan.data.toList.drop 0 = dktX7_plan_0 := by decide +kernel
theorem dksX7_plan_1 : cX7_plan.data.toList.drop 24 = dktX7_plan_1 := dk_seg dksX7_plan_0 24 rfl rfl
theorem dksX7_plan_2 : cX7_plan.data.toList.drop 48 = dktX7_plan_2 := dk_seg dksX7_plan_1 24 rfl rfl
theorem dksX7_plan_3 : cX7_plan.data.toList.drop 71 = dktX7_plan_3 := dk_seg dksX7_plan_2 23 rfl rfl
theorem dksX7_plan_4 : cX7_plan.data.toList.drop 95 = dktX7_plan_4 := dk_seg dksX7_plan_3 24 rfl rfl
theorem dX7_plan_0 : decode cX7_plan 0 = .ok (.aload_n 0, 1) := dk_42 (dk_at dksX7_plan_0 0 rfl rfl)
theorem dX7_plan_1 : decode cX7_plan 1 = .ok (.iload_n 1, 1) := dk_27 (dk_at dksX7_plan_0 1 rfl rfl)
theorem dX7_plan_2 : decode cX7_plan 2 = .ok (.iload_n 2, 1) := dk_28 (dk_at dksX7_plan_0 2 rfl rfl)
theorem dX7_plan_3 : decode cX7_plan 3 = .ok (.invokevirtual 155, 3) := dk_182 0 155 (dk_at dksX7_plan_0 3 rfl rfl)
theorem dX7_plan_6 : decode cX7_plan 6 = .ok (.ifCond .eq 15, 3) := dk_153 0 15 (dk_at dksX7_plan_0 6 rfl rfl)
theorem dX7_plan_9 : decode cX7_plan 9 = .ok (.iload_n 3, 1) := dk_29 (dk_at dksX7_plan_0 9 rfl rfl)
theorem dX7_plan_10 : decode cX7_plan 10 = .ok (.i2l, 1) := dk_133 (dk_at dksX7_plan_0 10 rfl rfl)
theorem dX7_plan_11 : decode cX7_plan 11 = .ok (.lconst 1, 1) := dk_10 (dk_at dksX7_plan_0 11 rfl rfl)
theorem dX7_plan_12 : decode cX7_plan 12 = .ok (.ldc2_w 168, 3) := dk_20 0 168 (dk_at dksX7_plan_0 12 rfl rfl)
theorem dX7_plan_15 : decode cX7_plan 15 = .ok (.invokestatic 46, 3) := dk_184 0 46 (dk_at dksX7_plan_0 15 rfl rfl)
theorem dX7_plan_18 : decode cX7_plan 18 = .ok (.ifCond .ne 5, 3) := dk_154 0 5 (dk_at dksX7_plan_0 18 rfl rfl)
theorem dX7_plan_21 : decode cX7_plan 21 = .ok (.iconst (-1), 1) := dk_2 (dk_at dksX7_plan_0 21 rfl rfl)
theorem dX7_plan_22 : decode cX7_plan 22 = .ok (.ireturn, 1) := dk_172 (dk_at dksX7_plan_0 22 rfl rfl)
theorem dX7_plan_23 : decode cX7_plan 23 = .ok (.aload_n 0, 1) := dk_42 (dk_at dksX7_plan_0 23 rfl rfl)
theorem dX7_plan_24 : decode cX7_plan 24 = .ok (.getfield 7, 3) := dk_180 0 7 (dk_at dksX7_plan_1 0 rfl rfl)
theorem dX7_plan_27 : decode cX7_plan 27 = .ok (.bipush 66, 2) := dk_16 66 (dk_at dksX7_plan_1 3 rfl rfl)
theorem dX7_plan_29 : decode cX7_plan 29 = .ok (.iaload, 1) := dk_46 (dk_at dksX7_plan_1 5 rfl rfl)
theorem dX7_plan_30 : decode cX7_plan 30 = .ok (.bipush 6, 2) := dk_16 6 (dk_at dksX7_plan_1 6 rfl rfl)
theorem dX7_plan_32 : decode cX7_plan 32 = .ok (.if_icmp .ne 6, 3) := dk_160 0 6 (dk_at dksX7_plan_1 8 rfl rfl)
theorem dX7_plan_35 : decode cX7_plan 35 = .ok (.bipush (-3), 2) := dk_16 253 (dk_at dksX7_plan_1 11 rfl rfl)
theorem dX7_plan_37 : decode cX7_plan 37 = .ok (.ireturn, 1) := dk_172 (dk_at dksX7_plan_1 13 rfl rfl)
theorem dX7_plan_38 : decode cX7_plan 38 = .ok (.bipush 48, 2) := dk_16 48 (dk_at dksX7_plan_1 14 rfl rfl)
theorem dX7_plan_40 : decode cX7_plan 40 = .ok (.iconst 3, 1) := dk_6 (dk_at dksX7_plan_1 16 rfl rfl)
theorem dX7_plan_41 : decode cX7_plan 41 = .ok (.aload_n 0, 1) := dk_42 (dk_at dksX7_plan_1 17 rfl rfl)
theorem dX7_plan_42 : decode cX7_plan 42 = .ok (.getfield 7, 3) := dk_180 0 7 (dk_at dksX7_plan_1 18 rfl rfl)
theorem dX7_plan_45 : decode cX7_plan 45 = .ok (.bipush 66, 2) := dk_16 66 (dk_at dksX7_plan_1 21 rfl rfl)
theorem dX7_plan_47 : decode cX7_plan 47 = .ok (.iaload, 1) := dk_46 (dk_at dksX7_plan_1 23 rfl rfl)
theorem dX7_plan_48 : decode cX7_plan 48 = .ok (.imul, 1) := dk_104 (dk_at dksX7_plan_2 0 rfl rfl)
theorem dX7_plan_49 : decode cX7_plan 49 = .ok (.iadd, 1) := dk_96 (dk_at dksX7_plan_2 1 rfl rfl)
theorem dX7_plan_50 : decode cX7_plan 50 = .ok (.istore 4, 2) := dk_54 4 (dk_at dksX7_plan_2 2 rfl rfl)
theorem dX7_plan_52 : decode cX7_plan 52 = .ok (.aload_n 0, 1) := dk_42 (dk_at dksX7_plan_2 4 rfl rfl)
theorem dX7_plan_53 : decode cX7_plan 53 = .ok (.getfield 7, 3) := dk_180 0 7 (dk_at dksX7_plan_2 5 rfl rfl)
theorem dX7_plan_56 : decode cX7_plan 56 = .ok (.iload 4, 2) := dk_21 4 (dk_at dksX7_plan_2 8 rfl rfl)
theorem dX7_plan_58 : decode cX7_plan 58 = .ok (.iload_n 1, 1) := dk_27 (dk_at dksX7_plan_2 10 rfl rfl)
theorem dX7_plan_59 : decode cX7_plan 59 = .ok (.iastore, 1) := dk_79 (dk_at dksX7_plan_2 11 rfl rfl)
theorem dX7_plan_60 : decode cX7_plan 60 = .ok (.aload_n 0, 1) := dk_42 (dk_at dksX7_plan_2 12 rfl rfl)
theorem dX7_plan_61 : decode cX7_plan 61 = .ok (.getfield 7, 3) := dk_180 0 7 (dk_at dksX7_plan_2 13 rfl rfl)
theorem dX7_plan_64 : decode cX7_plan 64 = .ok (.iload 4, 2) := dk_21 4 (dk_at dksX7_plan_2 16 rfl rfl)
theorem dX7_plan_66 : decode cX7_plan 66 = .ok (.iconst 1, 1) := dk_4 (dk_at dksX7_plan_2 18 rfl rfl)
theorem dX7_plan_67 : decode cX7_plan 67 = .ok (.iadd, 1) := dk_96 (dk_at dksX7_plan_2 19 rfl rfl)
theorem dX7_plan_68 : decode cX7_plan 68 = .ok (.iload_n 2, 1) := dk_28 (dk_at dksX7_plan_2 20 rfl rfl)
theorem dX7_plan_69 : decode cX7_plan 69 = .ok (.iastore, 1) := dk_79 (dk_at dksX7_plan_2 21 rfl rfl)
theorem dX7_plan_70 : decode cX7_plan 70 = .ok (.aload_n 0, 1) := dk_42 (dk_at dksX7_plan_2 22 rfl rfl)
theorem dX7_plan_71 : decode cX7_plan 71 = .ok (.getfield 7, 3) := dk_180 0 7 (dk_at dksX7_plan_3 0 rfl rfl)
theorem dX7_plan_74 : decode cX7_plan 74 = .ok (.iload 4, 2) := dk_21 4 (dk_at dksX7_plan_3 3 rfl rfl)
theorem dX7_plan_76 : decode cX7_plan 76 = .ok (.iconst 2, 1) := dk_5 (dk_at dksX7_plan_3 5 rfl rfl)
theorem dX7_plan_77 : decode cX7_plan 77 = .ok (.iadd, 1) := dk_96 (dk_at dksX7_plan_3 6 rfl rfl)
theorem dX7_plan_78 : decode cX7_plan 78 = .ok (.iload_n 3, 1) := dk_29 (dk_at dksX7_plan_3 7 rfl rfl)
theorem dX7_plan_79 : decode cX7_plan 79 = .ok (.iastore, 1) := dk_79 (dk_at dksX7_plan_3 8 rfl rfl)
theorem dX7_plan_80 : decode cX7_plan 80 = .ok (.aload_n 0, 1) := dk_42 (dk_at dksX7_plan_3 9 rfl rfl)
theorem dX7_plan_81 : decode cX7_plan 81 = .ok (.getfield 7, 3) := dk_180 0 7 (dk_at dksX7_plan_3 10 rfl rfl)
theorem dX7_plan_84 : decode cX7_plan 84 = .ok (.bipush 66, 2) := dk_16 66 (dk_at dksX7_plan_3 13 rfl rfl)
theorem dX7_plan_86 : decode cX7_plan 86 = .ok (.dup2, 1) := dk_92 (dk_at dksX7_plan_3 15 rfl rfl)
theorem dX7_plan_87 : decode cX7_plan 87 = .ok (.iaload, 1) := dk_46 (dk_at dksX7_plan_3 16 rfl rfl)
theorem dX7_plan_88 : decode cX7_plan 88 = .ok (.iconst 1, 1) := dk_4 (dk_at dksX7_plan_3 17 rfl rfl)
theorem dX7_plan_89 : decode cX7_plan 89 = .ok (.iadd, 1) := dk_96 (dk_at dksX7_plan_3 18 rfl rfl)
theorem dX7_plan_90 : decode cX7_plan 90 = .ok (.iastore, 1) := dk_79 (dk_at dksX7_plan_3 19 rfl rfl)
theorem dX7_plan_91 : decode cX7_plan 91 = .ok (.aload_n 0, 1) := dk_42 (dk_at dksX7_plan_3 20 rfl rfl)
theorem dX7_plan_92 : decode cX7_plan 92 = .ok (.getfield 7, 3) := dk_180 0 7 (dk_at dksX7_plan_3 21 rfl rfl)
theorem dX7_plan_95 : decode cX7_plan 95 = .ok (.bipush 66, 2) := dk_16 66 (dk_at dksX7_plan_4 0 rfl rfl)
theorem dX7_plan_97 : decode cX7_plan 97 = .ok (.iaload, 1) := dk_46 (dk_at dksX7_plan_4 2 rfl rfl)
theorem dX7_plan_98 : decode cX7_plan 98 = .ok (.ireturn, 1) := dk_172 (dk_at dksX7_plan_4 3 rfl rfl)
abbrev cX7_cut : ByteArray := prog_11_method_36_code
def yX7_cut : MethodName := ⟨RX7, "cut", "(I)I"⟩
def dkwX7_cut_0 : List UInt8 := [42, 27, 133, 9, 42, 180, 0, 7, 16, 66, 46, 133, 184, 0, 46, 16, 66, 27, 3, 182, 0, 162, 172]
abbrev dktX7_cut_0 : List UInt8 := dkwX7_cut_0 ++ []
theorem dksX7_cut_0 : cX7_cut.data.toList.drop 0 = dktX7_cut_0 := by decide +kernel
theorem dX7_cut_0 : decode cX7_cut 0 = .ok (.aload_n 0, 1) := dk_42 (dk_at dksX7_cut_0 0 rfl rfl)
theorem dX7_cut_1 : decode cX7_cut 1 = .ok (.iload_n 1, 1) := dk_27 (dk_at dksX7_cut_0 1 rfl rfl)
theorem dX7_cut_2 : decode cX7_cut 2 = .ok (.i2l, 1) := dk_133 (dk_at dksX7_cut_0 2 rfl rfl)
theorem dX7_cut_3 : decode cX7_cut 3 = .ok (.lconst 0, 1) := dk_9 (dk_at dksX7_cut_0 3 rfl rfl)
theorem dX7_cut_4 : decode cX7_cut 4 = .ok (.aload_n 0, 1) := dk_42 (dk_at dksX7_cut_0 4 rfl rfl)
theorem dX7_cut_5 : decode cX7_cut 5 = .ok (.getfield 7, 3) := dk_180 0 7 (dk_at dksX7_cut_0 5 rfl rfl)
theorem dX7_cut_8 : decode cX7_cut 8 = .ok (.bipush 66, 2) := dk_16 66 (dk_at dksX7_cut_0 8 rfl rfl)
theorem dX7_cut_10 : decode cX7_cut 10 = .ok (.iaload, 1) := dk_46 (dk_at dksX7_cut_0 10 rfl rfl)
theorem dX7_cut_11 : decode cX7_cut 11 = .ok (.i2l, 1) := dk_133 (dk_at dksX7_cut_0 11 rfl rfl)
theorem dX7_cut_12 : decode cX7_cut 12 = .ok (.invokestatic 46, 3) := dk_184 0 46 (dk_at dksX7_cut_0 12 rfl rfl)
theorem dX7_cut_15 : decode cX7_cut 15 = .ok (.bipush 66, 2) := dk_16 66 (dk_at dksX7_cut_0 15 rfl rfl)
theorem dX7_cut_17 : decode cX7_cut 17 = .ok (.iload_n 1, 1) := dk_27 (dk_at dksX7_cut_0 17 rfl rfl)
theorem dX7_cut_18 : decode cX7_cut 18 = .ok (.iconst 0, 1) := dk_3 (dk_at dksX7_cut_0 18 rfl rfl)
theorem dX7_cut_19 : decode cX7_cut 19 = .ok (.invokevirtual 162, 3) := dk_182 0 162 (dk_at dksX7_cut_0 19 rfl rfl)
theorem dX7_cut_22 : decode cX7_cut 22 = .ok (.ireturn, 1) := dk_172 (dk_at dksX7_cut_0 22 rfl rfl)
abbrev cX7_most : ByteArray := prog_11_method_38_code
def yX7_most : MethodName := ⟨RX7, "most", "(II)I"⟩
def dkwX7_most_0 : List UInt8 := [42, 27, 28, 182, 0, 155, 153, 0, 12, 42, 27, 28, 182, 0, 174, 167, 0, 4, 2, 172]
abbrev dktX7_most_0 : List UInt8 := dkwX7_most_0 ++ []
theorem dksX7_most_0 : cX7_most.data.toList.drop 0 = dktX7_most_0 := by decide +kernel
theorem dX7_most_0 : decode cX7_most 0 = .ok (.aload_n 0, 1) := dk_42 (dk_at dksX7_most_0 0 rfl rfl)
theorem dX7_most_1 : decode cX7_most 1 = .ok (.iload_n 1, 1) := dk_27 (dk_at dksX7_most_0 1 rfl rfl)
theorem dX7_most_2 : decode cX7_most 2 = .ok (.iload_n 2, 1) := dk_28 (dk_at dksX7_most_0 2 rfl rfl)
theorem dX7_most_3 : decode cX7_most 3 = .ok (.invokevirtual 155, 3) := dk_182 0 155 (dk_at dksX7_most_0 3 rfl rfl)
theorem dX7_most_6 : decode cX7_most 6 = .ok (.ifCond .eq 12, 3) := dk_153 0 12 (dk_at dksX7_most_0 6 rfl rfl)
theorem dX7_most_9 : decode cX7_most 9 = .ok (.aload_n 0, 1) := dk_42 (dk_at dksX7_most_0 9 rfl rfl)
theorem dX7_most_10 : decode cX7_most 10 = .ok (.iload_n 1, 1) := dk_27 (dk_at dksX7_most_0 10 rfl rfl)
theorem dX7_most_11 : decode cX7_most 11 = .ok (.iload_n 2, 1) := dk_28 (dk_at dksX7_most_0 11 rfl rfl)
theorem dX7_most_12 : decode cX7_most 12 = .ok (.invokevirtual 174, 3) := dk_182 0 174 (dk_at dksX7_most_0 12 rfl rfl)
theorem dX7_most_15 : decode cX7_most 15 = .ok (.goto 4, 3) := dk_167 0 4 (dk_at dksX7_most_0 15 rfl rfl)
theorem dX7_most_18 : decode cX7_most 18 = .ok (.iconst (-1), 1) := dk_2 (dk_at dksX7_most_0 18 rfl rfl)
theorem dX7_most_19 : decode cX7_most 19 = .ok (.ireturn, 1) := dk_172 (dk_at dksX7_most_0 19 rfl rfl)
abbrev cX7_mostOf : ByteArray := prog_11_method_37_code
def yX7_mostOf : MethodName := ⟨RX7, "mostOf", "(II)I"⟩
def dkwX7_mostOf_1 : List UInt8 := [21, 4, 167, 0, 4, 29, 62, 132, 4, 1, 167, 255, 227, 29, 172]
abbrev dktX7_mostOf_1 : List UInt8 := dkwX7_mostOf_1 ++ []
def dkwX7_mostOf_0 : List UInt8 := [3, 62, 4, 54, 4, 21, 4, 16, 9, 163, 0, 28, 42, 3, 27, 28, 21, 4, 182, 0, 170, 153, 0, 8]
abbrev dktX7_mostOf_0 : List UInt8 := dkwX7_mostOf_0 ++ dktX7_mostOf_1
theorem dksX7_mostOf_0 : cX7_mostOf.data.toList.drop 0 = dktX7_mostOf_0 := by decide +kernel
theorem dksX7_mostOf_1 : cX7_mostOf.data.toList.drop 24 = dktX7_mostOf_1 := dk_seg dksX7_mostOf_0 24 rfl rfl
theorem dX7_mostOf_0 : decode cX7_mostOf 0 = .ok (.iconst 0, 1) := dk_3 (dk_at dksX7_mostOf_0 0 rfl rfl)
theorem dX7_mostOf_1 : decode cX7_mostOf 1 = .ok (.istore_n 3, 1) := dk_62 (dk_at dksX7_mostOf_0 1 rfl rfl)
theorem dX7_mostOf_2 : decode cX7_mostOf 2 = .ok (.iconst 1, 1) := dk_4 (dk_at dksX7_mostOf_0 2 rfl rfl)
theorem dX7_mostOf_3 : decode cX7_mostOf 3 = .ok (.istore 4, 2) := dk_54 4 (dk_at dksX7_mostOf_0 3 rfl rfl)
theorem dX7_mostOf_5 : decode cX7_mostOf 5 = .ok (.iload 4, 2) := dk_21 4 (dk_at dksX7_mostOf_0 5 rfl rfl)
theorem dX7_mostOf_7 : decode cX7_mostOf 7 = .ok (.bipush 9, 2) := dk_16 9 (dk_at dksX7_mostOf_0 7 rfl rfl)
theorem dX7_mostOf_9 : decode cX7_mostOf 9 = .ok (.if_icmp .gt 28, 3) := dk_163 0 28 (dk_at dksX7_mostOf_0 9 rfl rfl)
theorem dX7_mostOf_12 : decode cX7_mostOf 12 = .ok (.aload_n 0, 1) := dk_42 (dk_at dksX7_mostOf_0 12 rfl rfl)
theorem dX7_mostOf_13 : decode cX7_mostOf 13 = .ok (.iconst 0, 1) := dk_3 (dk_at dksX7_mostOf_0 13 rfl rfl)
theorem dX7_mostOf_14 : decode cX7_mostOf 14 = .ok (.iload_n 1, 1) := dk_27 (dk_at dksX7_mostOf_0 14 rfl rfl)
theorem dX7_mostOf_15 : decode cX7_mostOf 15 = .ok (.iload_n 2, 1) := dk_28 (dk_at dksX7_mostOf_0 15 rfl rfl)
theorem dX7_mostOf_16 : decode cX7_mostOf 16 = .ok (.iload 4, 2) := dk_21 4 (dk_at dksX7_mostOf_0 16 rfl rfl)
theorem dX7_mostOf_18 : decode cX7_mostOf 18 = .ok (.invokevirtual 170, 3) := dk_182 0 170 (dk_at dksX7_mostOf_0 18 rfl rfl)
theorem dX7_mostOf_21 : decode cX7_mostOf 21 = .ok (.ifCond .eq 8, 3) := dk_153 0 8 (dk_at dksX7_mostOf_0 21 rfl rfl)
theorem dX7_mostOf_24 : decode cX7_mostOf 24 = .ok (.iload 4, 2) := dk_21 4 (dk_at dksX7_mostOf_1 0 rfl rfl)
theorem dX7_mostOf_26 : decode cX7_mostOf 26 = .ok (.goto 4, 3) := dk_167 0 4 (dk_at dksX7_mostOf_1 2 rfl rfl)
theorem dX7_mostOf_29 : decode cX7_mostOf 29 = .ok (.iload_n 3, 1) := dk_29 (dk_at dksX7_mostOf_1 5 rfl rfl)
theorem dX7_mostOf_30 : decode cX7_mostOf 30 = .ok (.istore_n 3, 1) := dk_62 (dk_at dksX7_mostOf_1 6 rfl rfl)
theorem dX7_mostOf_31 : decode cX7_mostOf 31 = .ok (.iinc 4 1, 3) := dk_132 4 1 (dk_at dksX7_mostOf_1 7 rfl rfl)
theorem dX7_mostOf_34 : decode cX7_mostOf 34 = .ok (.goto (-29), 3) := dk_167 255 227 (dk_at dksX7_mostOf_1 10 rfl rfl)
theorem dX7_mostOf_37 : decode cX7_mostOf 37 = .ok (.iload_n 3, 1) := dk_29 (dk_at dksX7_mostOf_1 13 rfl rfl)
theorem dX7_mostOf_38 : decode cX7_mostOf 38 = .ok (.ireturn, 1) := dk_172 (dk_at dksX7_mostOf_1 14 rfl rfl)
abbrev cX7_mayBe : ByteArray := prog_11_method_25_code
def yX7_mayBe : MethodName := ⟨RX7, "mayBe", "(IIII)Z"⟩
def dkwX7_mayBe_4 : List UInt8 := [167, 0, 4, 3, 172]
abbrev dktX7_mayBe_4 : List UInt8 := dkwX7_mayBe_4 ++ []
def dkwX7_mayBe_3 : List UInt8 := [27, 16, 15, 96, 29, 96, 46, 42, 28, 29, 21, 4, 182, 0, 146, 96, 16, 99, 163, 0, 7, 4]
abbrev dktX7_mayBe_3 : List UInt8 := dkwX7_mayBe_3 ++ dktX7_mayBe_4
def dkwX7_mayBe_2 : List UInt8 := [96, 28, 96, 46, 21, 4, 100, 42, 180, 0, 7, 16, 20, 46, 16, 40, 96, 161, 0, 32, 42, 180, 0, 7]
abbrev dktX7_mayBe_2 : List UInt8 := dkwX7_mayBe_2 ++ dktX7_mayBe_3
def dkwX7_mayBe_1 : List UInt8 := [46, 4, 159, 0, 7, 4, 167, 0, 4, 3, 54, 5, 21, 5, 153, 0, 59, 42, 180, 0, 7, 27, 16, 15]
abbrev dktX7_mayBe_1 : List UInt8 := dkwX7_mayBe_1 ++ dktX7_mayBe_2
def dkwX7_mayBe_0 : List UInt8 := [42, 28, 29, 182, 0, 142, 154, 0, 23, 42, 180, 0, 7, 28, 46, 5, 160, 0, 17, 42, 180, 0, 7, 29]
abbrev dktX7_mayBe_0 : List UInt8 := dkwX7_mayBe_0 ++ dktX7_mayBe_1
theorem dksX7_mayBe_0 : cX7_mayBe.data.toList.drop 0 = dktX7_mayBe_0 := by decide +kernel
theorem dksX7_mayBe_1 : cX7_mayBe.data.toList.drop 24 = dktX7_mayBe_1 := dk_seg dksX7_mayBe_0 24 rfl rfl
theorem dksX7_mayBe_2 : cX7_mayBe.data.toList.drop 48 = dktX7_mayBe_2 := dk_seg dksX7_mayBe_1 24 rfl rfl
theorem dksX7_mayBe_3 : cX7_mayBe.data.toList.drop 72 = dktX7_mayBe_3 := dk_seg dksX7_mayBe_2 24 rfl rfl
theorem dksX7_mayBe_4 : cX7_mayBe.data.toList.drop 94 = dktX7_mayBe_4 := dk_seg dksX7_mayBe_3 22 rfl rfl
theorem dX7_mayBe_0 : decode cX7_mayBe 0 = .ok (.aload_n 0, 1) := dk_42 (dk_at dksX7_mayBe_0 0 rfl rfl)
theorem dX7_mayBe_1 : decode cX7_mayBe 1 = .ok (.iload_n 2, 1) := dk_28 (dk_at dksX7_mayBe_0 1 rfl rfl)
theorem dX7_mayBe_2 : decode cX7_mayBe 2 = .ok (.iload_n 3, 1) := dk_29 (dk_at dksX7_mayBe_0 2 rfl rfl)
theorem dX7_mayBe_3 : decode cX7_mayBe 3 = .ok (.invokevirtual 142, 3) := dk_182 0 142 (dk_at dksX7_mayBe_0 3 rfl rfl)
theorem dX7_mayBe_6 : decode cX7_mayBe 6 = .ok (.ifCond .ne 23, 3) := dk_154 0 23 (dk_at dksX7_mayBe_0 6 rfl rfl)
theorem dX7_mayBe_9 : decode cX7_mayBe 9 = .ok (.aload_n 0, 1) := dk_42 (dk_at dksX7_mayBe_0 9 rfl rfl)
theorem dX7_mayBe_10 : decode cX7_mayBe 10 = .ok (.getfield 7, 3) := dk_180 0 7 (dk_at dksX7_mayBe_0 10 rfl rfl)
theorem dX7_mayBe_13 : decode cX7_mayBe 13 = .ok (.iload_n 2, 1) := dk_28 (dk_at dksX7_mayBe_0 13 rfl rfl)
theorem dX7_mayBe_14 : decode cX7_mayBe 14 = .ok (.iaload, 1) := dk_46 (dk_at dksX7_mayBe_0 14 rfl rfl)
theorem dX7_mayBe_15 : decode cX7_mayBe 15 = .ok (.iconst 2, 1) := dk_5 (dk_at dksX7_mayBe_0 15 rfl rfl)
theorem dX7_mayBe_16 : decode cX7_mayBe 16 = .ok (.if_icmp .ne 17, 3) := dk_160 0 17 (dk_at dksX7_mayBe_0 16 rfl rfl)
theorem dX7_mayBe_19 : decode cX7_mayBe 19 = .ok (.aload_n 0, 1) := dk_42 (dk_at dksX7_mayBe_0 19 rfl rfl)
theorem dX7_mayBe_20 : decode cX7_mayBe 20 = .ok (.getfield 7, 3) := dk_180 0 7 (dk_at dksX7_mayBe_0 20 rfl rfl)
theorem dX7_mayBe_23 : decode cX7_mayBe 23 = .ok (.iload_n 3, 1) := dk_29 (dk_at dksX7_mayBe_0 23 rfl rfl)
theorem dX7_mayBe_24 : decode cX7_mayBe 24 = .ok (.iaload, 1) := dk_46 (dk_at dksX7_mayBe_1 0 rfl rfl)
theorem dX7_mayBe_25 : decode cX7_mayBe 25 = .ok (.iconst 1, 1) := dk_4 (dk_at dksX7_mayBe_1 1 rfl rfl)
theorem dX7_mayBe_26 : decode cX7_mayBe 26 = .ok (.if_icmp .eq 7, 3) := dk_159 0 7 (dk_at dksX7_mayBe_1 2 rfl rfl)
theorem dX7_mayBe_29 : decode cX7_mayBe 29 = .ok (.iconst 1, 1) := dk_4 (dk_at dksX7_mayBe_1 5 rfl rfl)
theorem dX7_mayBe_30 : decode cX7_mayBe 30 = .ok (.goto 4, 3) := dk_167 0 4 (dk_at dksX7_mayBe_1 6 rfl rfl)
theorem dX7_mayBe_33 : decode cX7_mayBe 33 = .ok (.iconst 0, 1) := dk_3 (dk_at dksX7_mayBe_1 9 rfl rfl)
theorem dX7_mayBe_34 : decode cX7_mayBe 34 = .ok (.istore 5, 2) := dk_54 5 (dk_at dksX7_mayBe_1 10 rfl rfl)
theorem dX7_mayBe_36 : decode cX7_mayBe 36 = .ok (.iload 5, 2) := dk_21 5 (dk_at dksX7_mayBe_1 12 rfl rfl)
theorem dX7_mayBe_38 : decode cX7_mayBe 38 = .ok (.ifCond .eq 59, 3) := dk_153 0 59 (dk_at dksX7_mayBe_1 14 rfl rfl)
theorem dX7_mayBe_41 : decode cX7_mayBe 41 = .ok (.aload_n 0, 1) := dk_42 (dk_at dksX7_mayBe_1 17 rfl rfl)
theorem dX7_mayBe_42 : decode cX7_mayBe 42 = .ok (.getfield 7, 3) := dk_180 0 7 (dk_at dksX7_mayBe_1 18 rfl rfl)
theorem dX7_mayBe_45 : decode cX7_mayBe 45 = .ok (.iload_n 1, 1) := dk_27 (dk_at dksX7_mayBe_1 21 rfl rfl)
theorem dX7_mayBe_46 : decode cX7_mayBe 46 = .ok (.bipush 15, 2) := dk_16 15 (dk_at dksX7_mayBe_1 22 rfl rfl)
theorem dX7_mayBe_48 : decode cX7_mayBe 48 = .ok (.iadd, 1) := dk_96 (dk_at dksX7_mayBe_2 0 rfl rfl)
theorem dX7_mayBe_49 : decode cX7_mayBe 49 = .ok (.iload_n 2, 1) := dk_28 (dk_at dksX7_mayBe_2 1 rfl rfl)
theorem dX7_mayBe_50 : decode cX7_mayBe 50 = .ok (.iadd, 1) := dk_96 (dk_at dksX7_mayBe_2 2 rfl rfl)
theorem dX7_mayBe_51 : decode cX7_mayBe 51 = .ok (.iaload, 1) := dk_46 (dk_at dksX7_mayBe_2 3 rfl rfl)
theorem dX7_mayBe_52 : decode cX7_mayBe 52 = .ok (.iload 4, 2) := dk_21 4 (dk_at dksX7_mayBe_2 4 rfl rfl)
theorem dX7_mayBe_54 : decode cX7_mayBe 54 = .ok (.isub, 1) := dk_100 (dk_at dksX7_mayBe_2 6 rfl rfl)
theorem dX7_mayBe_55 : decode cX7_mayBe 55 = .ok (.aload_n 0, 1) := dk_42 (dk_at dksX7_mayBe_2 7 rfl rfl)
theorem dX7_mayBe_56 : decode cX7_mayBe 56 = .ok (.getfield 7, 3) := dk_180 0 7 (dk_at dksX7_mayBe_2 8 rfl rfl)
theorem dX7_mayBe_59 : decode cX7_mayBe 59 = .ok (.bipush 20, 2) := dk_16 20 (dk_at dksX7_mayBe_2 11 rfl rfl)
theorem dX7_mayBe_61 : decode cX7_mayBe 61 = .ok (.iaload, 1) := dk_46 (dk_at dksX7_mayBe_2 13 rfl rfl)
theorem dX7_mayBe_62 : decode cX7_mayBe 62 = .ok (.bipush 40, 2) := dk_16 40 (dk_at dksX7_mayBe_2 14 rfl rfl)
theorem dX7_mayBe_64 : decode cX7_mayBe 64 = .ok (.iadd, 1) := dk_96 (dk_at dksX7_mayBe_2 16 rfl rfl)
theorem dX7_mayBe_65 : decode cX7_mayBe 65 = .ok (.if_icmp .lt 32, 3) := dk_161 0 32 (dk_at dksX7_mayBe_2 17 rfl rfl)
theorem dX7_mayBe_68 : decode cX7_mayBe 68 = .ok (.aload_n 0, 1) := dk_42 (dk_at dksX7_mayBe_2 20 rfl rfl)
theorem dX7_mayBe_69 : decode cX7_mayBe 69 = .ok (.getfield 7, 3) := dk_180 0 7 (dk_at dksX7_mayBe_2 21 rfl rfl)
theorem dX7_mayBe_72 : decode cX7_mayBe 72 = .ok (.iload_n 1, 1) := dk_27 (dk_at dksX7_mayBe_3 0 rfl rfl)
theorem dX7_mayBe_73 : decode cX7_mayBe 73 = .ok (.bipush 15, 2) := dk_16 15 (dk_at dksX7_mayBe_3 1 rfl rfl)
theorem dX7_mayBe_75 : decode cX7_mayBe 75 = .ok (.iadd, 1) := dk_96 (dk_at dksX7_mayBe_3 3 rfl rfl)
theorem dX7_mayBe_76 : decode cX7_mayBe 76 = .ok (.iload_n 3, 1) := dk_29 (dk_at dksX7_mayBe_3 4 rfl rfl)
theorem dX7_mayBe_77 : decode cX7_mayBe 77 = .ok (.iadd, 1) := dk_96 (dk_at dksX7_mayBe_3 5 rfl rfl)
theorem dX7_mayBe_78 : decode cX7_mayBe 78 = .ok (.iaload, 1) := dk_46 (dk_at dksX7_mayBe_3 6 rfl rfl)
theorem dX7_mayBe_79 : decode cX7_mayBe 79 = .ok (.aload_n 0, 1) := dk_42 (dk_at dksX7_mayBe_3 7 rfl rfl)
theorem dX7_mayBe_80 : decode cX7_mayBe 80 = .ok (.iload_n 2, 1) := dk_28 (dk_at dksX7_mayBe_3 8 rfl rfl)
theorem dX7_mayBe_81 : decode cX7_mayBe 81 = .ok (.iload_n 3, 1) := dk_29 (dk_at dksX7_mayBe_3 9 rfl rfl)
theorem dX7_mayBe_82 : decode cX7_mayBe 82 = .ok (.iload 4, 2) := dk_21 4 (dk_at dksX7_mayBe_3 10 rfl rfl)
theorem dX7_mayBe_84 : decode cX7_mayBe 84 = .ok (.invokevirtual 146, 3) := dk_182 0 146 (dk_at dksX7_mayBe_3 12 rfl rfl)
theorem dX7_mayBe_87 : decode cX7_mayBe 87 = .ok (.iadd, 1) := dk_96 (dk_at dksX7_mayBe_3 15 rfl rfl)
theorem dX7_mayBe_88 : decode cX7_mayBe 88 = .ok (.bipush 99, 2) := dk_16 99 (dk_at dksX7_mayBe_3 16 rfl rfl)
theorem dX7_mayBe_90 : decode cX7_mayBe 90 = .ok (.if_icmp .gt 7, 3) := dk_163 0 7 (dk_at dksX7_mayBe_3 18 rfl rfl)
theorem dX7_mayBe_93 : decode cX7_mayBe 93 = .ok (.iconst 1, 1) := dk_4 (dk_at dksX7_mayBe_3 21 rfl rfl)
theorem dX7_mayBe_94 : decode cX7_mayBe 94 = .ok (.goto 4, 3) := dk_167 0 4 (dk_at dksX7_mayBe_4 0 rfl rfl)
theorem dX7_mayBe_97 : decode cX7_mayBe 97 = .ok (.iconst 0, 1) := dk_3 (dk_at dksX7_mayBe_4 3 rfl rfl)
theorem dX7_mayBe_98 : decode cX7_mayBe 98 = .ok (.ireturn, 1) := dk_172 (dk_at dksX7_mayBe_4 4 rfl rfl)
abbrev cX7_isOneMaker : ByteArray := prog_11_method_23_code
def yX7_isOneMaker : MethodName := ⟨RX7, "isOneMaker", "(II)Z"⟩
def dkwX7_isOneMaker_1 : List UInt8 := [172]
abbrev dktX7_isOneMaker_1 : List UInt8 := dkwX7_isOneMaker_1 ++ []
def dkwX7_isOneMaker_0 : List UInt8 := [42, 180, 0, 7, 8, 27, 96, 46, 42, 180, 0, 7, 8, 28, 96, 46, 160, 0, 7, 4, 167, 0, 4, 3]
abbrev dktX7_isOneMaker_0 : List UInt8 := dkwX7_isOneMaker_0 ++ dktX7_isOneMaker_1
theorem dksX7_isOneMaker_0 : cX7_isOneMaker.data.toList.drop 0 = dktX7_isOneMaker_0 := by decide +kernel
theorem dksX7_isOneMaker_1 : cX7_isOneMaker.data.toList.drop 24 = dktX7_isOneMaker_1 := dk_seg dksX7_isOneMaker_0 24 rfl rfl
theorem dX7_isOneMaker_0 : decode cX7_isOneMaker 0 = .ok (.aload_n 0, 1) := dk_42 (dk_at dksX7_isOneMaker_0 0 rfl rfl)
theorem dX7_isOneMaker_1 : decode cX7_isOneMaker 1 = .ok (.getfield 7, 3) := dk_180 0 7 (dk_at dksX7_isOneMaker_0 1 rfl rfl)
theorem dX7_isOneMaker_4 : decode cX7_isOneMaker 4 = .ok (.iconst 5, 1) := dk_8 (dk_at dksX7_isOneMaker_0 4 rfl rfl)
theorem dX7_isOneMaker_5 : decode cX7_isOneMaker 5 = .ok (.iload_n 1, 1) := dk_27 (dk_at dksX7_isOneMaker_0 5 rfl rfl)
theorem dX7_isOneMaker_6 : decode cX7_isOneMaker 6 = .ok (.iadd, 1) := dk_96 (dk_at dksX7_isOneMaker_0 6 rfl rfl)
theorem dX7_isOneMaker_7 : decode cX7_isOneMaker 7 = .ok (.iaload, 1) := dk_46 (dk_at dksX7_isOneMaker_0 7 rfl rfl)
theorem dX7_isOneMaker_8 : decode cX7_isOneMaker 8 = .ok (.aload_n 0, 1) := dk_42 (dk_at dksX7_isOneMaker_0 8 rfl rfl)
theorem dX7_isOneMaker_9 : decode cX7_isOneMaker 9 = .ok (.getfield 7, 3) := dk_180 0 7 (dk_at dksX7_isOneMaker_0 9 rfl rfl)
theorem dX7_isOneMaker_12 : decode cX7_isOneMaker 12 = .ok (.iconst 5, 1) := dk_8 (dk_at dksX7_isOneMaker_0 12 rfl rfl)
theorem dX7_isOneMaker_13 : decode cX7_isOneMaker 13 = .ok (.iload_n 2, 1) := dk_28 (dk_at dksX7_isOneMaker_0 13 rfl rfl)
theorem dX7_isOneMaker_14 : decode cX7_isOneMaker 14 = .ok (.iadd, 1) := dk_96 (dk_at dksX7_isOneMaker_0 14 rfl rfl)
theorem dX7_isOneMaker_15 : decode cX7_isOneMaker 15 = .ok (.iaload, 1) := dk_46 (dk_at dksX7_isOneMaker_0 15 rfl rfl)
theorem dX7_isOneMaker_16 : decode cX7_isOneMaker 16 = .ok (.if_icmp .ne 7, 3) := dk_160 0 7 (dk_at dksX7_isOneMaker_0 16 rfl rfl)
theorem dX7_isOneMaker_19 : decode cX7_isOneMaker 19 = .ok (.iconst 1, 1) := dk_4 (dk_at dksX7_isOneMaker_0 19 rfl rfl)
theorem dX7_isOneMaker_20 : decode cX7_isOneMaker 20 = .ok (.goto 4, 3) := dk_167 0 4 (dk_at dksX7_isOneMaker_0 20 rfl rfl)
theorem dX7_isOneMaker_23 : decode cX7_isOneMaker 23 = .ok (.iconst 0, 1) := dk_3 (dk_at dksX7_isOneMaker_0 23 rfl rfl)
theorem dX7_isOneMaker_24 : decode cX7_isOneMaker 24 = .ok (.ireturn, 1) := dk_172 (dk_at dksX7_isOneMaker_1 0 rfl rfl)
abbrev cX7_getsBy : ByteArray := prog_11_method_24_code
def yX7_getsBy : MethodName := ⟨RX7, "getsBy", "(III)I"⟩
def dkwX7_getsBy_0 : List UInt8 := [42, 27, 28, 182, 0, 142, 153, 0, 7, 29, 167, 0, 8, 29, 29, 6, 108, 100, 172]
abbrev dktX7_getsBy_0 : List UInt8 := dkwX7_getsBy_0 ++ []
theorem dksX7_getsBy_0 : cX7_getsBy.data.toList.drop 0 = dktX7_getsBy_0 := by decide +kernel
theorem dX7_getsBy_0 : decode cX7_getsBy 0 = .ok (.aload_n 0, 1) := dk_42 (dk_at dksX7_getsBy_0 0 rfl rfl)
theorem dX7_getsBy_1 : decode cX7_getsBy 1 = .ok (.iload_n 1, 1) := dk_27 (dk_at dksX7_getsBy_0 1 rfl rfl)
theorem dX7_getsBy_2 : decode cX7_getsBy 2 = .ok (.iload_n 2, 1) := dk_28 (dk_at dksX7_getsBy_0 2 rfl rfl)
theorem dX7_getsBy_3 : decode cX7_getsBy 3 = .ok (.invokevirtual 142, 3) := dk_182 0 142 (dk_at dksX7_getsBy_0 3 rfl rfl)
theorem dX7_getsBy_6 : decode cX7_getsBy 6 = .ok (.ifCond .eq 7, 3) := dk_153 0 7 (dk_at dksX7_getsBy_0 6 rfl rfl)
theorem dX7_getsBy_9 : decode cX7_getsBy 9 = .ok (.iload_n 3, 1) := dk_29 (dk_at dksX7_getsBy_0 9 rfl rfl)
theorem dX7_getsBy_10 : decode cX7_getsBy 10 = .ok (.goto 8, 3) := dk_167 0 8 (dk_at dksX7_getsBy_0 10 rfl rfl)
theorem dX7_getsBy_13 : decode cX7_getsBy 13 = .ok (.iload_n 3, 1) := dk_29 (dk_at dksX7_getsBy_0 13 rfl rfl)
theorem dX7_getsBy_14 : decode cX7_getsBy 14 = .ok (.iload_n 3, 1) := dk_29 (dk_at dksX7_getsBy_0 14 rfl rfl)
theorem dX7_getsBy_15 : decode cX7_getsBy 15 = .ok (.iconst 3, 1) := dk_6 (dk_at dksX7_getsBy_0 15 rfl rfl)
theorem dX7_getsBy_16 : decode cX7_getsBy 16 = .ok (.idiv, 1) := dk_108 (dk_at dksX7_getsBy_0 16 rfl rfl)
theorem dX7_getsBy_17 : decode cX7_getsBy 17 = .ok (.isub, 1) := dk_100 (dk_at dksX7_getsBy_0 17 rfl rfl)
theorem dX7_getsBy_18 : decode cX7_getsBy 18 = .ok (.ireturn, 1) := dk_172 (dk_at dksX7_getsBy_0 18 rfl rfl)
abbrev cX7_give : ByteArray := prog_11_method_40_code
def yX7_give : MethodName := ⟨RX7, "give", "(III)I"⟩
def dkwX7_give_0 : List UInt8 := [42, 27, 28, 29, 182, 0, 181, 172]
abbrev dktX7_give_0 : List UInt8 := dkwX7_give_0 ++ []
theorem dksX7_give_0 : cX7_give.data.toList.drop 0 = dktX7_give_0 := by decide +kernel
theorem dX7_give_0 : decode cX7_give 0 = .ok (.aload_n 0, 1) := dk_42 (dk_at dksX7_give_0 0 rfl rfl)
theorem dX7_give_1 : decode cX7_give 1 = .ok (.iload_n 1, 1) := dk_27 (dk_at dksX7_give_0 1 rfl rfl)
theorem dX7_give_2 : decode cX7_give 2 = .ok (.iload_n 2, 1) := dk_28 (dk_at dksX7_give_0 2 rfl rfl)
theorem dX7_give_3 : decode cX7_give 3 = .ok (.iload_n 3, 1) := dk_29 (dk_at dksX7_give_0 3 rfl rfl)
theorem dX7_give_4 : decode cX7_give 4 = .ok (.invokevirtual 181, 3) := dk_182 0 181 (dk_at dksX7_give_0 4 rfl rfl)
theorem dX7_give_7 : decode cX7_give 7 = .ok (.ireturn, 1) := dk_172 (dk_at dksX7_give_0 7 rfl rfl)
abbrev cX7_gives : ByteArray := prog_11_method_39_code
def yX7_gives : MethodName := ⟨RX7, "gives", "(III)I"⟩
def dkwX7_gives_2 : List UInt8 := [180, 0, 7, 16, 15, 28, 96, 46, 172]
abbrev dktX7_gives_2 : List UInt8 := dkwX7_gives_2 ++ []
def dkwX7_gives_1 : List UInt8 := [3, 27, 28, 29, 182, 0, 170, 154, 0, 6, 16, 254, 172, 42, 3, 27, 28, 29, 182, 0, 177, 42]
abbrev dktX7_gives_1 : List UInt8 := dkwX7_gives_1 ++ dktX7_gives_2
def dkwX7_gives_0 : List UInt8 := [42, 27, 28, 182, 0, 155, 153, 0, 15, 29, 133, 10, 20, 0, 168, 184, 0, 46, 154, 0, 5, 2, 172, 42]
abbrev dktX7_gives_0 : List UInt8 := dkwX7_gives_0 ++ dktX7_gives_1
theorem dksX7_gives_0 : cX7_gives.data.toList.drop 0 = dktX7_gives_0 := by decide +kernel
theorem dksX7_gives_1 : cX7_gives.data.toList.drop 24 = dktX7_gives_1 := dk_seg dksX7_gives_0 24 rfl rfl
theorem dksX7_gives_2 : cX7_gives.data.toList.drop 46 = dktX7_gives_2 := dk_seg dksX7_gives_1 22 rfl rfl
theorem dX7_gives_0 : decode cX7_gives 0 = .ok (.aload_n 0, 1) := dk_42 (dk_at dksX7_gives_0 0 rfl rfl)
theorem dX7_gives_1 : decode cX7_gives 1 = .ok (.iload_n 1, 1) := dk_27 (dk_at dksX7_gives_0 1 rfl rfl)
theorem dX7_gives_2 : decode cX7_gives 2 = .ok (.iload_n 2, 1) := dk_28 (dk_at dksX7_gives_0 2 rfl rfl)
theorem dX7_gives_3 : decode cX7_gives 3 = .ok (.invokevirtual 155, 3) := dk_182 0 155 (dk_at dksX7_gives_0 3 rfl rfl)
theorem dX7_gives_6 : decode cX7_gives 6 = .ok (.ifCond .eq 15, 3) := dk_153 0 15 (dk_at dksX7_gives_0 6 rfl rfl)
theorem dX7_gives_9 : decode cX7_gives 9 = .ok (.iload_n 3, 1) := dk_29 (dk_at dksX7_gives_0 9 rfl rfl)
theorem dX7_gives_10 : decode cX7_gives 10 = .ok (.i2l, 1) := dk_133 (dk_at dksX7_gives_0 10 rfl rfl)
theorem dX7_gives_11 : decode cX7_gives 11 = .ok (.lconst 1, 1) := dk_10 (dk_at dksX7_gives_0 11 rfl rfl)
theorem dX7_gives_12 : decode cX7_gives 12 = .ok (.ldc2_w 168, 3) := dk_20 0 168 (dk_at dksX7_gives_0 12 rfl rfl)
theorem dX7_gives_15 : decode cX7_gives 15 = .ok (.invokestatic 46, 3) := dk_184 0 46 (dk_at dksX7_gives_0 15 rfl rfl)
theorem dX7_gives_18 : decode cX7_gives 18 = .ok (.ifCond .ne 5, 3) := dk_154 0 5 (dk_at dksX7_gives_0 18 rfl rfl)
theorem dX7_gives_21 : decode cX7_gives 21 = .ok (.iconst (-1), 1) := dk_2 (dk_at dksX7_gives_0 21 rfl rfl)
theorem dX7_gives_22 : decode cX7_gives 22 = .ok (.ireturn, 1) := dk_172 (dk_at dksX7_gives_0 22 rfl rfl)
theorem dX7_gives_23 : decode cX7_gives 23 = .ok (.aload_n 0, 1) := dk_42 (dk_at dksX7_gives_0 23 rfl rfl)
theorem dX7_gives_24 : decode cX7_gives 24 = .ok (.iconst 0, 1) := dk_3 (dk_at dksX7_gives_1 0 rfl rfl)
theorem dX7_gives_25 : decode cX7_gives 25 = .ok (.iload_n 1, 1) := dk_27 (dk_at dksX7_gives_1 1 rfl rfl)
theorem dX7_gives_26 : decode cX7_gives 26 = .ok (.iload_n 2, 1) := dk_28 (dk_at dksX7_gives_1 2 rfl rfl)
theorem dX7_gives_27 : decode cX7_gives 27 = .ok (.iload_n 3, 1) := dk_29 (dk_at dksX7_gives_1 3 rfl rfl)
theorem dX7_gives_28 : decode cX7_gives 28 = .ok (.invokevirtual 170, 3) := dk_182 0 170 (dk_at dksX7_gives_1 4 rfl rfl)
theorem dX7_gives_31 : decode cX7_gives 31 = .ok (.ifCond .ne 6, 3) := dk_154 0 6 (dk_at dksX7_gives_1 7 rfl rfl)
theorem dX7_gives_34 : decode cX7_gives 34 = .ok (.bipush (-2), 2) := dk_16 254 (dk_at dksX7_gives_1 10 rfl rfl)
theorem dX7_gives_36 : decode cX7_gives 36 = .ok (.ireturn, 1) := dk_172 (dk_at dksX7_gives_1 12 rfl rfl)
theorem dX7_gives_37 : decode cX7_gives 37 = .ok (.aload_n 0, 1) := dk_42 (dk_at dksX7_gives_1 13 rfl rfl)
theorem dX7_gives_38 : decode cX7_gives 38 = .ok (.iconst 0, 1) := dk_3 (dk_at dksX7_gives_1 14 rfl rfl)
theorem dX7_gives_39 : decode cX7_gives 39 = .ok (.iload_n 1, 1) := dk_27 (dk_at dksX7_gives_1 15 rfl rfl)
theorem dX7_gives_40 : decode cX7_gives 40 = .ok (.iload_n 2, 1) := dk_28 (dk_at dksX7_gives_1 16 rfl rfl)
theorem dX7_gives_41 : decode cX7_gives 41 = .ok (.iload_n 3, 1) := dk_29 (dk_at dksX7_gives_1 17 rfl rfl)
theorem dX7_gives_42 : decode cX7_gives 42 = .ok (.invokevirtual 177, 3) := dk_182 0 177 (dk_at dksX7_gives_1 18 rfl rfl)
theorem dX7_gives_45 : decode cX7_gives 45 = .ok (.aload_n 0, 1) := dk_42 (dk_at dksX7_gives_1 21 rfl rfl)
theorem dX7_gives_46 : decode cX7_gives 46 = .ok (.getfield 7, 3) := dk_180 0 7 (dk_at dksX7_gives_2 0 rfl rfl)
theorem dX7_gives_49 : decode cX7_gives 49 = .ok (.bipush 15, 2) := dk_16 15 (dk_at dksX7_gives_2 3 rfl rfl)
theorem dX7_gives_51 : decode cX7_gives 51 = .ok (.iload_n 2, 1) := dk_28 (dk_at dksX7_gives_2 5 rfl rfl)
theorem dX7_gives_52 : decode cX7_gives 52 = .ok (.iadd, 1) := dk_96 (dk_at dksX7_gives_2 6 rfl rfl)
theorem dX7_gives_53 : decode cX7_gives 53 = .ok (.iaload, 1) := dk_46 (dk_at dksX7_gives_2 7 rfl rfl)
theorem dX7_gives_54 : decode cX7_gives 54 = .ok (.ireturn, 1) := dk_172 (dk_at dksX7_gives_2 8 rfl rfl)
abbrev cX7_givesOn : ByteArray := prog_11_method_26_code
def yX7_givesOn : MethodName := ⟨RX7, "givesOn", "(IIII)V"⟩
def dkwX7_givesOn_3 : List UInt8 := [28, 96, 92, 46, 21, 5, 96, 79, 177]
abbrev dktX7_givesOn_3 : List UInt8 := dkwX7_givesOn_3 ++ []
def dkwX7_givesOn_2 : List UInt8 := [16, 22, 96, 92, 46, 21, 4, 21, 5, 100, 96, 79, 42, 180, 0, 7, 27, 16, 23, 96, 8, 29, 104, 96]
abbrev dktX7_givesOn_2 : List UInt8 := dkwX7_givesOn_2 ++ dktX7_givesOn_3
def dkwX7_givesOn_1 : List UInt8 := [100, 79, 42, 180, 0, 7, 27, 16, 15, 96, 29, 96, 92, 46, 21, 5, 96, 79, 42, 180, 0, 7, 27]
abbrev dktX7_givesOn_1 : List UInt8 := dkwX7_givesOn_1 ++ dktX7_givesOn_2
def dkwX7_givesOn_0 : List UInt8 := [42, 28, 29, 21, 4, 182, 0, 146, 54, 5, 42, 180, 0, 7, 27, 16, 15, 96, 28, 96, 92, 46, 21, 4]
abbrev dktX7_givesOn_0 : List UInt8 := dkwX7_givesOn_0 ++ dktX7_givesOn_1
theorem dksX7_givesOn_0 : cX7_givesOn.data.toList.drop 0 = dktX7_givesOn_0 := by decide +kernel
theorem dksX7_givesOn_1 : cX7_givesOn.data.toList.drop 24 = dktX7_givesOn_1 := dk_seg dksX7_givesOn_0 24 rfl rfl
theorem dksX7_givesOn_2 : cX7_givesOn.data.toList.drop 47 = dktX7_givesOn_2 := dk_seg dksX7_givesOn_1 23 rfl rfl
theorem dksX7_givesOn_3 : cX7_givesOn.data.toList.drop 71 = dktX7_givesOn_3 := dk_seg dksX7_givesOn_2 24 rfl rfl
theorem dX7_givesOn_0 : decode cX7_givesOn 0 = .ok (.aload_n 0, 1) := dk_42 (dk_at dksX7_givesOn_0 0 rfl rfl)
theorem dX7_givesOn_1 : decode cX7_givesOn 1 = .ok (.iload_n 2, 1) := dk_28 (dk_at dksX7_givesOn_0 1 rfl rfl)
theorem dX7_givesOn_2 : decode cX7_givesOn 2 = .ok (.iload_n 3, 1) := dk_29 (dk_at dksX7_givesOn_0 2 rfl rfl)
theorem dX7_givesOn_3 : decode cX7_givesOn 3 = .ok (.iload 4, 2) := dk_21 4 (dk_at dksX7_givesOn_0 3 rfl rfl)
theorem dX7_givesOn_5 : decode cX7_givesOn 5 = .ok (.invokevirtual 146, 3) := dk_182 0 146 (dk_at dksX7_givesOn_0 5 rfl rfl)
theorem dX7_givesOn_8 : decode cX7_givesOn 8 = .ok (.istore 5, 2) := dk_54 5 (dk_at dksX7_givesOn_0 8 rfl rfl)
theorem dX7_givesOn_10 : decode cX7_givesOn 10 = .ok (.aload_n 0, 1) := dk_42 (dk_at dksX7_givesOn_0 10 rfl rfl)
theorem dX7_givesOn_11 : decode cX7_givesOn 11 = .ok (.getfield 7, 3) := dk_180 0 7 (dk_at dksX7_givesOn_0 11 rfl rfl)
theorem dX7_givesOn_14 : decode cX7_givesOn 14 = .ok (.iload_n 1, 1) := dk_27 (dk_at dksX7_givesOn_0 14 rfl rfl)
theorem dX7_givesOn_15 : decode cX7_givesOn 15 = .ok (.bipush 15, 2) := dk_16 15 (dk_at dksX7_givesOn_0 15 rfl rfl)
theorem dX7_givesOn_17 : decode cX7_givesOn 17 = .ok (.iadd, 1) := dk_96 (dk_at dksX7_givesOn_0 17 rfl rfl)
theorem dX7_givesOn_18 : decode cX7_givesOn 18 = .ok (.iload_n 2, 1) := dk_28 (dk_at dksX7_givesOn_0 18 rfl rfl)
theorem dX7_givesOn_19 : decode cX7_givesOn 19 = .ok (.iadd, 1) := dk_96 (dk_at dksX7_givesOn_0 19 rfl rfl)
theorem dX7_givesOn_20 : decode cX7_givesOn 20 = .ok (.dup2, 1) := dk_92 (dk_at dksX7_givesOn_0 20 rfl rfl)
theorem dX7_givesOn_21 : decode cX7_givesOn 21 = .ok (.iaload, 1) := dk_46 (dk_at dksX7_givesOn_0 21 rfl rfl)
theorem dX7_givesOn_22 : decode cX7_givesOn 22 = .ok (.iload 4, 2) := dk_21 4 (dk_at dksX7_givesOn_0 22 rfl rfl)
theorem dX7_givesOn_24 : decode cX7_givesOn 24 = .ok (.isub, 1) := dk_100 (dk_at dksX7_givesOn_1 0 rfl rfl)
theorem dX7_givesOn_25 : decode cX7_givesOn 25 = .ok (.iastore, 1) := dk_79 (dk_at dksX7_givesOn_1 1 rfl rfl)
theorem dX7_givesOn_26 : decode cX7_givesOn 26 = .ok (.aload_n 0, 1) := dk_42 (dk_at dksX7_givesOn_1 2 rfl rfl)
theorem dX7_givesOn_27 : decode cX7_givesOn 27 = .ok (.getfield 7, 3) := dk_180 0 7 (dk_at dksX7_givesOn_1 3 rfl rfl)
theorem dX7_givesOn_30 : decode cX7_givesOn 30 = .ok (.iload_n 1, 1) := dk_27 (dk_at dksX7_givesOn_1 6 rfl rfl)
theorem dX7_givesOn_31 : decode cX7_givesOn 31 = .ok (.bipush 15, 2) := dk_16 15 (dk_at dksX7_givesOn_1 7 rfl rfl)
theorem dX7_givesOn_33 : decode cX7_givesOn 33 = .ok (.iadd, 1) := dk_96 (dk_at dksX7_givesOn_1 9 rfl rfl)
theorem dX7_givesOn_34 : decode cX7_givesOn 34 = .ok (.iload_n 3, 1) := dk_29 (dk_at dksX7_givesOn_1 10 rfl rfl)
theorem dX7_givesOn_35 : decode cX7_givesOn 35 = .ok (.iadd, 1) := dk_96 (dk_at dksX7_givesOn_1 11 rfl rfl)
theorem dX7_givesOn_36 : decode cX7_givesOn 36 = .ok (.dup2, 1) := dk_92 (dk_at dksX7_givesOn_1 12 rfl rfl)
theorem dX7_givesOn_37 : decode cX7_givesOn 37 = .ok (.iaload, 1) := dk_46 (dk_at dksX7_givesOn_1 13 rfl rfl)
theorem dX7_givesOn_38 : decode cX7_givesOn 38 = .ok (.iload 5, 2) := dk_21 5 (dk_at dksX7_givesOn_1 14 rfl rfl)
theorem dX7_givesOn_40 : decode cX7_givesOn 40 = .ok (.iadd, 1) := dk_96 (dk_at dksX7_givesOn_1 16 rfl rfl)
theorem dX7_givesOn_41 : decode cX7_givesOn 41 = .ok (.iastore, 1) := dk_79 (dk_at dksX7_givesOn_1 17 rfl rfl)
theorem dX7_givesOn_42 : decode cX7_givesOn 42 = .ok (.aload_n 0, 1) := dk_42 (dk_at dksX7_givesOn_1 18 rfl rfl)
theorem dX7_givesOn_43 : decode cX7_givesOn 43 = .ok (.getfield 7, 3) := dk_180 0 7 (dk_at dksX7_givesOn_1 19 rfl rfl)
theorem dX7_givesOn_46 : decode cX7_givesOn 46 = .ok (.iload_n 1, 1) := dk_27 (dk_at dksX7_givesOn_1 22 rfl rfl)
theorem dX7_givesOn_47 : decode cX7_givesOn 47 = .ok (.bipush 22, 2) := dk_16 22 (dk_at dksX7_givesOn_2 0 rfl rfl)
theorem dX7_givesOn_49 : decode cX7_givesOn 49 = .ok (.iadd, 1) := dk_96 (dk_at dksX7_givesOn_2 2 rfl rfl)
theorem dX7_givesOn_50 : decode cX7_givesOn 50 = .ok (.dup2, 1) := dk_92 (dk_at dksX7_givesOn_2 3 rfl rfl)
theorem dX7_givesOn_51 : decode cX7_givesOn 51 = .ok (.iaload, 1) := dk_46 (dk_at dksX7_givesOn_2 4 rfl rfl)
theorem dX7_givesOn_52 : decode cX7_givesOn 52 = .ok (.iload 4, 2) := dk_21 4 (dk_at dksX7_givesOn_2 5 rfl rfl)
theorem dX7_givesOn_54 : decode cX7_givesOn 54 = .ok (.iload 5, 2) := dk_21 5 (dk_at dksX7_givesOn_2 7 rfl rfl)
theorem dX7_givesOn_56 : decode cX7_givesOn 56 = .ok (.isub, 1) := dk_100 (dk_at dksX7_givesOn_2 9 rfl rfl)
theorem dX7_givesOn_57 : decode cX7_givesOn 57 = .ok (.iadd, 1) := dk_96 (dk_at dksX7_givesOn_2 10 rfl rfl)
theorem dX7_givesOn_58 : decode cX7_givesOn 58 = .ok (.iastore, 1) := dk_79 (dk_at dksX7_givesOn_2 11 rfl rfl)
theorem dX7_givesOn_59 : decode cX7_givesOn 59 = .ok (.aload_n 0, 1) := dk_42 (dk_at dksX7_givesOn_2 12 rfl rfl)
theorem dX7_givesOn_60 : decode cX7_givesOn 60 = .ok (.getfield 7, 3) := dk_180 0 7 (dk_at dksX7_givesOn_2 13 rfl rfl)
theorem dX7_givesOn_63 : decode cX7_givesOn 63 = .ok (.iload_n 1, 1) := dk_27 (dk_at dksX7_givesOn_2 16 rfl rfl)
theorem dX7_givesOn_64 : decode cX7_givesOn 64 = .ok (.bipush 23, 2) := dk_16 23 (dk_at dksX7_givesOn_2 17 rfl rfl)
theorem dX7_givesOn_66 : decode cX7_givesOn 66 = .ok (.iadd, 1) := dk_96 (dk_at dksX7_givesOn_2 19 rfl rfl)
theorem dX7_givesOn_67 : decode cX7_givesOn 67 = .ok (.iconst 5, 1) := dk_8 (dk_at dksX7_givesOn_2 20 rfl rfl)
theorem dX7_givesOn_68 : decode cX7_givesOn 68 = .ok (.iload_n 3, 1) := dk_29 (dk_at dksX7_givesOn_2 21 rfl rfl)
theorem dX7_givesOn_69 : decode cX7_givesOn 69 = .ok (.imul, 1) := dk_104 (dk_at dksX7_givesOn_2 22 rfl rfl)
theorem dX7_givesOn_70 : decode cX7_givesOn 70 = .ok (.iadd, 1) := dk_96 (dk_at dksX7_givesOn_2 23 rfl rfl)
theorem dX7_givesOn_71 : decode cX7_givesOn 71 = .ok (.iload_n 2, 1) := dk_28 (dk_at dksX7_givesOn_3 0 rfl rfl)
theorem dX7_givesOn_72 : decode cX7_givesOn 72 = .ok (.iadd, 1) := dk_96 (dk_at dksX7_givesOn_3 1 rfl rfl)
theorem dX7_givesOn_73 : decode cX7_givesOn 73 = .ok (.dup2, 1) := dk_92 (dk_at dksX7_givesOn_3 2 rfl rfl)
theorem dX7_givesOn_74 : decode cX7_givesOn 74 = .ok (.iaload, 1) := dk_46 (dk_at dksX7_givesOn_3 3 rfl rfl)
theorem dX7_givesOn_75 : decode cX7_givesOn 75 = .ok (.iload 5, 2) := dk_21 5 (dk_at dksX7_givesOn_3 4 rfl rfl)
theorem dX7_givesOn_77 : decode cX7_givesOn 77 = .ok (.iadd, 1) := dk_96 (dk_at dksX7_givesOn_3 6 rfl rfl)
theorem dX7_givesOn_78 : decode cX7_givesOn 78 = .ok (.iastore, 1) := dk_79 (dk_at dksX7_givesOn_3 7 rfl rfl)
theorem dX7_givesOn_79 : decode cX7_givesOn 79 = .ok (.return_, 1) := dk_177 (dk_at dksX7_givesOn_3 8 rfl rfl)
abbrev cX7_nights : ByteArray := prog_11_method_41_code
def yX7_nights : MethodName := ⟨RX7, "nights", "(I)I"⟩
def dkwX7_nights_2 : List UInt8 := [167, 255, 243, 42, 3, 182, 0, 150, 172]
abbrev dktX7_nights_2 : List UInt8 := dkwX7_nights_2 ++ []
def dkwX7_nights_1 : List UInt8 := [17, 3, 231, 164, 0, 6, 16, 253, 172, 3, 61, 28, 27, 162, 0, 14, 42, 3, 182, 0, 186, 132, 2, 1]
abbrev dktX7_nights_1 : List UInt8 := dkwX7_nights_1 ++ dktX7_nights_2
def dkwX7_nights_0 : List UInt8 := [27, 133, 9, 20, 0, 184, 184, 0, 46, 154, 0, 5, 2, 172, 42, 180, 0, 7, 16, 21, 46, 27, 96]
abbrev dktX7_nights_0 : List UInt8 := dkwX7_nights_0 ++ dktX7_nights_1
theorem dksX7_nights_0 : cX7_nights.data.toList.drop 0 = dktX7_nights_0 := by decide +kernel
theorem dksX7_nights_1 : cX7_nights.data.toList.drop 23 = dktX7_nights_1 := dk_seg dksX7_nights_0 23 rfl rfl
theorem dksX7_nights_2 : cX7_nights.data.toList.drop 47 = dktX7_nights_2 := dk_seg dksX7_nights_1 24 rfl rfl
theorem dX7_nights_0 : decode cX7_nights 0 = .ok (.iload_n 1, 1) := dk_27 (dk_at dksX7_nights_0 0 rfl rfl)
theorem dX7_nights_1 : decode cX7_nights 1 = .ok (.i2l, 1) := dk_133 (dk_at dksX7_nights_0 1 rfl rfl)
theorem dX7_nights_2 : decode cX7_nights 2 = .ok (.lconst 0, 1) := dk_9 (dk_at dksX7_nights_0 2 rfl rfl)
theorem dX7_nights_3 : decode cX7_nights 3 = .ok (.ldc2_w 184, 3) := dk_20 0 184 (dk_at dksX7_nights_0 3 rfl rfl)
theorem dX7_nights_6 : decode cX7_nights 6 = .ok (.invokestatic 46, 3) := dk_184 0 46 (dk_at dksX7_nights_0 6 rfl rfl)
theorem dX7_nights_9 : decode cX7_nights 9 = .ok (.ifCond .ne 5, 3) := dk_154 0 5 (dk_at dksX7_nights_0 9 rfl rfl)
theorem dX7_nights_12 : decode cX7_nights 12 = .ok (.iconst (-1), 1) := dk_2 (dk_at dksX7_nights_0 12 rfl rfl)
theorem dX7_nights_13 : decode cX7_nights 13 = .ok (.ireturn, 1) := dk_172 (dk_at dksX7_nights_0 13 rfl rfl)
theorem dX7_nights_14 : decode cX7_nights 14 = .ok (.aload_n 0, 1) := dk_42 (dk_at dksX7_nights_0 14 rfl rfl)
theorem dX7_nights_15 : decode cX7_nights 15 = .ok (.getfield 7, 3) := dk_180 0 7 (dk_at dksX7_nights_0 15 rfl rfl)
theorem dX7_nights_18 : decode cX7_nights 18 = .ok (.bipush 21, 2) := dk_16 21 (dk_at dksX7_nights_0 18 rfl rfl)
theorem dX7_nights_20 : decode cX7_nights 20 = .ok (.iaload, 1) := dk_46 (dk_at dksX7_nights_0 20 rfl rfl)
theorem dX7_nights_21 : decode cX7_nights 21 = .ok (.iload_n 1, 1) := dk_27 (dk_at dksX7_nights_0 21 rfl rfl)
theorem dX7_nights_22 : decode cX7_nights 22 = .ok (.iadd, 1) := dk_96 (dk_at dksX7_nights_0 22 rfl rfl)
theorem dX7_nights_23 : decode cX7_nights 23 = .ok (.sipush 999, 3) := dk_17 3 231 (dk_at dksX7_nights_1 0 rfl rfl)
theorem dX7_nights_26 : decode cX7_nights 26 = .ok (.if_icmp .le 6, 3) := dk_164 0 6 (dk_at dksX7_nights_1 3 rfl rfl)
theorem dX7_nights_29 : decode cX7_nights 29 = .ok (.bipush (-3), 2) := dk_16 253 (dk_at dksX7_nights_1 6 rfl rfl)
theorem dX7_nights_31 : decode cX7_nights 31 = .ok (.ireturn, 1) := dk_172 (dk_at dksX7_nights_1 8 rfl rfl)
theorem dX7_nights_32 : decode cX7_nights 32 = .ok (.iconst 0, 1) := dk_3 (dk_at dksX7_nights_1 9 rfl rfl)
theorem dX7_nights_33 : decode cX7_nights 33 = .ok (.istore_n 2, 1) := dk_61 (dk_at dksX7_nights_1 10 rfl rfl)
theorem dX7_nights_34 : decode cX7_nights 34 = .ok (.iload_n 2, 1) := dk_28 (dk_at dksX7_nights_1 11 rfl rfl)
theorem dX7_nights_35 : decode cX7_nights 35 = .ok (.iload_n 1, 1) := dk_27 (dk_at dksX7_nights_1 12 rfl rfl)
theorem dX7_nights_36 : decode cX7_nights 36 = .ok (.if_icmp .ge 14, 3) := dk_162 0 14 (dk_at dksX7_nights_1 13 rfl rfl)
theorem dX7_nights_39 : decode cX7_nights 39 = .ok (.aload_n 0, 1) := dk_42 (dk_at dksX7_nights_1 16 rfl rfl)
theorem dX7_nights_40 : decode cX7_nights 40 = .ok (.iconst 0, 1) := dk_3 (dk_at dksX7_nights_1 17 rfl rfl)
theorem dX7_nights_41 : decode cX7_nights 41 = .ok (.invokevirtual 186, 3) := dk_182 0 186 (dk_at dksX7_nights_1 18 rfl rfl)
theorem dX7_nights_44 : decode cX7_nights 44 = .ok (.iinc 2 1, 3) := dk_132 2 1 (dk_at dksX7_nights_1 21 rfl rfl)
theorem dX7_nights_47 : decode cX7_nights 47 = .ok (.goto (-13), 3) := dk_167 255 243 (dk_at dksX7_nights_2 0 rfl rfl)
theorem dX7_nights_50 : decode cX7_nights 50 = .ok (.aload_n 0, 1) := dk_42 (dk_at dksX7_nights_2 3 rfl rfl)
theorem dX7_nights_51 : decode cX7_nights 51 = .ok (.iconst 0, 1) := dk_3 (dk_at dksX7_nights_2 4 rfl rfl)
theorem dX7_nights_52 : decode cX7_nights 52 = .ok (.invokevirtual 150, 3) := dk_182 0 150 (dk_at dksX7_nights_2 5 rfl rfl)
theorem dX7_nights_55 : decode cX7_nights 55 = .ok (.ireturn, 1) := dk_172 (dk_at dksX7_nights_2 8 rfl rfl)
abbrev cX7_nightOn : ByteArray := prog_11_method_21_code
def yX7_nightOn : MethodName := ⟨RX7, "nightOn", "(I)V"⟩
def dkwX7_nightOn_1 : List UInt8 := [182, 0, 139, 79, 132, 2, 1, 167, 255, 228, 42, 180, 0, 7, 27, 16, 21, 96, 92, 46, 4, 96, 79, 177]
abbrev dktX7_nightOn_1 : List UInt8 := dkwX7_nightOn_1 ++ []
def dkwX7_nightOn_0 : List UInt8 := [3, 61, 28, 42, 180, 0, 126, 162, 0, 26, 42, 180, 0, 7, 27, 16, 15, 96, 28, 96, 42, 27, 28]
abbrev dktX7_nightOn_0 : List UInt8 := dkwX7_nightOn_0 ++ dktX7_nightOn_1
theorem dksX7_nightOn_0 : cX7_nightOn.data.toList.drop 0 = dktX7_nightOn_0 := by decide +kernel
theorem dksX7_nightOn_1 : cX7_nightOn.data.toList.drop 23 = dktX7_nightOn_1 := dk_seg dksX7_nightOn_0 23 rfl rfl
theorem dX7_nightOn_0 : decode cX7_nightOn 0 = .ok (.iconst 0, 1) := dk_3 (dk_at dksX7_nightOn_0 0 rfl rfl)
theorem dX7_nightOn_1 : decode cX7_nightOn 1 = .ok (.istore_n 2, 1) := dk_61 (dk_at dksX7_nightOn_0 1 rfl rfl)
theorem dX7_nightOn_2 : decode cX7_nightOn 2 = .ok (.iload_n 2, 1) := dk_28 (dk_at dksX7_nightOn_0 2 rfl rfl)
theorem dX7_nightOn_3 : decode cX7_nightOn 3 = .ok (.aload_n 0, 1) := dk_42 (dk_at dksX7_nightOn_0 3 rfl rfl)
theorem dX7_nightOn_4 : decode cX7_nightOn 4 = .ok (.getfield 126, 3) := dk_180 0 126 (dk_at dksX7_nightOn_0 4 rfl rfl)
theorem dX7_nightOn_7 : decode cX7_nightOn 7 = .ok (.if_icmp .ge 26, 3) := dk_162 0 26 (dk_at dksX7_nightOn_0 7 rfl rfl)
theorem dX7_nightOn_10 : decode cX7_nightOn 10 = .ok (.aload_n 0, 1) := dk_42 (dk_at dksX7_nightOn_0 10 rfl rfl)
theorem dX7_nightOn_11 : decode cX7_nightOn 11 = .ok (.getfield 7, 3) := dk_180 0 7 (dk_at dksX7_nightOn_0 11 rfl rfl)
theorem dX7_nightOn_14 : decode cX7_nightOn 14 = .ok (.iload_n 1, 1) := dk_27 (dk_at dksX7_nightOn_0 14 rfl rfl)
theorem dX7_nightOn_15 : decode cX7_nightOn 15 = .ok (.bipush 15, 2) := dk_16 15 (dk_at dksX7_nightOn_0 15 rfl rfl)
theorem dX7_nightOn_17 : decode cX7_nightOn 17 = .ok (.iadd, 1) := dk_96 (dk_at dksX7_nightOn_0 17 rfl rfl)
theorem dX7_nightOn_18 : decode cX7_nightOn 18 = .ok (.iload_n 2, 1) := dk_28 (dk_at dksX7_nightOn_0 18 rfl rfl)
theorem dX7_nightOn_19 : decode cX7_nightOn 19 = .ok (.iadd, 1) := dk_96 (dk_at dksX7_nightOn_0 19 rfl rfl)
theorem dX7_nightOn_20 : decode cX7_nightOn 20 = .ok (.aload_n 0, 1) := dk_42 (dk_at dksX7_nightOn_0 20 rfl rfl)
theorem dX7_nightOn_21 : decode cX7_nightOn 21 = .ok (.iload_n 1, 1) := dk_27 (dk_at dksX7_nightOn_0 21 rfl rfl)
theorem dX7_nightOn_22 : decode cX7_nightOn 22 = .ok (.iload_n 2, 1) := dk_28 (dk_at dksX7_nightOn_0 22 rfl rfl)
theorem dX7_nightOn_23 : decode cX7_nightOn 23 = .ok (.invokevirtual 139, 3) := dk_182 0 139 (dk_at dksX7_nightOn_1 0 rfl rfl)
theorem dX7_nightOn_26 : decode cX7_nightOn 26 = .ok (.iastore, 1) := dk_79 (dk_at dksX7_nightOn_1 3 rfl rfl)
theorem dX7_nightOn_27 : decode cX7_nightOn 27 = .ok (.iinc 2 1, 3) := dk_132 2 1 (dk_at dksX7_nightOn_1 4 rfl rfl)
theorem dX7_nightOn_30 : decode cX7_nightOn 30 = .ok (.goto (-28), 3) := dk_167 255 228 (dk_at dksX7_nightOn_1 7 rfl rfl)
theorem dX7_nightOn_33 : decode cX7_nightOn 33 = .ok (.aload_n 0, 1) := dk_42 (dk_at dksX7_nightOn_1 10 rfl rfl)
theorem dX7_nightOn_34 : decode cX7_nightOn 34 = .ok (.getfield 7, 3) := dk_180 0 7 (dk_at dksX7_nightOn_1 11 rfl rfl)
theorem dX7_nightOn_37 : decode cX7_nightOn 37 = .ok (.iload_n 1, 1) := dk_27 (dk_at dksX7_nightOn_1 14 rfl rfl)
theorem dX7_nightOn_38 : decode cX7_nightOn 38 = .ok (.bipush 21, 2) := dk_16 21 (dk_at dksX7_nightOn_1 15 rfl rfl)
theorem dX7_nightOn_40 : decode cX7_nightOn 40 = .ok (.iadd, 1) := dk_96 (dk_at dksX7_nightOn_1 17 rfl rfl)
theorem dX7_nightOn_41 : decode cX7_nightOn 41 = .ok (.dup2, 1) := dk_92 (dk_at dksX7_nightOn_1 18 rfl rfl)
theorem dX7_nightOn_42 : decode cX7_nightOn 42 = .ok (.iaload, 1) := dk_46 (dk_at dksX7_nightOn_1 19 rfl rfl)
theorem dX7_nightOn_43 : decode cX7_nightOn 43 = .ok (.iconst 1, 1) := dk_4 (dk_at dksX7_nightOn_1 20 rfl rfl)
theorem dX7_nightOn_44 : decode cX7_nightOn 44 = .ok (.iadd, 1) := dk_96 (dk_at dksX7_nightOn_1 21 rfl rfl)
theorem dX7_nightOn_45 : decode cX7_nightOn 45 = .ok (.iastore, 1) := dk_79 (dk_at dksX7_nightOn_1 22 rfl rfl)
theorem dX7_nightOn_46 : decode cX7_nightOn 46 = .ok (.return_, 1) := dk_177 (dk_at dksX7_nightOn_1 23 rfl rfl)
abbrev cX7_runs : ByteArray := prog_11_method_44_code
def yX7_runs : MethodName := ⟨RX7, "runs", "(I)I"⟩
def dkwX7_runs_3 : List UInt8 := [46, 100, 172]
abbrev dktX7_runs_3 : List UInt8 := dkwX7_runs_3 ++ []
def dkwX7_runs_2 : List UInt8 := [160, 0, 10, 42, 180, 0, 196, 167, 0, 19, 42, 180, 0, 7, 17, 1, 34, 46, 42, 180, 0, 7, 16, 22]
abbrev dktX7_runs_2 : List UInt8 := dkwX7_runs_2 ++ dktX7_runs_3
def dkwX7_runs_1 : List UInt8 := [17, 1, 12, 182, 0, 150, 167, 0, 43, 27, 4, 160, 0, 10, 42, 180, 0, 193, 167, 0, 31, 27, 5]
abbrev dktX7_runs_1 : List UInt8 := dkwX7_runs_1 ++ dktX7_runs_2
def dkwX7_runs_0 : List UInt8 := [27, 133, 9, 20, 0, 160, 184, 0, 46, 154, 0, 5, 2, 172, 42, 3, 182, 0, 199, 27, 154, 0, 13, 42]
abbrev dktX7_runs_0 : List UInt8 := dkwX7_runs_0 ++ dktX7_runs_1
theorem dksX7_runs_0 : cX7_runs.data.toList.drop 0 = dktX7_runs_0 := by decide +kernel
theorem dksX7_runs_1 : cX7_runs.data.toList.drop 24 = dktX7_runs_1 := dk_seg dksX7_runs_0 24 rfl rfl
theorem dksX7_runs_2 : cX7_runs.data.toList.drop 47 = dktX7_runs_2 := dk_seg dksX7_runs_1 23 rfl rfl
theorem dksX7_runs_3 : cX7_runs.data.toList.drop 71 = dktX7_runs_3 := dk_seg dksX7_runs_2 24 rfl rfl
theorem dX7_runs_0 : decode cX7_runs 0 = .ok (.iload_n 1, 1) := dk_27 (dk_at dksX7_runs_0 0 rfl rfl)
theorem dX7_runs_1 : decode cX7_runs 1 = .ok (.i2l, 1) := dk_133 (dk_at dksX7_runs_0 1 rfl rfl)
theorem dX7_runs_2 : decode cX7_runs 2 = .ok (.lconst 0, 1) := dk_9 (dk_at dksX7_runs_0 2 rfl rfl)
theorem dX7_runs_3 : decode cX7_runs 3 = .ok (.ldc2_w 160, 3) := dk_20 0 160 (dk_at dksX7_runs_0 3 rfl rfl)
theorem dX7_runs_6 : decode cX7_runs 6 = .ok (.invokestatic 46, 3) := dk_184 0 46 (dk_at dksX7_runs_0 6 rfl rfl)
theorem dX7_runs_9 : decode cX7_runs 9 = .ok (.ifCond .ne 5, 3) := dk_154 0 5 (dk_at dksX7_runs_0 9 rfl rfl)
theorem dX7_runs_12 : decode cX7_runs 12 = .ok (.iconst (-1), 1) := dk_2 (dk_at dksX7_runs_0 12 rfl rfl)
theorem dX7_runs_13 : decode cX7_runs 13 = .ok (.ireturn, 1) := dk_172 (dk_at dksX7_runs_0 13 rfl rfl)
theorem dX7_runs_14 : decode cX7_runs 14 = .ok (.aload_n 0, 1) := dk_42 (dk_at dksX7_runs_0 14 rfl rfl)
theorem dX7_runs_15 : decode cX7_runs 15 = .ok (.iconst 0, 1) := dk_3 (dk_at dksX7_runs_0 15 rfl rfl)
theorem dX7_runs_16 : decode cX7_runs 16 = .ok (.invokevirtual 199, 3) := dk_182 0 199 (dk_at dksX7_runs_0 16 rfl rfl)
theorem dX7_runs_19 : decode cX7_runs 19 = .ok (.iload_n 1, 1) := dk_27 (dk_at dksX7_runs_0 19 rfl rfl)
theorem dX7_runs_20 : decode cX7_runs 20 = .ok (.ifCond .ne 13, 3) := dk_154 0 13 (dk_at dksX7_runs_0 20 rfl rfl)
theorem dX7_runs_23 : decode cX7_runs 23 = .ok (.aload_n 0, 1) := dk_42 (dk_at dksX7_runs_0 23 rfl rfl)
theorem dX7_runs_24 : decode cX7_runs 24 = .ok (.sipush 268, 3) := dk_17 1 12 (dk_at dksX7_runs_1 0 rfl rfl)
theorem dX7_runs_27 : decode cX7_runs 27 = .ok (.invokevirtual 150, 3) := dk_182 0 150 (dk_at dksX7_runs_1 3 rfl rfl)
theorem dX7_runs_30 : decode cX7_runs 30 = .ok (.goto 43, 3) := dk_167 0 43 (dk_at dksX7_runs_1 6 rfl rfl)
theorem dX7_runs_33 : decode cX7_runs 33 = .ok (.iload_n 1, 1) := dk_27 (dk_at dksX7_runs_1 9 rfl rfl)
theorem dX7_runs_34 : decode cX7_runs 34 = .ok (.iconst 1, 1) := dk_4 (dk_at dksX7_runs_1 10 rfl rfl)
theorem dX7_runs_35 : decode cX7_runs 35 = .ok (.if_icmp .ne 10, 3) := dk_160 0 10 (dk_at dksX7_runs_1 11 rfl rfl)
theorem dX7_runs_38 : decode cX7_runs 38 = .ok (.aload_n 0, 1) := dk_42 (dk_at dksX7_runs_1 14 rfl rfl)
theorem dX7_runs_39 : decode cX7_runs 39 = .ok (.getfield 193, 3) := dk_180 0 193 (dk_at dksX7_runs_1 15 rfl rfl)
theorem dX7_runs_42 : decode cX7_runs 42 = .ok (.goto 31, 3) := dk_167 0 31 (dk_at dksX7_runs_1 18 rfl rfl)
theorem dX7_runs_45 : decode cX7_runs 45 = .ok (.iload_n 1, 1) := dk_27 (dk_at dksX7_runs_1 21 rfl rfl)
theorem dX7_runs_46 : decode cX7_runs 46 = .ok (.iconst 2, 1) := dk_5 (dk_at dksX7_runs_1 22 rfl rfl)
theorem dX7_runs_47 : decode cX7_runs 47 = .ok (.if_icmp .ne 10, 3) := dk_160 0 10 (dk_at dksX7_runs_2 0 rfl rfl)
theorem dX7_runs_50 : decode cX7_runs 50 = .ok (.aload_n 0, 1) := dk_42 (dk_at dksX7_runs_2 3 rfl rfl)
theorem dX7_runs_51 : decode cX7_runs 51 = .ok (.getfield 196, 3) := dk_180 0 196 (dk_at dksX7_runs_2 4 rfl rfl)
theorem dX7_runs_54 : decode cX7_runs 54 = .ok (.goto 19, 3) := dk_167 0 19 (dk_at dksX7_runs_2 7 rfl rfl)
theorem dX7_runs_57 : decode cX7_runs 57 = .ok (.aload_n 0, 1) := dk_42 (dk_at dksX7_runs_2 10 rfl rfl)
theorem dX7_runs_58 : decode cX7_runs 58 = .ok (.getfield 7, 3) := dk_180 0 7 (dk_at dksX7_runs_2 11 rfl rfl)
theorem dX7_runs_61 : decode cX7_runs 61 = .ok (.sipush 290, 3) := dk_17 1 34 (dk_at dksX7_runs_2 14 rfl rfl)
theorem dX7_runs_64 : decode cX7_runs 64 = .ok (.iaload, 1) := dk_46 (dk_at dksX7_runs_2 17 rfl rfl)
theorem dX7_runs_65 : decode cX7_runs 65 = .ok (.aload_n 0, 1) := dk_42 (dk_at dksX7_runs_2 18 rfl rfl)
theorem dX7_runs_66 : decode cX7_runs 66 = .ok (.getfield 7, 3) := dk_180 0 7 (dk_at dksX7_runs_2 19 rfl rfl)
theorem dX7_runs_69 : decode cX7_runs 69 = .ok (.bipush 22, 2) := dk_16 22 (dk_at dksX7_runs_2 22 rfl rfl)
theorem dX7_runs_71 : decode cX7_runs 71 = .ok (.iaload, 1) := dk_46 (dk_at dksX7_runs_3 0 rfl rfl)
theorem dX7_runs_72 : decode cX7_runs 72 = .ok (.isub, 1) := dk_100 (dk_at dksX7_runs_3 1 rfl rfl)
theorem dX7_runs_73 : decode cX7_runs 73 = .ok (.ireturn, 1) := dk_172 (dk_at dksX7_runs_3 2 rfl rfl)
abbrev cX7_planGoes : ByteArray := prog_11_method_43_code
def yX7_planGoes : MethodName := ⟨RX7, "planGoes", "(I)V"⟩
def dkwX7_planGoes_6 : List UInt8 := [132, 2, 1, 167, 255, 132, 177]
abbrev dktX7_planGoes_6 : List UInt8 := dkwX7_planGoes_6 ++ []
def dkwX7_planGoes_5 : List UInt8 := [167, 0, 24, 42, 42, 180, 0, 196, 16, 252, 160, 0, 7, 28, 167, 0, 7, 42, 180, 0, 196, 181, 0, 196]
abbrev dktX7_planGoes_5 : List UInt8 := dkwX7_planGoes_5 ++ dktX7_planGoes_6
def dkwX7_planGoes_4 : List UInt8 := [96, 46, 42, 180, 0, 7, 29, 5, 96, 46, 182, 0, 177, 42, 89, 180, 0, 193, 4, 96, 181, 0, 193]
abbrev dktX7_planGoes_4 : List UInt8 := dkwX7_planGoes_4 ++ dktX7_planGoes_5
def dkwX7_planGoes_3 : List UInt8 := [96, 46, 182, 0, 170, 153, 0, 45, 42, 17, 1, 12, 42, 180, 0, 7, 29, 46, 42, 180, 0, 7, 29, 4]
abbrev dktX7_planGoes_3 : List UInt8 := dkwX7_planGoes_3 ++ dktX7_planGoes_4
def dkwX7_planGoes_2 : List UInt8 := [42, 17, 1, 12, 42, 180, 0, 7, 29, 46, 42, 180, 0, 7, 29, 4, 96, 46, 42, 180, 0, 7, 29, 5]
abbrev dktX7_planGoes_2 : List UInt8 := dkwX7_planGoes_2 ++ dktX7_planGoes_3
def dkwX7_planGoes_1 : List UInt8 := [180, 0, 7, 16, 66, 46, 162, 0, 119, 16, 48, 6, 28, 104, 96, 62, 27, 28, 122, 4, 126, 154, 0, 98]
abbrev dktX7_planGoes_1 : List UInt8 := dkwX7_planGoes_1 ++ dktX7_planGoes_2
def dkwX7_planGoes_0 : List UInt8 := [42, 3, 17, 1, 12, 182, 0, 189, 42, 3, 181, 0, 193, 42, 16, 252, 181, 0, 196, 3, 61, 28, 42]
abbrev dktX7_planGoes_0 : List UInt8 := dkwX7_planGoes_0 ++ dktX7_planGoes_1
theorem dksX7_planGoes_0 : cX7_planGoes.data.toList.drop 0 = dktX7_planGoes_0 := by decide +kernel
theorem dksX7_planGoes_1 : cX7_planGoes.data.toList.drop 23 = dktX7_planGoes_1 := dk_seg dksX7_planGoes_0 23 rfl rfl
theorem dksX7_planGoes_2 : cX7_planGoes.data.toList.drop 47 = dktX7_planGoes_2 := dk_seg dksX7_planGoes_1 24 rfl rfl
theorem dksX7_planGoes_3 : cX7_planGoes.data.toList.drop 71 = dktX7_planGoes_3 := dk_seg dksX7_planGoes_2 24 rfl rfl
theorem dksX7_planGoes_4 : cX7_planGoes.data.toList.drop 95 = dktX7_planGoes_4 := dk_seg dksX7_planGoes_3 24 rfl rfl
theorem dksX7_planGoes_5 : cX7_planGoes.data.toList.drop 118 = dktX7_planGoes_5 := dk_seg dksX7_planGoes_4 23 rfl rfl
theorem dksX7_planGoes_6 : cX7_planGoes.data.toList.drop 142 = dktX7_planGoes_6 := dk_seg dksX7_planGoes_5 24 rfl rfl
theorem dX7_planGoes_0 : decode cX7_planGoes 0 = .ok (.aload_n 0, 1) := dk_42 (dk_at dksX7_planGoes_0 0 rfl rfl)
theorem dX7_planGoes_1 : decode cX7_planGoes 1 = .ok (.iconst 0, 1) := dk_3 (dk_at dksX7_planGoes_0 1 rfl rfl)
theorem dX7_planGoes_2 : decode cX7_planGoes 2 = .ok (.sipush 268, 3) := dk_17 1 12 (dk_at dksX7_planGoes_0 2 rfl rfl)
theorem dX7_planGoes_5 : decode cX7_planGoes 5 = .ok (.invokevirtual 189, 3) := dk_182 0 189 (dk_at dksX7_planGoes_0 5 rfl rfl)
theorem dX7_planGoes_8 : decode cX7_planGoes 8 = .ok (.aload_n 0, 1) := dk_42 (dk_at dksX7_planGoes_0 8 rfl rfl)
theorem dX7_planGoes_9 : decode cX7_planGoes 9 = .ok (.iconst 0, 1) := dk_3 (dk_at dksX7_planGoes_0 9 rfl rfl)
theorem dX7_planGoes_10 : decode cX7_planGoes 10 = .ok (.putfield 193, 3) := dk_181 0 193 (dk_at dksX7_planGoes_0 10 rfl rfl)
theorem dX7_planGoes_13 : decode cX7_planGoes 13 = .ok (.aload_n 0, 1) := dk_42 (dk_at dksX7_planGoes_0 13 rfl rfl)
theorem dX7_planGoes_14 : decode cX7_planGoes 14 = .ok (.bipush (-4), 2) := dk_16 252 (dk_at dksX7_planGoes_0 14 rfl rfl)
theorem dX7_planGoes_16 : decode cX7_planGoes 16 = .ok (.putfield 196, 3) := dk_181 0 196 (dk_at dksX7_planGoes_0 16 rfl rfl)
theorem dX7_planGoes_19 : decode cX7_planGoes 19 = .ok (.iconst 0, 1) := dk_3 (dk_at dksX7_planGoes_0 19 rfl rfl)
theorem dX7_planGoes_20 : decode cX7_planGoes 20 = .ok (.istore_n 2, 1) := dk_61 (dk_at dksX7_planGoes_0 20 rfl rfl)
theorem dX7_planGoes_21 : decode cX7_planGoes 21 = .ok (.iload_n 2, 1) := dk_28 (dk_at dksX7_planGoes_0 21 rfl rfl)
theorem dX7_planGoes_22 : decode cX7_planGoes 22 = .ok (.aload_n 0, 1) := dk_42 (dk_at dksX7_planGoes_0 22 rfl rfl)
theorem dX7_planGoes_23 : decode cX7_planGoes 23 = .ok (.getfield 7, 3) := dk_180 0 7 (dk_at dksX7_planGoes_1 0 rfl rfl)
theorem dX7_planGoes_26 : decode cX7_planGoes 26 = .ok (.bipush 66, 2) := dk_16 66 (dk_at dksX7_planGoes_1 3 rfl rfl)
theorem dX7_planGoes_28 : decode cX7_planGoes 28 = .ok (.iaload, 1) := dk_46 (dk_at dksX7_planGoes_1 5 rfl rfl)
theorem dX7_planGoes_29 : decode cX7_planGoes 29 = .ok (.if_icmp .ge 119, 3) := dk_162 0 119 (dk_at dksX7_planGoes_1 6 rfl rfl)
theorem dX7_planGoes_32 : decode cX7_planGoes 32 = .ok (.bipush 48, 2) := dk_16 48 (dk_at dksX7_planGoes_1 9 rfl rfl)
theorem dX7_planGoes_34 : decode cX7_planGoes 34 = .ok (.iconst 3, 1) := dk_6 (dk_at dksX7_planGoes_1 11 rfl rfl)
theorem dX7_planGoes_35 : decode cX7_planGoes 35 = .ok (.iload_n 2, 1) := dk_28 (dk_at dksX7_planGoes_1 12 rfl rfl)
theorem dX7_planGoes_36 : decode cX7_planGoes 36 = .ok (.imul, 1) := dk_104 (dk_at dksX7_planGoes_1 13 rfl rfl)
theorem dX7_planGoes_37 : decode cX7_planGoes 37 = .ok (.iadd, 1) := dk_96 (dk_at dksX7_planGoes_1 14 rfl rfl)
theorem dX7_planGoes_38 : decode cX7_planGoes 38 = .ok (.istore_n 3, 1) := dk_62 (dk_at dksX7_planGoes_1 15 rfl rfl)
theorem dX7_planGoes_39 : decode cX7_planGoes 39 = .ok (.iload_n 1, 1) := dk_27 (dk_at dksX7_planGoes_1 16 rfl rfl)
theorem dX7_planGoes_40 : decode cX7_planGoes 40 = .ok (.iload_n 2, 1) := dk_28 (dk_at dksX7_planGoes_1 17 rfl rfl)
theorem dX7_planGoes_41 : decode cX7_planGoes 41 = .ok (.ishr, 1) := dk_122 (dk_at dksX7_planGoes_1 18 rfl rfl)
theorem dX7_planGoes_42 : decode cX7_planGoes 42 = .ok (.iconst 1, 1) := dk_4 (dk_at dksX7_planGoes_1 19 rfl rfl)
theorem dX7_planGoes_43 : decode cX7_planGoes 43 = .ok (.iand, 1) := dk_126 (dk_at dksX7_planGoes_1 20 rfl rfl)
theorem dX7_planGoes_44 : decode cX7_planGoes 44 = .ok (.ifCond .ne 98, 3) := dk_154 0 98 (dk_at dksX7_planGoes_1 21 rfl rfl)
theorem dX7_planGoes_47 : decode cX7_planGoes 47 = .ok (.aload_n 0, 1) := dk_42 (dk_at dksX7_planGoes_2 0 rfl rfl)
theorem dX7_planGoes_48 : decode cX7_planGoes 48 = .ok (.sipush 268, 3) := dk_17 1 12 (dk_at dksX7_planGoes_2 1 rfl rfl)
theorem dX7_planGoes_51 : decode cX7_planGoes 51 = .ok (.aload_n 0, 1) := dk_42 (dk_at dksX7_planGoes_2 4 rfl rfl)
theorem dX7_planGoes_52 : decode cX7_planGoes 52 = .ok (.getfield 7, 3) := dk_180 0 7 (dk_at dksX7_planGoes_2 5 rfl rfl)
theorem dX7_planGoes_55 : decode cX7_planGoes 55 = .ok (.iload_n 3, 1) := dk_29 (dk_at dksX7_planGoes_2 8 rfl rfl)
theorem dX7_planGoes_56 : decode cX7_planGoes 56 = .ok (.iaload, 1) := dk_46 (dk_at dksX7_planGoes_2 9 rfl rfl)
theorem dX7_planGoes_57 : decode cX7_planGoes 57 = .ok (.aload_n 0, 1) := dk_42 (dk_at dksX7_planGoes_2 10 rfl rfl)
theorem dX7_planGoes_58 : decode cX7_planGoes 58 = .ok (.getfield 7, 3) := dk_180 0 7 (dk_at dksX7_planGoes_2 11 rfl rfl)
theorem dX7_planGoes_61 : decode cX7_planGoes 61 = .ok (.iload_n 3, 1) := dk_29 (dk_at dksX7_planGoes_2 14 rfl rfl)
theorem dX7_planGoes_62 : decode cX7_planGoes 62 = .ok (.iconst 1, 1) := dk_4 (dk_at dksX7_planGoes_2 15 rfl rfl)
theorem dX7_planGoes_63 : decode cX7_planGoes 63 = .ok (.iadd, 1) := dk_96 (dk_at dksX7_planGoes_2 16 rfl rfl)
theorem dX7_planGoes_64 : decode cX7_planGoes 64 = .ok (.iaload, 1) := dk_46 (dk_at dksX7_planGoes_2 17 rfl rfl)
theorem dX7_planGoes_65 : decode cX7_planGoes 65 = .ok (.aload_n 0, 1) := dk_42 (dk_at dksX7_planGoes_2 18 rfl rfl)
theorem dX7_planGoes_66 : decode cX7_planGoes 66 = .ok (.getfield 7, 3) := dk_180 0 7 (dk_at dksX7_planGoes_2 19 rfl rfl)
theorem dX7_planGoes_69 : decode cX7_planGoes 69 = .ok (.iload_n 3, 1) := dk_29 (dk_at dksX7_planGoes_2 22 rfl rfl)
theorem dX7_planGoes_70 : decode cX7_planGoes 70 = .ok (.iconst 2, 1) := dk_5 (dk_at dksX7_planGoes_2 23 rfl rfl)
theorem dX7_planGoes_71 : decode cX7_planGoes 71 = .ok (.iadd, 1) := dk_96 (dk_at dksX7_planGoes_3 0 rfl rfl)
theorem dX7_planGoes_72 : decode cX7_planGoes 72 = .ok (.iaload, 1) := dk_46 (dk_at dksX7_planGoes_3 1 rfl rfl)
theorem dX7_planGoes_73 : decode cX7_planGoes 73 = .ok (.invokevirtual 170, 3) := dk_182 0 170 (dk_at dksX7_planGoes_3 2 rfl rfl)
theorem dX7_planGoes_76 : decode cX7_planGoes 76 = .ok (.ifCond .eq 45, 3) := dk_153 0 45 (dk_at dksX7_planGoes_3 5 rfl rfl)
theorem dX7_planGoes_79 : decode cX7_planGoes 79 = .ok (.aload_n 0, 1) := dk_42 (dk_at dksX7_planGoes_3 8 rfl rfl)
theorem dX7_planGoes_80 : decode cX7_planGoes 80 = .ok (.sipush 268, 3) := dk_17 1 12 (dk_at dksX7_planGoes_3 9 rfl rfl)
theorem dX7_planGoes_83 : decode cX7_planGoes 83 = .ok (.aload_n 0, 1) := dk_42 (dk_at dksX7_planGoes_3 12 rfl rfl)
theorem dX7_planGoes_84 : decode cX7_planGoes 84 = .ok (.getfield 7, 3) := dk_180 0 7 (dk_at dksX7_planGoes_3 13 rfl rfl)
theorem dX7_planGoes_87 : decode cX7_planGoes 87 = .ok (.iload_n 3, 1) := dk_29 (dk_at dksX7_planGoes_3 16 rfl rfl)
theorem dX7_planGoes_88 : decode cX7_planGoes 88 = .ok (.iaload, 1) := dk_46 (dk_at dksX7_planGoes_3 17 rfl rfl)
theorem dX7_planGoes_89 : decode cX7_planGoes 89 = .ok (.aload_n 0, 1) := dk_42 (dk_at dksX7_planGoes_3 18 rfl rfl)
theorem dX7_planGoes_90 : decode cX7_planGoes 90 = .ok (.getfield 7, 3) := dk_180 0 7 (dk_at dksX7_planGoes_3 19 rfl rfl)
theorem dX7_planGoes_93 : decode cX7_planGoes 93 = .ok (.iload_n 3, 1) := dk_29 (dk_at dksX7_planGoes_3 22 rfl rfl)
theorem dX7_planGoes_94 : decode cX7_planGoes 94 = .ok (.iconst 1, 1) := dk_4 (dk_at dksX7_planGoes_3 23 rfl rfl)
theorem dX7_planGoes_95 : decode cX7_planGoes 95 = .ok (.iadd, 1) := dk_96 (dk_at dksX7_planGoes_4 0 rfl rfl)
theorem dX7_planGoes_96 : decode cX7_planGoes 96 = .ok (.iaload, 1) := dk_46 (dk_at dksX7_planGoes_4 1 rfl rfl)
theorem dX7_planGoes_97 : decode cX7_planGoes 97 = .ok (.aload_n 0, 1) := dk_42 (dk_at dksX7_planGoes_4 2 rfl rfl)
theorem dX7_planGoes_98 : decode cX7_planGoes 98 = .ok (.getfield 7, 3) := dk_180 0 7 (dk_at dksX7_planGoes_4 3 rfl rfl)
theorem dX7_planGoes_101 : decode cX7_planGoes 101 = .ok (.iload_n 3, 1) := dk_29 (dk_at dksX7_planGoes_4 6 rfl rfl)
theorem dX7_planGoes_102 : decode cX7_planGoes 102 = .ok (.iconst 2, 1) := dk_5 (dk_at dksX7_planGoes_4 7 rfl rfl)
theorem dX7_planGoes_103 : decode cX7_planGoes 103 = .ok (.iadd, 1) := dk_96 (dk_at dksX7_planGoes_4 8 rfl rfl)
theorem dX7_planGoes_104 : decode cX7_planGoes 104 = .ok (.iaload, 1) := dk_46 (dk_at dksX7_planGoes_4 9 rfl rfl)
theorem dX7_planGoes_105 : decode cX7_planGoes 105 = .ok (.invokevirtual 177, 3) := dk_182 0 177 (dk_at dksX7_planGoes_4 10 rfl rfl)
theorem dX7_planGoes_108 : decode cX7_planGoes 108 = .ok (.aload_n 0, 1) := dk_42 (dk_at dksX7_planGoes_4 13 rfl rfl)
theorem dX7_planGoes_109 : decode cX7_planGoes 109 = .ok (.dup, 1) := dk_89 (dk_at dksX7_planGoes_4 14 rfl rfl)
theorem dX7_planGoes_110 : decode cX7_planGoes 110 = .ok (.getfield 193, 3) := dk_180 0 193 (dk_at dksX7_planGoes_4 15 rfl rfl)
theorem dX7_planGoes_113 : decode cX7_planGoes 113 = .ok (.iconst 1, 1) := dk_4 (dk_at dksX7_planGoes_4 18 rfl rfl)
theorem dX7_planGoes_114 : decode cX7_planGoes 114 = .ok (.iadd, 1) := dk_96 (dk_at dksX7_planGoes_4 19 rfl rfl)
theorem dX7_planGoes_115 : decode cX7_planGoes 115 = .ok (.putfield 193, 3) := dk_181 0 193 (dk_at dksX7_planGoes_4 20 rfl rfl)
theorem dX7_planGoes_118 : decode cX7_planGoes 118 = .ok (.goto 24, 3) := dk_167 0 24 (dk_at dksX7_planGoes_5 0 rfl rfl)
theorem dX7_planGoes_121 : decode cX7_planGoes 121 = .ok (.aload_n 0, 1) := dk_42 (dk_at dksX7_planGoes_5 3 rfl rfl)
theorem dX7_planGoes_122 : decode cX7_planGoes 122 = .ok (.aload_n 0, 1) := dk_42 (dk_at dksX7_planGoes_5 4 rfl rfl)
theorem dX7_planGoes_123 : decode cX7_planGoes 123 = .ok (.getfield 196, 3) := dk_180 0 196 (dk_at dksX7_planGoes_5 5 rfl rfl)
theorem dX7_planGoes_126 : decode cX7_planGoes 126 = .ok (.bipush (-4), 2) := dk_16 252 (dk_at dksX7_planGoes_5 8 rfl rfl)
theorem dX7_planGoes_128 : decode cX7_planGoes 128 = .ok (.if_icmp .ne 7, 3) := dk_160 0 7 (dk_at dksX7_planGoes_5 10 rfl rfl)
theorem dX7_planGoes_131 : decode cX7_planGoes 131 = .ok (.iload_n 2, 1) := dk_28 (dk_at dksX7_planGoes_5 13 rfl rfl)
theorem dX7_planGoes_132 : decode cX7_planGoes 132 = .ok (.goto 7, 3) := dk_167 0 7 (dk_at dksX7_planGoes_5 14 rfl rfl)
theorem dX7_planGoes_135 : decode cX7_planGoes 135 = .ok (.aload_n 0, 1) := dk_42 (dk_at dksX7_planGoes_5 17 rfl rfl)
theorem dX7_planGoes_136 : decode cX7_planGoes 136 = .ok (.getfield 196, 3) := dk_180 0 196 (dk_at dksX7_planGoes_5 18 rfl rfl)
theorem dX7_planGoes_139 : decode cX7_planGoes 139 = .ok (.putfield 196, 3) := dk_181 0 196 (dk_at dksX7_planGoes_5 21 rfl rfl)
theorem dX7_planGoes_142 : decode cX7_planGoes 142 = .ok (.iinc 2 1, 3) := dk_132 2 1 (dk_at dksX7_planGoes_6 0 rfl rfl)
theorem dX7_planGoes_145 : decode cX7_planGoes 145 = .ok (.goto (-124), 3) := dk_167 255 132 (dk_at dksX7_planGoes_6 3 rfl rfl)
theorem dX7_planGoes_148 : decode cX7_planGoes 148 = .ok (.return_, 1) := dk_177 (dk_at dksX7_planGoes_6 6 rfl rfl)
abbrev cX7_copies : ByteArray := prog_11_method_42_code
def yX7_copies : MethodName := ⟨RX7, "copies", "(II)V"⟩
def dkwX7_copies_1 : List UInt8 := [132, 3, 1, 167, 255, 231, 177]
abbrev dktX7_copies_1 : List UInt8 := dkwX7_copies_1 ++ []
def dkwX7_copies_0 : List UInt8 := [3, 62, 29, 16, 67, 162, 0, 25, 42, 180, 0, 7, 28, 29, 96, 42, 180, 0, 7, 27, 29, 96, 46, 79]
abbrev dktX7_copies_0 : List UInt8 := dkwX7_copies_0 ++ dktX7_copies_1
theorem dksX7_copies_0 : cX7_copies.data.toList.drop 0 = dktX7_copies_0 := by decide +kernel
theorem dksX7_copies_1 : cX7_copies.data.toList.drop 24 = dktX7_copies_1 := dk_seg dksX7_copies_0 24 rfl rfl
theorem dX7_copies_0 : decode cX7_copies 0 = .ok (.iconst 0, 1) := dk_3 (dk_at dksX7_copies_0 0 rfl rfl)
theorem dX7_copies_1 : decode cX7_copies 1 = .ok (.istore_n 3, 1) := dk_62 (dk_at dksX7_copies_0 1 rfl rfl)
theorem dX7_copies_2 : decode cX7_copies 2 = .ok (.iload_n 3, 1) := dk_29 (dk_at dksX7_copies_0 2 rfl rfl)
theorem dX7_copies_3 : decode cX7_copies 3 = .ok (.bipush 67, 2) := dk_16 67 (dk_at dksX7_copies_0 3 rfl rfl)
theorem dX7_copies_5 : decode cX7_copies 5 = .ok (.if_icmp .ge 25, 3) := dk_162 0 25 (dk_at dksX7_copies_0 5 rfl rfl)
theorem dX7_copies_8 : decode cX7_copies 8 = .ok (.aload_n 0, 1) := dk_42 (dk_at dksX7_copies_0 8 rfl rfl)
theorem dX7_copies_9 : decode cX7_copies 9 = .ok (.getfield 7, 3) := dk_180 0 7 (dk_at dksX7_copies_0 9 rfl rfl)
theorem dX7_copies_12 : decode cX7_copies 12 = .ok (.iload_n 2, 1) := dk_28 (dk_at dksX7_copies_0 12 rfl rfl)
theorem dX7_copies_13 : decode cX7_copies 13 = .ok (.iload_n 3, 1) := dk_29 (dk_at dksX7_copies_0 13 rfl rfl)
theorem dX7_copies_14 : decode cX7_copies 14 = .ok (.iadd, 1) := dk_96 (dk_at dksX7_copies_0 14 rfl rfl)
theorem dX7_copies_15 : decode cX7_copies 15 = .ok (.aload_n 0, 1) := dk_42 (dk_at dksX7_copies_0 15 rfl rfl)
theorem dX7_copies_16 : decode cX7_copies 16 = .ok (.getfield 7, 3) := dk_180 0 7 (dk_at dksX7_copies_0 16 rfl rfl)
theorem dX7_copies_19 : decode cX7_copies 19 = .ok (.iload_n 1, 1) := dk_27 (dk_at dksX7_copies_0 19 rfl rfl)
theorem dX7_copies_20 : decode cX7_copies 20 = .ok (.iload_n 3, 1) := dk_29 (dk_at dksX7_copies_0 20 rfl rfl)
theorem dX7_copies_21 : decode cX7_copies 21 = .ok (.iadd, 1) := dk_96 (dk_at dksX7_copies_0 21 rfl rfl)
theorem dX7_copies_22 : decode cX7_copies 22 = .ok (.iaload, 1) := dk_46 (dk_at dksX7_copies_0 22 rfl rfl)
theorem dX7_copies_23 : decode cX7_copies 23 = .ok (.iastore, 1) := dk_79 (dk_at dksX7_copies_0 23 rfl rfl)
theorem dX7_copies_24 : decode cX7_copies 24 = .ok (.iinc 3 1, 3) := dk_132 3 1 (dk_at dksX7_copies_1 0 rfl rfl)
theorem dX7_copies_27 : decode cX7_copies 27 = .ok (.goto (-25), 3) := dk_167 255 231 (dk_at dksX7_copies_1 3 rfl rfl)
theorem dX7_copies_30 : decode cX7_copies 30 = .ok (.return_, 1) := dk_177 (dk_at dksX7_copies_1 6 rfl rfl)
abbrev cX7_ahead : ByteArray := prog_11_method_45_code
def yX7_ahead : MethodName := ⟨RX7, "ahead", "(I)I"⟩
def dkwX7_ahead_1 : List UInt8 := [46, 172]
abbrev dktX7_ahead_1 : List UInt8 := dkwX7_ahead_1 ++ []
def dkwX7_ahead_0 : List UInt8 := [42, 27, 182, 0, 132, 154, 0, 5, 2, 172, 42, 3, 182, 0, 199, 42, 180, 0, 7, 17, 1, 27, 27, 96]
abbrev dktX7_ahead_0 : List UInt8 := dkwX7_ahead_0 ++ dktX7_ahead_1
theorem dksX7_ahead_0 : cX7_ahead.data.toList.drop 0 = dktX7_ahead_0 := by decide +kernel
theorem dksX7_ahead_1 : cX7_ahead.data.toList.drop 24 = dktX7_ahead_1 := dk_seg dksX7_ahead_0 24 rfl rfl
theorem dX7_ahead_0 : decode cX7_ahead 0 = .ok (.aload_n 0, 1) := dk_42 (dk_at dksX7_ahead_0 0 rfl rfl)
theorem dX7_ahead_1 : decode cX7_ahead 1 = .ok (.iload_n 1, 1) := dk_27 (dk_at dksX7_ahead_0 1 rfl rfl)
theorem dX7_ahead_2 : decode cX7_ahead 2 = .ok (.invokevirtual 132, 3) := dk_182 0 132 (dk_at dksX7_ahead_0 2 rfl rfl)
theorem dX7_ahead_5 : decode cX7_ahead 5 = .ok (.ifCond .ne 5, 3) := dk_154 0 5 (dk_at dksX7_ahead_0 5 rfl rfl)
theorem dX7_ahead_8 : decode cX7_ahead 8 = .ok (.iconst (-1), 1) := dk_2 (dk_at dksX7_ahead_0 8 rfl rfl)
theorem dX7_ahead_9 : decode cX7_ahead 9 = .ok (.ireturn, 1) := dk_172 (dk_at dksX7_ahead_0 9 rfl rfl)
theorem dX7_ahead_10 : decode cX7_ahead 10 = .ok (.aload_n 0, 1) := dk_42 (dk_at dksX7_ahead_0 10 rfl rfl)
theorem dX7_ahead_11 : decode cX7_ahead 11 = .ok (.iconst 0, 1) := dk_3 (dk_at dksX7_ahead_0 11 rfl rfl)
theorem dX7_ahead_12 : decode cX7_ahead 12 = .ok (.invokevirtual 199, 3) := dk_182 0 199 (dk_at dksX7_ahead_0 12 rfl rfl)
theorem dX7_ahead_15 : decode cX7_ahead 15 = .ok (.aload_n 0, 1) := dk_42 (dk_at dksX7_ahead_0 15 rfl rfl)
theorem dX7_ahead_16 : decode cX7_ahead 16 = .ok (.getfield 7, 3) := dk_180 0 7 (dk_at dksX7_ahead_0 16 rfl rfl)
theorem dX7_ahead_19 : decode cX7_ahead 19 = .ok (.sipush 283, 3) := dk_17 1 27 (dk_at dksX7_ahead_0 19 rfl rfl)
theorem dX7_ahead_22 : decode cX7_ahead 22 = .ok (.iload_n 1, 1) := dk_27 (dk_at dksX7_ahead_0 22 rfl rfl)
theorem dX7_ahead_23 : decode cX7_ahead 23 = .ok (.iadd, 1) := dk_96 (dk_at dksX7_ahead_0 23 rfl rfl)
theorem dX7_ahead_24 : decode cX7_ahead 24 = .ok (.iaload, 1) := dk_46 (dk_at dksX7_ahead_1 0 rfl rfl)
theorem dX7_ahead_25 : decode cX7_ahead 25 = .ok (.ireturn, 1) := dk_172 (dk_at dksX7_ahead_1 1 rfl rfl)
abbrev cX7_later : ByteArray := prog_11_method_46_code
def yX7_later : MethodName := ⟨RX7, "later", "(II)I"⟩
def dkwX7_later_2 : List UInt8 := [167, 255, 241, 42, 180, 0, 7, 17, 1, 27, 27, 96, 46, 172]
abbrev dktX7_later_2 : List UInt8 := dkwX7_later_2 ++ []
def dkwX7_later_1 : List UInt8 := [17, 1, 12, 182, 0, 189, 3, 62, 29, 28, 162, 0, 16, 42, 17, 1, 12, 182, 0, 186, 132, 3, 1]
abbrev dktX7_later_1 : List UInt8 := dkwX7_later_1 ++ dktX7_later_2
def dkwX7_later_0 : List UInt8 := [42, 27, 182, 0, 132, 153, 0, 15, 28, 133, 9, 20, 0, 202, 184, 0, 46, 154, 0, 5, 2, 172, 42, 3]
abbrev dktX7_later_0 : List UInt8 := dkwX7_later_0 ++ dktX7_later_1
theorem dksX7_later_0 : cX7_later.data.toList.drop 0 = dktX7_later_0 := by decide +kernel
theorem dksX7_later_1 : cX7_later.data.toList.drop 24 = dktX7_later_1 := dk_seg dksX7_later_0 24 rfl rfl
theorem dksX7_later_2 : cX7_later.data.toList.drop 47 = dktX7_later_2 := dk_seg dksX7_later_1 23 rfl rfl
theorem dX7_later_0 : decode cX7_later 0 = .ok (.aload_n 0, 1) := dk_42 (dk_at dksX7_later_0 0 rfl rfl)
theorem dX7_later_1 : decode cX7_later 1 = .ok (.iload_n 1, 1) := dk_27 (dk_at dksX7_later_0 1 rfl rfl)
theorem dX7_later_2 : decode cX7_later 2 = .ok (.invokevirtual 132, 3) := dk_182 0 132 (dk_at dksX7_later_0 2 rfl rfl)
theorem dX7_later_5 : decode cX7_later 5 = .ok (.ifCond .eq 15, 3) := dk_153 0 15 (dk_at dksX7_later_0 5 rfl rfl)
theorem dX7_later_8 : decode cX7_later 8 = .ok (.iload_n 2, 1) := dk_28 (dk_at dksX7_later_0 8 rfl rfl)
theorem dX7_later_9 : decode cX7_later 9 = .ok (.i2l, 1) := dk_133 (dk_at dksX7_later_0 9 rfl rfl)
theorem dX7_later_10 : decode cX7_later 10 = .ok (.lconst 0, 1) := dk_9 (dk_at dksX7_later_0 10 rfl rfl)
theorem dX7_later_11 : decode cX7_later 11 = .ok (.ldc2_w 202, 3) := dk_20 0 202 (dk_at dksX7_later_0 11 rfl rfl)
theorem dX7_later_14 : decode cX7_later 14 = .ok (.invokestatic 46, 3) := dk_184 0 46 (dk_at dksX7_later_0 14 rfl rfl)
theorem dX7_later_17 : decode cX7_later 17 = .ok (.ifCond .ne 5, 3) := dk_154 0 5 (dk_at dksX7_later_0 17 rfl rfl)
theorem dX7_later_20 : decode cX7_later 20 = .ok (.iconst (-1), 1) := dk_2 (dk_at dksX7_later_0 20 rfl rfl)
theorem dX7_later_21 : decode cX7_later 21 = .ok (.ireturn, 1) := dk_172 (dk_at dksX7_later_0 21 rfl rfl)
theorem dX7_later_22 : decode cX7_later 22 = .ok (.aload_n 0, 1) := dk_42 (dk_at dksX7_later_0 22 rfl rfl)
theorem dX7_later_23 : decode cX7_later 23 = .ok (.iconst 0, 1) := dk_3 (dk_at dksX7_later_0 23 rfl rfl)
theorem dX7_later_24 : decode cX7_later 24 = .ok (.sipush 268, 3) := dk_17 1 12 (dk_at dksX7_later_1 0 rfl rfl)
theorem dX7_later_27 : decode cX7_later 27 = .ok (.invokevirtual 189, 3) := dk_182 0 189 (dk_at dksX7_later_1 3 rfl rfl)
theorem dX7_later_30 : decode cX7_later 30 = .ok (.iconst 0, 1) := dk_3 (dk_at dksX7_later_1 6 rfl rfl)
theorem dX7_later_31 : decode cX7_later 31 = .ok (.istore_n 3, 1) := dk_62 (dk_at dksX7_later_1 7 rfl rfl)
theorem dX7_later_32 : decode cX7_later 32 = .ok (.iload_n 3, 1) := dk_29 (dk_at dksX7_later_1 8 rfl rfl)
theorem dX7_later_33 : decode cX7_later 33 = .ok (.iload_n 2, 1) := dk_28 (dk_at dksX7_later_1 9 rfl rfl)
theorem dX7_later_34 : decode cX7_later 34 = .ok (.if_icmp .ge 16, 3) := dk_162 0 16 (dk_at dksX7_later_1 10 rfl rfl)
theorem dX7_later_37 : decode cX7_later 37 = .ok (.aload_n 0, 1) := dk_42 (dk_at dksX7_later_1 13 rfl rfl)
theorem dX7_later_38 : decode cX7_later 38 = .ok (.sipush 268, 3) := dk_17 1 12 (dk_at dksX7_later_1 14 rfl rfl)
theorem dX7_later_41 : decode cX7_later 41 = .ok (.invokevirtual 186, 3) := dk_182 0 186 (dk_at dksX7_later_1 17 rfl rfl)
theorem dX7_later_44 : decode cX7_later 44 = .ok (.iinc 3 1, 3) := dk_132 3 1 (dk_at dksX7_later_1 20 rfl rfl)
theorem dX7_later_47 : decode cX7_later 47 = .ok (.goto (-15), 3) := dk_167 255 241 (dk_at dksX7_later_2 0 rfl rfl)
theorem dX7_later_50 : decode cX7_later 50 = .ok (.aload_n 0, 1) := dk_42 (dk_at dksX7_later_2 3 rfl rfl)
theorem dX7_later_51 : decode cX7_later 51 = .ok (.getfield 7, 3) := dk_180 0 7 (dk_at dksX7_later_2 4 rfl rfl)
theorem dX7_later_54 : decode cX7_later 54 = .ok (.sipush 283, 3) := dk_17 1 27 (dk_at dksX7_later_2 7 rfl rfl)
theorem dX7_later_57 : decode cX7_later 57 = .ok (.iload_n 1, 1) := dk_27 (dk_at dksX7_later_2 10 rfl rfl)
theorem dX7_later_58 : decode cX7_later 58 = .ok (.iadd, 1) := dk_96 (dk_at dksX7_later_2 11 rfl rfl)
theorem dX7_later_59 : decode cX7_later 59 = .ok (.iaload, 1) := dk_46 (dk_at dksX7_later_2 12 rfl rfl)
theorem dX7_later_60 : decode cX7_later 60 = .ok (.ireturn, 1) := dk_172 (dk_at dksX7_later_2 13 rfl rfl)
abbrev cX7_when : ByteArray := prog_11_method_47_code
def yX7_when : MethodName := ⟨RX7, "when", "(I)I"⟩
def dkwX7_when_2 : List UInt8 := [182, 0, 186, 132, 2, 1, 167, 255, 223, 16, 252, 172]
abbrev dktX7_when_2 : List UInt8 := dkwX7_when_2 ++ []
def dkwX7_when_1 : List UInt8 := [163, 0, 33, 42, 180, 0, 7, 17, 1, 27, 27, 96, 46, 16, 50, 160, 0, 5, 28, 172, 42, 17, 1, 12]
abbrev dktX7_when_1 : List UInt8 := dkwX7_when_1 ++ dktX7_when_2
def dkwX7_when_0 : List UInt8 := [42, 27, 182, 0, 132, 154, 0, 5, 2, 172, 42, 3, 17, 1, 12, 182, 0, 189, 3, 61, 28, 16, 60]
abbrev dktX7_when_0 : List UInt8 := dkwX7_when_0 ++ dktX7_when_1
theorem dksX7_when_0 : cX7_when.data.toList.drop 0 = dktX7_when_0 := by decide +kernel
theorem dksX7_when_1 : cX7_when.data.toList.drop 23 = dktX7_when_1 := dk_seg dksX7_when_0 23 rfl rfl
theorem dksX7_when_2 : cX7_when.data.toList.drop 47 = dktX7_when_2 := dk_seg dksX7_when_1 24 rfl rfl
theorem dX7_when_0 : decode cX7_when 0 = .ok (.aload_n 0, 1) := dk_42 (dk_at dksX7_when_0 0 rfl rfl)
theorem dX7_when_1 : decode cX7_when 1 = .ok (.iload_n 1, 1) := dk_27 (dk_at dksX7_when_0 1 rfl rfl)
theorem dX7_when_2 : decode cX7_when 2 = .ok (.invokevirtual 132, 3) := dk_182 0 132 (dk_at dksX7_when_0 2 rfl rfl)
theorem dX7_when_5 : decode cX7_when 5 = .ok (.ifCond .ne 5, 3) := dk_154 0 5 (dk_at dksX7_when_0 5 rfl rfl)
theorem dX7_when_8 : decode cX7_when 8 = .ok (.iconst (-1), 1) := dk_2 (dk_at dksX7_when_0 8 rfl rfl)
theorem dX7_when_9 : decode cX7_when 9 = .ok (.ireturn, 1) := dk_172 (dk_at dksX7_when_0 9 rfl rfl)
theorem dX7_when_10 : decode cX7_when 10 = .ok (.aload_n 0, 1) := dk_42 (dk_at dksX7_when_0 10 rfl rfl)
theorem dX7_when_11 : decode cX7_when 11 = .ok (.iconst 0, 1) := dk_3 (dk_at dksX7_when_0 11 rfl rfl)
theorem dX7_when_12 : decode cX7_when 12 = .ok (.sipush 268, 3) := dk_17 1 12 (dk_at dksX7_when_0 12 rfl rfl)
theorem dX7_when_15 : decode cX7_when 15 = .ok (.invokevirtual 189, 3) := dk_182 0 189 (dk_at dksX7_when_0 15 rfl rfl)
theorem dX7_when_18 : decode cX7_when 18 = .ok (.iconst 0, 1) := dk_3 (dk_at dksX7_when_0 18 rfl rfl)
theorem dX7_when_19 : decode cX7_when 19 = .ok (.istore_n 2, 1) := dk_61 (dk_at dksX7_when_0 19 rfl rfl)
theorem dX7_when_20 : decode cX7_when 20 = .ok (.iload_n 2, 1) := dk_28 (dk_at dksX7_when_0 20 rfl rfl)
theorem dX7_when_21 : decode cX7_when 21 = .ok (.bipush 60, 2) := dk_16 60 (dk_at dksX7_when_0 21 rfl rfl)
theorem dX7_when_23 : decode cX7_when 23 = .ok (.if_icmp .gt 33, 3) := dk_163 0 33 (dk_at dksX7_when_1 0 rfl rfl)
theorem dX7_when_26 : decode cX7_when 26 = .ok (.aload_n 0, 1) := dk_42 (dk_at dksX7_when_1 3 rfl rfl)
theorem dX7_when_27 : decode cX7_when 27 = .ok (.getfield 7, 3) := dk_180 0 7 (dk_at dksX7_when_1 4 rfl rfl)
theorem dX7_when_30 : decode cX7_when 30 = .ok (.sipush 283, 3) := dk_17 1 27 (dk_at dksX7_when_1 7 rfl rfl)
theorem dX7_when_33 : decode cX7_when 33 = .ok (.iload_n 1, 1) := dk_27 (dk_at dksX7_when_1 10 rfl rfl)
theorem dX7_when_34 : decode cX7_when 34 = .ok (.iadd, 1) := dk_96 (dk_at dksX7_when_1 11 rfl rfl)
theorem dX7_when_35 : decode cX7_when 35 = .ok (.iaload, 1) := dk_46 (dk_at dksX7_when_1 12 rfl rfl)
theorem dX7_when_36 : decode cX7_when 36 = .ok (.bipush 50, 2) := dk_16 50 (dk_at dksX7_when_1 13 rfl rfl)
theorem dX7_when_38 : decode cX7_when 38 = .ok (.if_icmp .ne 5, 3) := dk_160 0 5 (dk_at dksX7_when_1 15 rfl rfl)
theorem dX7_when_41 : decode cX7_when 41 = .ok (.iload_n 2, 1) := dk_28 (dk_at dksX7_when_1 18 rfl rfl)
theorem dX7_when_42 : decode cX7_when 42 = .ok (.ireturn, 1) := dk_172 (dk_at dksX7_when_1 19 rfl rfl)
theorem dX7_when_43 : decode cX7_when 43 = .ok (.aload_n 0, 1) := dk_42 (dk_at dksX7_when_1 20 rfl rfl)
theorem dX7_when_44 : decode cX7_when 44 = .ok (.sipush 268, 3) := dk_17 1 12 (dk_at dksX7_when_1 21 rfl rfl)
theorem dX7_when_47 : decode cX7_when 47 = .ok (.invokevirtual 186, 3) := dk_182 0 186 (dk_at dksX7_when_2 0 rfl rfl)
theorem dX7_when_50 : decode cX7_when 50 = .ok (.iinc 2 1, 3) := dk_132 2 1 (dk_at dksX7_when_2 3 rfl rfl)
theorem dX7_when_53 : decode cX7_when 53 = .ok (.goto (-33), 3) := dk_167 255 223 (dk_at dksX7_when_2 6 rfl rfl)
theorem dX7_when_56 : decode cX7_when 56 = .ok (.bipush (-4), 2) := dk_16 252 (dk_at dksX7_when_2 9 rfl rfl)
theorem dX7_when_58 : decode cX7_when 58 = .ok (.ireturn, 1) := dk_172 (dk_at dksX7_when_2 11 rfl rfl)
abbrev cX7_together : ByteArray := prog_11_method_48_code
def yX7_together : MethodName := ⟨RX7, "together", "(I)I"⟩
def dkwX7_together_3 : List UInt8 := [42, 17, 1, 12, 182, 0, 186, 132, 4, 1, 167, 255, 201, 27, 154, 0, 7, 29, 167, 0, 4, 28, 172]
abbrev dktX7_together_3 : List UInt8 := dkwX7_together_3 ++ []
def dkwX7_together_2 : List UInt8 := [28, 164, 0, 8, 21, 4, 167, 0, 4, 29, 62, 21, 5, 28, 164, 0, 8, 21, 5, 167, 0, 4, 28, 61]
abbrev dktX7_together_2 : List UInt8 := dkwX7_together_2 ++ dktX7_together_3
def dkwX7_together_1 : List UInt8 := [3, 54, 4, 21, 4, 16, 60, 163, 0, 54, 42, 17, 1, 12, 182, 0, 150, 184, 0, 204, 54, 5, 21, 5]
abbrev dktX7_together_1 : List UInt8 := dkwX7_together_1 ++ dktX7_together_2
def dkwX7_together_0 : List UInt8 := [27, 133, 9, 10, 184, 0, 46, 154, 0, 5, 2, 172, 42, 3, 17, 1, 12, 182, 0, 189, 2, 61, 3, 62]
abbrev dktX7_together_0 : List UInt8 := dkwX7_together_0 ++ dktX7_together_1
theorem dksX7_together_0 : cX7_together.data.toList.drop 0 = dktX7_together_0 := by decide +kernel
theorem dksX7_together_1 : cX7_together.data.toList.drop 24 = dktX7_together_1 := dk_seg dksX7_together_0 24 rfl rfl
theorem dksX7_together_2 : cX7_together.data.toList.drop 48 = dktX7_together_2 := dk_seg dksX7_together_1 24 rfl rfl
theorem dksX7_together_3 : cX7_together.data.toList.drop 72 = dktX7_together_3 := dk_seg dksX7_together_2 24 rfl rfl
theorem dX7_together_0 : decode cX7_together 0 = .ok (.iload_n 1, 1) := dk_27 (dk_at dksX7_together_0 0 rfl rfl)
theorem dX7_together_1 : decode cX7_together 1 = .ok (.i2l, 1) := dk_133 (dk_at dksX7_together_0 1 rfl rfl)
theorem dX7_together_2 : decode cX7_together 2 = .ok (.lconst 0, 1) := dk_9 (dk_at dksX7_together_0 2 rfl rfl)
theorem dX7_together_3 : decode cX7_together 3 = .ok (.lconst 1, 1) := dk_10 (dk_at dksX7_together_0 3 rfl rfl)
theorem dX7_together_4 : decode cX7_together 4 = .ok (.invokestatic 46, 3) := dk_184 0 46 (dk_at dksX7_together_0 4 rfl rfl)
theorem dX7_together_7 : decode cX7_together 7 = .ok (.ifCond .ne 5, 3) := dk_154 0 5 (dk_at dksX7_together_0 7 rfl rfl)
theorem dX7_together_10 : decode cX7_together 10 = .ok (.iconst (-1), 1) := dk_2 (dk_at dksX7_together_0 10 rfl rfl)
theorem dX7_together_11 : decode cX7_together 11 = .ok (.ireturn, 1) := dk_172 (dk_at dksX7_together_0 11 rfl rfl)
theorem dX7_together_12 : decode cX7_together 12 = .ok (.aload_n 0, 1) := dk_42 (dk_at dksX7_together_0 12 rfl rfl)
theorem dX7_together_13 : decode cX7_together 13 = .ok (.iconst 0, 1) := dk_3 (dk_at dksX7_together_0 13 rfl rfl)
theorem dX7_together_14 : decode cX7_together 14 = .ok (.sipush 268, 3) := dk_17 1 12 (dk_at dksX7_together_0 14 rfl rfl)
theorem dX7_together_17 : decode cX7_together 17 = .ok (.invokevirtual 189, 3) := dk_182 0 189 (dk_at dksX7_together_0 17 rfl rfl)
theorem dX7_together_20 : decode cX7_together 20 = .ok (.iconst (-1), 1) := dk_2 (dk_at dksX7_together_0 20 rfl rfl)
theorem dX7_together_21 : decode cX7_together 21 = .ok (.istore_n 2, 1) := dk_61 (dk_at dksX7_together_0 21 rfl rfl)
theorem dX7_together_22 : decode cX7_together 22 = .ok (.iconst 0, 1) := dk_3 (dk_at dksX7_together_0 22 rfl rfl)
theorem dX7_together_23 : decode cX7_together 23 = .ok (.istore_n 3, 1) := dk_62 (dk_at dksX7_together_0 23 rfl rfl)
theorem dX7_together_24 : decode cX7_together 24 = .ok (.iconst 0, 1) := dk_3 (dk_at dksX7_together_1 0 rfl rfl)
theorem dX7_together_25 : decode cX7_together 25 = .ok (.istore 4, 2) := dk_54 4 (dk_at dksX7_together_1 1 rfl rfl)
theorem dX7_together_27 : decode cX7_together 27 = .ok (.iload 4, 2) := dk_21 4 (dk_at dksX7_together_1 3 rfl rfl)
theorem dX7_together_29 : decode cX7_together 29 = .ok (.bipush 60, 2) := dk_16 60 (dk_at dksX7_together_1 5 rfl rfl)
theorem dX7_together_31 : decode cX7_together 31 = .ok (.if_icmp .gt 54, 3) := dk_163 0 54 (dk_at dksX7_together_1 7 rfl rfl)
theorem dX7_together_34 : decode cX7_together 34 = .ok (.aload_n 0, 1) := dk_42 (dk_at dksX7_together_1 10 rfl rfl)
theorem dX7_together_35 : decode cX7_together 35 = .ok (.sipush 268, 3) := dk_17 1 12 (dk_at dksX7_together_1 11 rfl rfl)
theorem dX7_together_38 : decode cX7_together 38 = .ok (.invokevirtual 150, 3) := dk_182 0 150 (dk_at dksX7_together_1 14 rfl rfl)
theorem dX7_together_41 : decode cX7_together 41 = .ok (.invokestatic 204, 3) := dk_184 0 204 (dk_at dksX7_together_1 17 rfl rfl)
theorem dX7_together_44 : decode cX7_together 44 = .ok (.istore 5, 2) := dk_54 5 (dk_at dksX7_together_1 20 rfl rfl)
theorem dX7_together_46 : decode cX7_together 46 = .ok (.iload 5, 2) := dk_21 5 (dk_at dksX7_together_1 22 rfl rfl)
theorem dX7_together_48 : decode cX7_together 48 = .ok (.iload_n 2, 1) := dk_28 (dk_at dksX7_together_2 0 rfl rfl)
theorem dX7_together_49 : decode cX7_together 49 = .ok (.if_icmp .le 8, 3) := dk_164 0 8 (dk_at dksX7_together_2 1 rfl rfl)
theorem dX7_together_52 : decode cX7_together 52 = .ok (.iload 4, 2) := dk_21 4 (dk_at dksX7_together_2 4 rfl rfl)
theorem dX7_together_54 : decode cX7_together 54 = .ok (.goto 4, 3) := dk_167 0 4 (dk_at dksX7_together_2 6 rfl rfl)
theorem dX7_together_57 : decode cX7_together 57 = .ok (.iload_n 3, 1) := dk_29 (dk_at dksX7_together_2 9 rfl rfl)
theorem dX7_together_58 : decode cX7_together 58 = .ok (.istore_n 3, 1) := dk_62 (dk_at dksX7_together_2 10 rfl rfl)
theorem dX7_together_59 : decode cX7_together 59 = .ok (.iload 5, 2) := dk_21 5 (dk_at dksX7_together_2 11 rfl rfl)
theorem dX7_together_61 : decode cX7_together 61 = .ok (.iload_n 2, 1) := dk_28 (dk_at dksX7_together_2 13 rfl rfl)
theorem dX7_together_62 : decode cX7_together 62 = .ok (.if_icmp .le 8, 3) := dk_164 0 8 (dk_at dksX7_together_2 14 rfl rfl)
theorem dX7_together_65 : decode cX7_together 65 = .ok (.iload 5, 2) := dk_21 5 (dk_at dksX7_together_2 17 rfl rfl)
theorem dX7_together_67 : decode cX7_together 67 = .ok (.goto 4, 3) := dk_167 0 4 (dk_at dksX7_together_2 19 rfl rfl)
theorem dX7_together_70 : decode cX7_together 70 = .ok (.iload_n 2, 1) := dk_28 (dk_at dksX7_together_2 22 rfl rfl)
theorem dX7_together_71 : decode cX7_together 71 = .ok (.istore_n 2, 1) := dk_61 (dk_at dksX7_together_2 23 rfl rfl)
theorem dX7_together_72 : decode cX7_together 72 = .ok (.aload_n 0, 1) := dk_42 (dk_at dksX7_together_3 0 rfl rfl)
theorem dX7_together_73 : decode cX7_together 73 = .ok (.sipush 268, 3) := dk_17 1 12 (dk_at dksX7_together_3 1 rfl rfl)
theorem dX7_together_76 : decode cX7_together 76 = .ok (.invokevirtual 186, 3) := dk_182 0 186 (dk_at dksX7_together_3 4 rfl rfl)
theorem dX7_together_79 : decode cX7_together 79 = .ok (.iinc 4 1, 3) := dk_132 4 1 (dk_at dksX7_together_3 7 rfl rfl)
theorem dX7_together_82 : decode cX7_together 82 = .ok (.goto (-55), 3) := dk_167 255 201 (dk_at dksX7_together_3 10 rfl rfl)
theorem dX7_together_85 : decode cX7_together 85 = .ok (.iload_n 1, 1) := dk_27 (dk_at dksX7_together_3 13 rfl rfl)
theorem dX7_together_86 : decode cX7_together 86 = .ok (.ifCond .ne 7, 3) := dk_154 0 7 (dk_at dksX7_together_3 14 rfl rfl)
theorem dX7_together_89 : decode cX7_together 89 = .ok (.iload_n 3, 1) := dk_29 (dk_at dksX7_together_3 17 rfl rfl)
theorem dX7_together_90 : decode cX7_together 90 = .ok (.goto 4, 3) := dk_167 0 4 (dk_at dksX7_together_3 18 rfl rfl)
theorem dX7_together_93 : decode cX7_together 93 = .ok (.iload_n 2, 1) := dk_28 (dk_at dksX7_together_3 21 rfl rfl)
theorem dX7_together_94 : decode cX7_together 94 = .ok (.ireturn, 1) := dk_172 (dk_at dksX7_together_3 22 rfl rfl)
abbrev cX7_bitsOf : ByteArray := prog_11_method_27_code
def yX7_bitsOf : MethodName := ⟨RX7, "bitsOf", "(I)I"⟩
def dkwX7_bitsOf_1 : List UInt8 := [27, 172]
abbrev dktX7_bitsOf_1 : List UInt8 := dkwX7_bitsOf_1 ++ []
def dkwX7_bitsOf_0 : List UInt8 := [3, 60, 3, 61, 28, 16, 7, 162, 0, 17, 27, 26, 28, 122, 4, 126, 96, 60, 132, 2, 1, 167, 255, 239]
abbrev dktX7_bitsOf_0 : List UInt8 := dkwX7_bitsOf_0 ++ dktX7_bitsOf_1
theorem dksX7_bitsOf_0 : cX7_bitsOf.data.toList.drop 0 = dktX7_bitsOf_0 := by decide +kernel
theorem dksX7_bitsOf_1 : cX7_bitsOf.data.toList.drop 24 = dktX7_bitsOf_1 := dk_seg dksX7_bitsOf_0 24 rfl rfl
theorem dX7_bitsOf_0 : decode cX7_bitsOf 0 = .ok (.iconst 0, 1) := dk_3 (dk_at dksX7_bitsOf_0 0 rfl rfl)
theorem dX7_bitsOf_1 : decode cX7_bitsOf 1 = .ok (.istore_n 1, 1) := dk_60 (dk_at dksX7_bitsOf_0 1 rfl rfl)
theorem dX7_bitsOf_2 : decode cX7_bitsOf 2 = .ok (.iconst 0, 1) := dk_3 (dk_at dksX7_bitsOf_0 2 rfl rfl)
theorem dX7_bitsOf_3 : decode cX7_bitsOf 3 = .ok (.istore_n 2, 1) := dk_61 (dk_at dksX7_bitsOf_0 3 rfl rfl)
theorem dX7_bitsOf_4 : decode cX7_bitsOf 4 = .ok (.iload_n 2, 1) := dk_28 (dk_at dksX7_bitsOf_0 4 rfl rfl)
theorem dX7_bitsOf_5 : decode cX7_bitsOf 5 = .ok (.bipush 7, 2) := dk_16 7 (dk_at dksX7_bitsOf_0 5 rfl rfl)
theorem dX7_bitsOf_7 : decode cX7_bitsOf 7 = .ok (.if_icmp .ge 17, 3) := dk_162 0 17 (dk_at dksX7_bitsOf_0 7 rfl rfl)
theorem dX7_bitsOf_10 : decode cX7_bitsOf 10 = .ok (.iload_n 1, 1) := dk_27 (dk_at dksX7_bitsOf_0 10 rfl rfl)
theorem dX7_bitsOf_11 : decode cX7_bitsOf 11 = .ok (.iload_n 0, 1) := dk_26 (dk_at dksX7_bitsOf_0 11 rfl rfl)
theorem dX7_bitsOf_12 : decode cX7_bitsOf 12 = .ok (.iload_n 2, 1) := dk_28 (dk_at dksX7_bitsOf_0 12 rfl rfl)
theorem dX7_bitsOf_13 : decode cX7_bitsOf 13 = .ok (.ishr, 1) := dk_122 (dk_at dksX7_bitsOf_0 13 rfl rfl)
theorem dX7_bitsOf_14 : decode cX7_bitsOf 14 = .ok (.iconst 1, 1) := dk_4 (dk_at dksX7_bitsOf_0 14 rfl rfl)
theorem dX7_bitsOf_15 : decode cX7_bitsOf 15 = .ok (.iand, 1) := dk_126 (dk_at dksX7_bitsOf_0 15 rfl rfl)
theorem dX7_bitsOf_16 : decode cX7_bitsOf 16 = .ok (.iadd, 1) := dk_96 (dk_at dksX7_bitsOf_0 16 rfl rfl)
theorem dX7_bitsOf_17 : decode cX7_bitsOf 17 = .ok (.istore_n 1, 1) := dk_60 (dk_at dksX7_bitsOf_0 17 rfl rfl)
theorem dX7_bitsOf_18 : decode cX7_bitsOf 18 = .ok (.iinc 2 1, 3) := dk_132 2 1 (dk_at dksX7_bitsOf_0 18 rfl rfl)
theorem dX7_bitsOf_21 : decode cX7_bitsOf 21 = .ok (.goto (-17), 3) := dk_167 255 239 (dk_at dksX7_bitsOf_0 21 rfl rfl)
theorem dX7_bitsOf_24 : decode cX7_bitsOf 24 = .ok (.iload_n 1, 1) := dk_27 (dk_at dksX7_bitsOf_1 0 rfl rfl)
theorem dX7_bitsOf_25 : decode cX7_bitsOf 25 = .ok (.ireturn, 1) := dk_172 (dk_at dksX7_bitsOf_1 1 rfl rfl)
abbrev cX7_donor : ByteArray := prog_11_method_49_code
def yX7_donor : MethodName := ⟨RX7, "donor", "(II)I"⟩
def dkwX7_donor_4 : List UInt8 := [167, 255, 190, 21, 4, 16, 252, 159, 0, 7, 28, 154, 0, 8, 21, 4, 167, 0, 4, 29, 172]
abbrev dktX7_donor_4 : List UInt8 := dkwX7_donor_4 ++ []
def dkwX7_donor_3 : List UInt8 := [167, 0, 5, 21, 4, 54, 4, 21, 6, 29, 164, 0, 8, 21, 6, 167, 0, 4, 29, 62, 132, 5, 1]
abbrev dktX7_donor_3 : List UInt8 := dkwX7_donor_3 ++ dktX7_donor_4
def dkwX7_donor_2 : List UInt8 := [42, 21, 5, 27, 42, 21, 5, 27, 182, 0, 174, 182, 0, 146, 54, 6, 21, 6, 29, 164, 0, 8, 21, 5]
abbrev dktX7_donor_2 : List UInt8 := dkwX7_donor_2 ++ dktX7_donor_3
def dkwX7_donor_1 : List UInt8 := [54, 4, 3, 54, 5, 21, 5, 42, 180, 0, 126, 162, 0, 63, 21, 5, 27, 160, 0, 7, 3, 167, 0, 17]
abbrev dktX7_donor_1 : List UInt8 := dkwX7_donor_1 ++ dktX7_donor_2
def dkwX7_donor_0 : List UInt8 := [42, 27, 182, 0, 132, 153, 0, 13, 28, 133, 9, 10, 184, 0, 46, 154, 0, 5, 2, 172, 3, 62, 16, 252]
abbrev dktX7_donor_0 : List UInt8 := dkwX7_donor_0 ++ dktX7_donor_1
theorem dksX7_donor_0 : cX7_donor.data.toList.drop 0 = dktX7_donor_0 := by decide +kernel
theorem dksX7_donor_1 : cX7_donor.data.toList.drop 24 = dktX7_donor_1 := dk_seg dksX7_donor_0 24 rfl rfl
theorem dksX7_donor_2 : cX7_donor.data.toList.drop 48 = dktX7_donor_2 := dk_seg dksX7_donor_1 24 rfl rfl
theorem dksX7_donor_3 : cX7_donor.data.toList.drop 72 = dktX7_donor_3 := dk_seg dksX7_donor_2 24 rfl rfl
theorem dksX7_donor_4 : cX7_donor.data.toList.drop 95 = dktX7_donor_4 := dk_seg dksX7_donor_3 23 rfl rfl
theorem dX7_donor_0 : decode cX7_donor 0 = .ok (.aload_n 0, 1) := dk_42 (dk_at dksX7_donor_0 0 rfl rfl)
theorem dX7_donor_1 : decode cX7_donor 1 = .ok (.iload_n 1, 1) := dk_27 (dk_at dksX7_donor_0 1 rfl rfl)
theorem dX7_donor_2 : decode cX7_donor 2 = .ok (.invokevirtual 132, 3) := dk_182 0 132 (dk_at dksX7_donor_0 2 rfl rfl)
theorem dX7_donor_5 : decode cX7_donor 5 = .ok (.ifCond .eq 13, 3) := dk_153 0 13 (dk_at dksX7_donor_0 5 rfl rfl)
theorem dX7_donor_8 : decode cX7_donor 8 = .ok (.iload_n 2, 1) := dk_28 (dk_at dksX7_donor_0 8 rfl rfl)
theorem dX7_donor_9 : decode cX7_donor 9 = .ok (.i2l, 1) := dk_133 (dk_at dksX7_donor_0 9 rfl rfl)
theorem dX7_donor_10 : decode cX7_donor 10 = .ok (.lconst 0, 1) := dk_9 (dk_at dksX7_donor_0 10 rfl rfl)
theorem dX7_donor_11 : decode cX7_donor 11 = .ok (.lconst 1, 1) := dk_10 (dk_at dksX7_donor_0 11 rfl rfl)
theorem dX7_donor_12 : decode cX7_donor 12 = .ok (.invokestatic 46, 3) := dk_184 0 46 (dk_at dksX7_donor_0 12 rfl rfl)
theorem dX7_donor_15 : decode cX7_donor 15 = .ok (.ifCond .ne 5, 3) := dk_154 0 5 (dk_at dksX7_donor_0 15 rfl rfl)
theorem dX7_donor_18 : decode cX7_donor 18 = .ok (.iconst (-1), 1) := dk_2 (dk_at dksX7_donor_0 18 rfl rfl)
theorem dX7_donor_19 : decode cX7_donor 19 = .ok (.ireturn, 1) := dk_172 (dk_at dksX7_donor_0 19 rfl rfl)
theorem dX7_donor_20 : decode cX7_donor 20 = .ok (.iconst 0, 1) := dk_3 (dk_at dksX7_donor_0 20 rfl rfl)
theorem dX7_donor_21 : decode cX7_donor 21 = .ok (.istore_n 3, 1) := dk_62 (dk_at dksX7_donor_0 21 rfl rfl)
theorem dX7_donor_22 : decode cX7_donor 22 = .ok (.bipush (-4), 2) := dk_16 252 (dk_at dksX7_donor_0 22 rfl rfl)
theorem dX7_donor_24 : decode cX7_donor 24 = .ok (.istore 4, 2) := dk_54 4 (dk_at dksX7_donor_1 0 rfl rfl)
theorem dX7_donor_26 : decode cX7_donor 26 = .ok (.iconst 0, 1) := dk_3 (dk_at dksX7_donor_1 2 rfl rfl)
theorem dX7_donor_27 : decode cX7_donor 27 = .ok (.istore 5, 2) := dk_54 5 (dk_at dksX7_donor_1 3 rfl rfl)
theorem dX7_donor_29 : decode cX7_donor 29 = .ok (.iload 5, 2) := dk_21 5 (dk_at dksX7_donor_1 5 rfl rfl)
theorem dX7_donor_31 : decode cX7_donor 31 = .ok (.aload_n 0, 1) := dk_42 (dk_at dksX7_donor_1 7 rfl rfl)
theorem dX7_donor_32 : decode cX7_donor 32 = .ok (.getfield 126, 3) := dk_180 0 126 (dk_at dksX7_donor_1 8 rfl rfl)
theorem dX7_donor_35 : decode cX7_donor 35 = .ok (.if_icmp .ge 63, 3) := dk_162 0 63 (dk_at dksX7_donor_1 11 rfl rfl)
theorem dX7_donor_38 : decode cX7_donor 38 = .ok (.iload 5, 2) := dk_21 5 (dk_at dksX7_donor_1 14 rfl rfl)
theorem dX7_donor_40 : decode cX7_donor 40 = .ok (.iload_n 1, 1) := dk_27 (dk_at dksX7_donor_1 16 rfl rfl)
theorem dX7_donor_41 : decode cX7_donor 41 = .ok (.if_icmp .ne 7, 3) := dk_160 0 7 (dk_at dksX7_donor_1 17 rfl rfl)
theorem dX7_donor_44 : decode cX7_donor 44 = .ok (.iconst 0, 1) := dk_3 (dk_at dksX7_donor_1 20 rfl rfl)
theorem dX7_donor_45 : decode cX7_donor 45 = .ok (.goto 17, 3) := dk_167 0 17 (dk_at dksX7_donor_1 21 rfl rfl)
theorem dX7_donor_48 : decode cX7_donor 48 = .ok (.aload_n 0, 1) := dk_42 (dk_at dksX7_donor_2 0 rfl rfl)
theorem dX7_donor_49 : decode cX7_donor 49 = .ok (.iload 5, 2) := dk_21 5 (dk_at dksX7_donor_2 1 rfl rfl)
theorem dX7_donor_51 : decode cX7_donor 51 = .ok (.iload_n 1, 1) := dk_27 (dk_at dksX7_donor_2 3 rfl rfl)
theorem dX7_donor_52 : decode cX7_donor 52 = .ok (.aload_n 0, 1) := dk_42 (dk_at dksX7_donor_2 4 rfl rfl)
theorem dX7_donor_53 : decode cX7_donor 53 = .ok (.iload 5, 2) := dk_21 5 (dk_at dksX7_donor_2 5 rfl rfl)
theorem dX7_donor_55 : decode cX7_donor 55 = .ok (.iload_n 1, 1) := dk_27 (dk_at dksX7_donor_2 7 rfl rfl)
theorem dX7_donor_56 : decode cX7_donor 56 = .ok (.invokevirtual 174, 3) := dk_182 0 174 (dk_at dksX7_donor_2 8 rfl rfl)
theorem dX7_donor_59 : decode cX7_donor 59 = .ok (.invokevirtual 146, 3) := dk_182 0 146 (dk_at dksX7_donor_2 11 rfl rfl)
theorem dX7_donor_62 : decode cX7_donor 62 = .ok (.istore 6, 2) := dk_54 6 (dk_at dksX7_donor_2 14 rfl rfl)
theorem dX7_donor_64 : decode cX7_donor 64 = .ok (.iload 6, 2) := dk_21 6 (dk_at dksX7_donor_2 16 rfl rfl)
theorem dX7_donor_66 : decode cX7_donor 66 = .ok (.iload_n 3, 1) := dk_29 (dk_at dksX7_donor_2 18 rfl rfl)
theorem dX7_donor_67 : decode cX7_donor 67 = .ok (.if_icmp .le 8, 3) := dk_164 0 8 (dk_at dksX7_donor_2 19 rfl rfl)
theorem dX7_donor_70 : decode cX7_donor 70 = .ok (.iload 5, 2) := dk_21 5 (dk_at dksX7_donor_2 22 rfl rfl)
theorem dX7_donor_72 : decode cX7_donor 72 = .ok (.goto 5, 3) := dk_167 0 5 (dk_at dksX7_donor_3 0 rfl rfl)
theorem dX7_donor_75 : decode cX7_donor 75 = .ok (.iload 4, 2) := dk_21 4 (dk_at dksX7_donor_3 3 rfl rfl)
theorem dX7_donor_77 : decode cX7_donor 77 = .ok (.istore 4, 2) := dk_54 4 (dk_at dksX7_donor_3 5 rfl rfl)
theorem dX7_donor_79 : decode cX7_donor 79 = .ok (.iload 6, 2) := dk_21 6 (dk_at dksX7_donor_3 7 rfl rfl)
theorem dX7_donor_81 : decode cX7_donor 81 = .ok (.iload_n 3, 1) := dk_29 (dk_at dksX7_donor_3 9 rfl rfl)
theorem dX7_donor_82 : decode cX7_donor 82 = .ok (.if_icmp .le 8, 3) := dk_164 0 8 (dk_at dksX7_donor_3 10 rfl rfl)
theorem dX7_donor_85 : decode cX7_donor 85 = .ok (.iload 6, 2) := dk_21 6 (dk_at dksX7_donor_3 13 rfl rfl)
theorem dX7_donor_87 : decode cX7_donor 87 = .ok (.goto 4, 3) := dk_167 0 4 (dk_at dksX7_donor_3 15 rfl rfl)
theorem dX7_donor_90 : decode cX7_donor 90 = .ok (.iload_n 3, 1) := dk_29 (dk_at dksX7_donor_3 18 rfl rfl)
theorem dX7_donor_91 : decode cX7_donor 91 = .ok (.istore_n 3, 1) := dk_62 (dk_at dksX7_donor_3 19 rfl rfl)
theorem dX7_donor_92 : decode cX7_donor 92 = .ok (.iinc 5 1, 3) := dk_132 5 1 (dk_at dksX7_donor_3 20 rfl rfl)
theorem dX7_donor_95 : decode cX7_donor 95 = .ok (.goto (-66), 3) := dk_167 255 190 (dk_at dksX7_donor_4 0 rfl rfl)
theorem dX7_donor_98 : decode cX7_donor 98 = .ok (.iload 4, 2) := dk_21 4 (dk_at dksX7_donor_4 3 rfl rfl)
theorem dX7_donor_100 : decode cX7_donor 100 = .ok (.bipush (-4), 2) := dk_16 252 (dk_at dksX7_donor_4 5 rfl rfl)
theorem dX7_donor_102 : decode cX7_donor 102 = .ok (.if_icmp .eq 7, 3) := dk_159 0 7 (dk_at dksX7_donor_4 7 rfl rfl)
theorem dX7_donor_105 : decode cX7_donor 105 = .ok (.iload_n 2, 1) := dk_28 (dk_at dksX7_donor_4 10 rfl rfl)
theorem dX7_donor_106 : decode cX7_donor 106 = .ok (.ifCond .ne 8, 3) := dk_154 0 8 (dk_at dksX7_donor_4 11 rfl rfl)
theorem dX7_donor_109 : decode cX7_donor 109 = .ok (.iload 4, 2) := dk_21 4 (dk_at dksX7_donor_4 14 rfl rfl)
theorem dX7_donor_111 : decode cX7_donor 111 = .ok (.goto 4, 3) := dk_167 0 4 (dk_at dksX7_donor_4 16 rfl rfl)
theorem dX7_donor_114 : decode cX7_donor 114 = .ok (.iload_n 3, 1) := dk_29 (dk_at dksX7_donor_4 19 rfl rfl)
theorem dX7_donor_115 : decode cX7_donor 115 = .ok (.ireturn, 1) := dk_172 (dk_at dksX7_donor_4 20 rfl rfl)
abbrev cX7_best : ByteArray := prog_11_method_53_code
def yX7_best : MethodName := ⟨RX7, "best", "(II)I"⟩
def dkwX7_best_5 : List UInt8 := [16, 10, 160, 0, 10, 42, 180, 0, 216, 167, 0, 7, 42, 180, 0, 219, 172]
abbrev dktX7_best_5 : List UInt8 := dkwX7_best_5 ++ []
def dkwX7_best_4 : List UInt8 := [160, 0, 10, 42, 180, 0, 210, 167, 0, 32, 28, 5, 160, 0, 10, 42, 180, 0, 213, 167, 0, 20, 28]
abbrev dktX7_best_4 : List UInt8 := dkwX7_best_4 ++ dktX7_best_5
def dkwX7_best_3 : List UInt8 := [182, 0, 233, 132, 3, 1, 167, 255, 243, 28, 154, 0, 10, 42, 180, 0, 207, 167, 0, 44, 28, 4]
abbrev dktX7_best_3 : List UInt8 := dkwX7_best_3 ++ dktX7_best_4
def dkwX7_best_2 : List UInt8 := [17, 1, 12, 182, 0, 189, 42, 3, 16, 252, 16, 252, 182, 0, 225, 4, 62, 29, 27, 163, 0, 14, 42, 29]
abbrev dktX7_best_2 : List UInt8 := dkwX7_best_2 ++ dktX7_best_3
def dkwX7_best_1 : List UInt8 := [28, 133, 20, 0, 229, 20, 0, 231, 184, 0, 46, 154, 0, 5, 2, 172, 42, 2, 181, 0, 207, 42, 3]
abbrev dktX7_best_1 : List UInt8 := dkwX7_best_1 ++ dktX7_best_2
def dkwX7_best_0 : List UInt8 := [27, 133, 9, 20, 0, 158, 184, 0, 46, 153, 0, 29, 28, 133, 9, 20, 0, 158, 184, 0, 46, 154, 0, 19]
abbrev dktX7_best_0 : List UInt8 := dkwX7_best_0 ++ dktX7_best_1
theorem dksX7_best_0 : cX7_best.data.toList.drop 0 = dktX7_best_0 := by decide +kernel
theorem dksX7_best_1 : cX7_best.data.toList.drop 24 = dktX7_best_1 := dk_seg dksX7_best_0 24 rfl rfl
theorem dksX7_best_2 : cX7_best.data.toList.drop 47 = dktX7_best_2 := dk_seg dksX7_best_1 23 rfl rfl
theorem dksX7_best_3 : cX7_best.data.toList.drop 71 = dktX7_best_3 := dk_seg dksX7_best_2 24 rfl rfl
theorem dksX7_best_4 : cX7_best.data.toList.drop 93 = dktX7_best_4 := dk_seg dksX7_best_3 22 rfl rfl
theorem dksX7_best_5 : cX7_best.data.toList.drop 116 = dktX7_best_5 := dk_seg dksX7_best_4 23 rfl rfl
theorem dX7_best_0 : decode cX7_best 0 = .ok (.iload_n 1, 1) := dk_27 (dk_at dksX7_best_0 0 rfl rfl)
theorem dX7_best_1 : decode cX7_best 1 = .ok (.i2l, 1) := dk_133 (dk_at dksX7_best_0 1 rfl rfl)
theorem dX7_best_2 : decode cX7_best 2 = .ok (.lconst 0, 1) := dk_9 (dk_at dksX7_best_0 2 rfl rfl)
theorem dX7_best_3 : decode cX7_best 3 = .ok (.ldc2_w 158, 3) := dk_20 0 158 (dk_at dksX7_best_0 3 rfl rfl)
theorem dX7_best_6 : decode cX7_best 6 = .ok (.invokestatic 46, 3) := dk_184 0 46 (dk_at dksX7_best_0 6 rfl rfl)
theorem dX7_best_9 : decode cX7_best 9 = .ok (.ifCond .eq 29, 3) := dk_153 0 29 (dk_at dksX7_best_0 9 rfl rfl)
theorem dX7_best_12 : decode cX7_best 12 = .ok (.iload_n 2, 1) := dk_28 (dk_at dksX7_best_0 12 rfl rfl)
theorem dX7_best_13 : decode cX7_best 13 = .ok (.i2l, 1) := dk_133 (dk_at dksX7_best_0 13 rfl rfl)
theorem dX7_best_14 : decode cX7_best 14 = .ok (.lconst 0, 1) := dk_9 (dk_at dksX7_best_0 14 rfl rfl)
theorem dX7_best_15 : decode cX7_best 15 = .ok (.ldc2_w 158, 3) := dk_20 0 158 (dk_at dksX7_best_0 15 rfl rfl)
theorem dX7_best_18 : decode cX7_best 18 = .ok (.invokestatic 46, 3) := dk_184 0 46 (dk_at dksX7_best_0 18 rfl rfl)
theorem dX7_best_21 : decode cX7_best 21 = .ok (.ifCond .ne 19, 3) := dk_154 0 19 (dk_at dksX7_best_0 21 rfl rfl)
theorem dX7_best_24 : decode cX7_best 24 = .ok (.iload_n 2, 1) := dk_28 (dk_at dksX7_best_1 0 rfl rfl)
theorem dX7_best_25 : decode cX7_best 25 = .ok (.i2l, 1) := dk_133 (dk_at dksX7_best_1 1 rfl rfl)
theorem dX7_best_26 : decode cX7_best 26 = .ok (.ldc2_w 229, 3) := dk_20 0 229 (dk_at dksX7_best_1 2 rfl rfl)
theorem dX7_best_29 : decode cX7_best 29 = .ok (.ldc2_w 231, 3) := dk_20 0 231 (dk_at dksX7_best_1 5 rfl rfl)
theorem dX7_best_32 : decode cX7_best 32 = .ok (.invokestatic 46, 3) := dk_184 0 46 (dk_at dksX7_best_1 8 rfl rfl)
theorem dX7_best_35 : decode cX7_best 35 = .ok (.ifCond .ne 5, 3) := dk_154 0 5 (dk_at dksX7_best_1 11 rfl rfl)
theorem dX7_best_38 : decode cX7_best 38 = .ok (.iconst (-1), 1) := dk_2 (dk_at dksX7_best_1 14 rfl rfl)
theorem dX7_best_39 : decode cX7_best 39 = .ok (.ireturn, 1) := dk_172 (dk_at dksX7_best_1 15 rfl rfl)
theorem dX7_best_40 : decode cX7_best 40 = .ok (.aload_n 0, 1) := dk_42 (dk_at dksX7_best_1 16 rfl rfl)
theorem dX7_best_41 : decode cX7_best 41 = .ok (.iconst (-1), 1) := dk_2 (dk_at dksX7_best_1 17 rfl rfl)
theorem dX7_best_42 : decode cX7_best 42 = .ok (.putfield 207, 3) := dk_181 0 207 (dk_at dksX7_best_1 18 rfl rfl)
theorem dX7_best_45 : decode cX7_best 45 = .ok (.aload_n 0, 1) := dk_42 (dk_at dksX7_best_1 21 rfl rfl)
theorem dX7_best_46 : decode cX7_best 46 = .ok (.iconst 0, 1) := dk_3 (dk_at dksX7_best_1 22 rfl rfl)
theorem dX7_best_47 : decode cX7_best 47 = .ok (.sipush 268, 3) := dk_17 1 12 (dk_at dksX7_best_2 0 rfl rfl)
theorem dX7_best_50 : decode cX7_best 50 = .ok (.invokevirtual 189, 3) := dk_182 0 189 (dk_at dksX7_best_2 3 rfl rfl)
theorem dX7_best_53 : decode cX7_best 53 = .ok (.aload_n 0, 1) := dk_42 (dk_at dksX7_best_2 6 rfl rfl)
theorem dX7_best_54 : decode cX7_best 54 = .ok (.iconst 0, 1) := dk_3 (dk_at dksX7_best_2 7 rfl rfl)
theorem dX7_best_55 : decode cX7_best 55 = .ok (.bipush (-4), 2) := dk_16 252 (dk_at dksX7_best_2 8 rfl rfl)
theorem dX7_best_57 : decode cX7_best 57 = .ok (.bipush (-4), 2) := dk_16 252 (dk_at dksX7_best_2 10 rfl rfl)
theorem dX7_best_59 : decode cX7_best 59 = .ok (.invokevirtual 225, 3) := dk_182 0 225 (dk_at dksX7_best_2 12 rfl rfl)
theorem dX7_best_62 : decode cX7_best 62 = .ok (.iconst 1, 1) := dk_4 (dk_at dksX7_best_2 15 rfl rfl)
theorem dX7_best_63 : decode cX7_best 63 = .ok (.istore_n 3, 1) := dk_62 (dk_at dksX7_best_2 16 rfl rfl)
theorem dX7_best_64 : decode cX7_best 64 = .ok (.iload_n 3, 1) := dk_29 (dk_at dksX7_best_2 17 rfl rfl)
theorem dX7_best_65 : decode cX7_best 65 = .ok (.iload_n 1, 1) := dk_27 (dk_at dksX7_best_2 18 rfl rfl)
theorem dX7_best_66 : decode cX7_best 66 = .ok (.if_icmp .gt 14, 3) := dk_163 0 14 (dk_at dksX7_best_2 19 rfl rfl)
theorem dX7_best_69 : decode cX7_best 69 = .ok (.aload_n 0, 1) := dk_42 (dk_at dksX7_best_2 22 rfl rfl)
theorem dX7_best_70 : decode cX7_best 70 = .ok (.iload_n 3, 1) := dk_29 (dk_at dksX7_best_2 23 rfl rfl)
theorem dX7_best_71 : decode cX7_best 71 = .ok (.invokevirtual 233, 3) := dk_182 0 233 (dk_at dksX7_best_3 0 rfl rfl)
theorem dX7_best_74 : decode cX7_best 74 = .ok (.iinc 3 1, 3) := dk_132 3 1 (dk_at dksX7_best_3 3 rfl rfl)
theorem dX7_best_77 : decode cX7_best 77 = .ok (.goto (-13), 3) := dk_167 255 243 (dk_at dksX7_best_3 6 rfl rfl)
theorem dX7_best_80 : decode cX7_best 80 = .ok (.iload_n 2, 1) := dk_28 (dk_at dksX7_best_3 9 rfl rfl)
theorem dX7_best_81 : decode cX7_best 81 = .ok (.ifCond .ne 10, 3) := dk_154 0 10 (dk_at dksX7_best_3 10 rfl rfl)
theorem dX7_best_84 : decode cX7_best 84 = .ok (.aload_n 0, 1) := dk_42 (dk_at dksX7_best_3 13 rfl rfl)
theorem dX7_best_85 : decode cX7_best 85 = .ok (.getfield 207, 3) := dk_180 0 207 (dk_at dksX7_best_3 14 rfl rfl)
theorem dX7_best_88 : decode cX7_best 88 = .ok (.goto 44, 3) := dk_167 0 44 (dk_at dksX7_best_3 17 rfl rfl)
theorem dX7_best_91 : decode cX7_best 91 = .ok (.iload_n 2, 1) := dk_28 (dk_at dksX7_best_3 20 rfl rfl)
theorem dX7_best_92 : decode cX7_best 92 = .ok (.iconst 1, 1) := dk_4 (dk_at dksX7_best_3 21 rfl rfl)
theorem dX7_best_93 : decode cX7_best 93 = .ok (.if_icmp .ne 10, 3) := dk_160 0 10 (dk_at dksX7_best_4 0 rfl rfl)
theorem dX7_best_96 : decode cX7_best 96 = .ok (.aload_n 0, 1) := dk_42 (dk_at dksX7_best_4 3 rfl rfl)
theorem dX7_best_97 : decode cX7_best 97 = .ok (.getfield 210, 3) := dk_180 0 210 (dk_at dksX7_best_4 4 rfl rfl)
theorem dX7_best_100 : decode cX7_best 100 = .ok (.goto 32, 3) := dk_167 0 32 (dk_at dksX7_best_4 7 rfl rfl)
theorem dX7_best_103 : decode cX7_best 103 = .ok (.iload_n 2, 1) := dk_28 (dk_at dksX7_best_4 10 rfl rfl)
theorem dX7_best_104 : decode cX7_best 104 = .ok (.iconst 2, 1) := dk_5 (dk_at dksX7_best_4 11 rfl rfl)
theorem dX7_best_105 : decode cX7_best 105 = .ok (.if_icmp .ne 10, 3) := dk_160 0 10 (dk_at dksX7_best_4 12 rfl rfl)
theorem dX7_best_108 : decode cX7_best 108 = .ok (.aload_n 0, 1) := dk_42 (dk_at dksX7_best_4 15 rfl rfl)
theorem dX7_best_109 : decode cX7_best 109 = .ok (.getfield 213, 3) := dk_180 0 213 (dk_at dksX7_best_4 16 rfl rfl)
theorem dX7_best_112 : decode cX7_best 112 = .ok (.goto 20, 3) := dk_167 0 20 (dk_at dksX7_best_4 19 rfl rfl)
theorem dX7_best_115 : decode cX7_best 115 = .ok (.iload_n 2, 1) := dk_28 (dk_at dksX7_best_4 22 rfl rfl)
theorem dX7_best_116 : decode cX7_best 116 = .ok (.bipush 10, 2) := dk_16 10 (dk_at dksX7_best_5 0 rfl rfl)
theorem dX7_best_118 : decode cX7_best 118 = .ok (.if_icmp .ne 10, 3) := dk_160 0 10 (dk_at dksX7_best_5 2 rfl rfl)
theorem dX7_best_121 : decode cX7_best 121 = .ok (.aload_n 0, 1) := dk_42 (dk_at dksX7_best_5 5 rfl rfl)
theorem dX7_best_122 : decode cX7_best 122 = .ok (.getfield 216, 3) := dk_180 0 216 (dk_at dksX7_best_5 6 rfl rfl)
theorem dX7_best_125 : decode cX7_best 125 = .ok (.goto 7, 3) := dk_167 0 7 (dk_at dksX7_best_5 9 rfl rfl)
theorem dX7_best_128 : decode cX7_best 128 = .ok (.aload_n 0, 1) := dk_42 (dk_at dksX7_best_5 12 rfl rfl)
theorem dX7_best_129 : decode cX7_best 129 = .ok (.getfield 219, 3) := dk_180 0 219 (dk_at dksX7_best_5 13 rfl rfl)
theorem dX7_best_132 : decode cX7_best 132 = .ok (.ireturn, 1) := dk_172 (dk_at dksX7_best_5 16 rfl rfl)
abbrev cX7_compares : ByteArray := prog_11_method_51_code
def yX7_compares : MethodName := ⟨RX7, "compares", "(III)V"⟩
def dkwX7_compares_6 : List UInt8 := [21, 6, 153, 0, 7, 27, 167, 0, 7, 42, 180, 0, 210, 181, 0, 210, 177]
abbrev dktX7_compares_6 : List UInt8 := dkwX7_compares_6 ++ []
def dkwX7_compares_5 : List UInt8 := [180, 0, 216, 181, 0, 216, 42, 21, 6, 153, 0, 7, 29, 167, 0, 7, 42, 180, 0, 219, 181, 0, 219, 42]
abbrev dktX7_compares_5 : List UInt8 := dkwX7_compares_5 ++ dktX7_compares_6
def dkwX7_compares_4 : List UInt8 := [21, 5, 167, 0, 7, 42, 180, 0, 213, 181, 0, 213, 42, 21, 6, 153, 0, 7, 28, 167, 0, 7, 42]
abbrev dktX7_compares_4 : List UInt8 := dkwX7_compares_4 ++ dktX7_compares_5
def dkwX7_compares_3 : List UInt8 := [42, 21, 6, 153, 0, 8, 21, 4, 167, 0, 7, 42, 180, 0, 207, 181, 0, 207, 42, 21, 6, 153, 0, 8]
abbrev dktX7_compares_3 : List UInt8 := dkwX7_compares_3 ++ dktX7_compares_4
def dkwX7_compares_2 : List UInt8 := [27, 42, 180, 0, 210, 160, 0, 16, 21, 5, 42, 180, 0, 213, 162, 0, 7, 4, 167, 0, 4, 3, 54, 6]
abbrev dktX7_compares_2 : List UInt8 := dkwX7_compares_2 ++ dktX7_compares_3
def dkwX7_compares_1 : List UInt8 := [16, 22, 46, 100, 54, 5, 21, 4, 42, 180, 0, 207, 163, 0, 29, 21, 4, 42, 180, 0, 207, 160, 0, 24]
abbrev dktX7_compares_1 : List UInt8 := dkwX7_compares_1 ++ dktX7_compares_2
def dkwX7_compares_0 : List UInt8 := [42, 17, 1, 12, 182, 0, 150, 184, 0, 204, 54, 4, 42, 180, 0, 7, 17, 1, 34, 46, 42, 180, 0, 7]
abbrev dktX7_compares_0 : List UInt8 := dkwX7_compares_0 ++ dktX7_compares_1
theorem dksX7_compares_0 : cX7_compares.data.toList.drop 0 = dktX7_compares_0 := by decide +kernel
theorem dksX7_compares_1 : cX7_compares.data.toList.drop 24 = dktX7_compares_1 := dk_seg dksX7_compares_0 24 rfl rfl
theorem dksX7_compares_2 : cX7_compares.data.toList.drop 48 = dktX7_compares_2 := dk_seg dksX7_compares_1 24 rfl rfl
theorem dksX7_compares_3 : cX7_compares.data.toList.drop 72 = dktX7_compares_3 := dk_seg dksX7_compares_2 24 rfl rfl
theorem dksX7_compares_4 : cX7_compares.data.toList.drop 96 = dktX7_compares_4 := dk_seg dksX7_compares_3 24 rfl rfl
theorem dksX7_compares_5 : cX7_compares.data.toList.drop 119 = dktX7_compares_5 := dk_seg dksX7_compares_4 23 rfl rfl
theorem dksX7_compares_6 : cX7_compares.data.toList.drop 143 = dktX7_compares_6 := dk_seg dksX7_compares_5 24 rfl rfl
theorem dX7_compares_0 : decode cX7_compares 0 = .ok (.aload_n 0, 1) := dk_42 (dk_at dksX7_compares_0 0 rfl rfl)
theorem dX7_compares_1 : decode cX7_compares 1 = .ok (.sipush 268, 3) := dk_17 1 12 (dk_at dksX7_compares_0 1 rfl rfl)
theorem dX7_compares_4 : decode cX7_compares 4 = .ok (.invokevirtual 150, 3) := dk_182 0 150 (dk_at dksX7_compares_0 4 rfl rfl)
theorem dX7_compares_7 : decode cX7_compares 7 = .ok (.invokestatic 204, 3) := dk_184 0 204 (dk_at dksX7_compares_0 7 rfl rfl)
theorem dX7_compares_10 : decode cX7_compares 10 = .ok (.istore 4, 2) := dk_54 4 (dk_at dksX7_compares_0 10 rfl rfl)
theorem dX7_compares_12 : decode cX7_compares 12 = .ok (.aload_n 0, 1) := dk_42 (dk_at dksX7_compares_0 12 rfl rfl)
theorem dX7_compares_13 : decode cX7_compares 13 = .ok (.getfield 7, 3) := dk_180 0 7 (dk_at dksX7_compares_0 13 rfl rfl)
theorem dX7_compares_16 : decode cX7_compares 16 = .ok (.sipush 290, 3) := dk_17 1 34 (dk_at dksX7_compares_0 16 rfl rfl)
theorem dX7_compares_19 : decode cX7_compares 19 = .ok (.iaload, 1) := dk_46 (dk_at dksX7_compares_0 19 rfl rfl)
theorem dX7_compares_20 : decode cX7_compares 20 = .ok (.aload_n 0, 1) := dk_42 (dk_at dksX7_compares_0 20 rfl rfl)
theorem dX7_compares_21 : decode cX7_compares 21 = .ok (.getfield 7, 3) := dk_180 0 7 (dk_at dksX7_compares_0 21 rfl rfl)
theorem dX7_compares_24 : decode cX7_compares 24 = .ok (.bipush 22, 2) := dk_16 22 (dk_at dksX7_compares_1 0 rfl rfl)
theorem dX7_compares_26 : decode cX7_compares 26 = .ok (.iaload, 1) := dk_46 (dk_at dksX7_compares_1 2 rfl rfl)
theorem dX7_compares_27 : decode cX7_compares 27 = .ok (.isub, 1) := dk_100 (dk_at dksX7_compares_1 3 rfl rfl)
theorem dX7_compares_28 : decode cX7_compares 28 = .ok (.istore 5, 2) := dk_54 5 (dk_at dksX7_compares_1 4 rfl rfl)
theorem dX7_compares_30 : decode cX7_compares 30 = .ok (.iload 4, 2) := dk_21 4 (dk_at dksX7_compares_1 6 rfl rfl)
theorem dX7_compares_32 : decode cX7_compares 32 = .ok (.aload_n 0, 1) := dk_42 (dk_at dksX7_compares_1 8 rfl rfl)
theorem dX7_compares_33 : decode cX7_compares 33 = .ok (.getfield 207, 3) := dk_180 0 207 (dk_at dksX7_compares_1 9 rfl rfl)
theorem dX7_compares_36 : decode cX7_compares 36 = .ok (.if_icmp .gt 29, 3) := dk_163 0 29 (dk_at dksX7_compares_1 12 rfl rfl)
theorem dX7_compares_39 : decode cX7_compares 39 = .ok (.iload 4, 2) := dk_21 4 (dk_at dksX7_compares_1 15 rfl rfl)
theorem dX7_compares_41 : decode cX7_compares 41 = .ok (.aload_n 0, 1) := dk_42 (dk_at dksX7_compares_1 17 rfl rfl)
theorem dX7_compares_42 : decode cX7_compares 42 = .ok (.getfield 207, 3) := dk_180 0 207 (dk_at dksX7_compares_1 18 rfl rfl)
theorem dX7_compares_45 : decode cX7_compares 45 = .ok (.if_icmp .ne 24, 3) := dk_160 0 24 (dk_at dksX7_compares_1 21 rfl rfl)
theorem dX7_compares_48 : decode cX7_compares 48 = .ok (.iload_n 1, 1) := dk_27 (dk_at dksX7_compares_2 0 rfl rfl)
theorem dX7_compares_49 : decode cX7_compares 49 = .ok (.aload_n 0, 1) := dk_42 (dk_at dksX7_compares_2 1 rfl rfl)
theorem dX7_compares_50 : decode cX7_compares 50 = .ok (.getfield 210, 3) := dk_180 0 210 (dk_at dksX7_compares_2 2 rfl rfl)
theorem dX7_compares_53 : decode cX7_compares 53 = .ok (.if_icmp .ne 16, 3) := dk_160 0 16 (dk_at dksX7_compares_2 5 rfl rfl)
theorem dX7_compares_56 : decode cX7_compares 56 = .ok (.iload 5, 2) := dk_21 5 (dk_at dksX7_compares_2 8 rfl rfl)
theorem dX7_compares_58 : decode cX7_compares 58 = .ok (.aload_n 0, 1) := dk_42 (dk_at dksX7_compares_2 10 rfl rfl)
theorem dX7_compares_59 : decode cX7_compares 59 = .ok (.getfield 213, 3) := dk_180 0 213 (dk_at dksX7_compares_2 11 rfl rfl)
theorem dX7_compares_62 : decode cX7_compares 62 = .ok (.if_icmp .ge 7, 3) := dk_162 0 7 (dk_at dksX7_compares_2 14 rfl rfl)
theorem dX7_compares_65 : decode cX7_compares 65 = .ok (.iconst 1, 1) := dk_4 (dk_at dksX7_compares_2 17 rfl rfl)
theorem dX7_compares_66 : decode cX7_compares 66 = .ok (.goto 4, 3) := dk_167 0 4 (dk_at dksX7_compares_2 18 rfl rfl)
theorem dX7_compares_69 : decode cX7_compares 69 = .ok (.iconst 0, 1) := dk_3 (dk_at dksX7_compares_2 21 rfl rfl)
theorem dX7_compares_70 : decode cX7_compares 70 = .ok (.istore 6, 2) := dk_54 6 (dk_at dksX7_compares_2 22 rfl rfl)
theorem dX7_compares_72 : decode cX7_compares 72 = .ok (.aload_n 0, 1) := dk_42 (dk_at dksX7_compares_3 0 rfl rfl)
theorem dX7_compares_73 : decode cX7_compares 73 = .ok (.iload 6, 2) := dk_21 6 (dk_at dksX7_compares_3 1 rfl rfl)
theorem dX7_compares_75 : decode cX7_compares 75 = .ok (.ifCond .eq 8, 3) := dk_153 0 8 (dk_at dksX7_compares_3 3 rfl rfl)
theorem dX7_compares_78 : decode cX7_compares 78 = .ok (.iload 4, 2) := dk_21 4 (dk_at dksX7_compares_3 6 rfl rfl)
theorem dX7_compares_80 : decode cX7_compares 80 = .ok (.goto 7, 3) := dk_167 0 7 (dk_at dksX7_compares_3 8 rfl rfl)
theorem dX7_compares_83 : decode cX7_compares 83 = .ok (.aload_n 0, 1) := dk_42 (dk_at dksX7_compares_3 11 rfl rfl)
theorem dX7_compares_84 : decode cX7_compares 84 = .ok (.getfield 207, 3) := dk_180 0 207 (dk_at dksX7_compares_3 12 rfl rfl)
theorem dX7_compares_87 : decode cX7_compares 87 = .ok (.putfield 207, 3) := dk_181 0 207 (dk_at dksX7_compares_3 15 rfl rfl)
theorem dX7_compares_90 : decode cX7_compares 90 = .ok (.aload_n 0, 1) := dk_42 (dk_at dksX7_compares_3 18 rfl rfl)
theorem dX7_compares_91 : decode cX7_compares 91 = .ok (.iload 6, 2) := dk_21 6 (dk_at dksX7_compares_3 19 rfl rfl)
theorem dX7_compares_93 : decode cX7_compares 93 = .ok (.ifCond .eq 8, 3) := dk_153 0 8 (dk_at dksX7_compares_3 21 rfl rfl)
theorem dX7_compares_96 : decode cX7_compares 96 = .ok (.iload 5, 2) := dk_21 5 (dk_at dksX7_compares_4 0 rfl rfl)
theorem dX7_compares_98 : decode cX7_compares 98 = .ok (.goto 7, 3) := dk_167 0 7 (dk_at dksX7_compares_4 2 rfl rfl)
theorem dX7_compares_101 : decode cX7_compares 101 = .ok (.aload_n 0, 1) := dk_42 (dk_at dksX7_compares_4 5 rfl rfl)
theorem dX7_compares_102 : decode cX7_compares 102 = .ok (.getfield 213, 3) := dk_180 0 213 (dk_at dksX7_compares_4 6 rfl rfl)
theorem dX7_compares_105 : decode cX7_compares 105 = .ok (.putfield 213, 3) := dk_181 0 213 (dk_at dksX7_compares_4 9 rfl rfl)
theorem dX7_compares_108 : decode cX7_compares 108 = .ok (.aload_n 0, 1) := dk_42 (dk_at dksX7_compares_4 12 rfl rfl)
theorem dX7_compares_109 : decode cX7_compares 109 = .ok (.iload 6, 2) := dk_21 6 (dk_at dksX7_compares_4 13 rfl rfl)
theorem dX7_compares_111 : decode cX7_compares 111 = .ok (.ifCond .eq 7, 3) := dk_153 0 7 (dk_at dksX7_compares_4 15 rfl rfl)
theorem dX7_compares_114 : decode cX7_compares 114 = .ok (.iload_n 2, 1) := dk_28 (dk_at dksX7_compares_4 18 rfl rfl)
theorem dX7_compares_115 : decode cX7_compares 115 = .ok (.goto 7, 3) := dk_167 0 7 (dk_at dksX7_compares_4 19 rfl rfl)
theorem dX7_compares_118 : decode cX7_compares 118 = .ok (.aload_n 0, 1) := dk_42 (dk_at dksX7_compares_4 22 rfl rfl)
theorem dX7_compares_119 : decode cX7_compares 119 = .ok (.getfield 216, 3) := dk_180 0 216 (dk_at dksX7_compares_5 0 rfl rfl)
theorem dX7_compares_122 : decode cX7_compares 122 = .ok (.putfield 216, 3) := dk_181 0 216 (dk_at dksX7_compares_5 3 rfl rfl)
theorem dX7_compares_125 : decode cX7_compares 125 = .ok (.aload_n 0, 1) := dk_42 (dk_at dksX7_compares_5 6 rfl rfl)
theorem dX7_compares_126 : decode cX7_compares 126 = .ok (.iload 6, 2) := dk_21 6 (dk_at dksX7_compares_5 7 rfl rfl)
theorem dX7_compares_128 : decode cX7_compares 128 = .ok (.ifCond .eq 7, 3) := dk_153 0 7 (dk_at dksX7_compares_5 9 rfl rfl)
theorem dX7_compares_131 : decode cX7_compares 131 = .ok (.iload_n 3, 1) := dk_29 (dk_at dksX7_compares_5 12 rfl rfl)
theorem dX7_compares_132 : decode cX7_compares 132 = .ok (.goto 7, 3) := dk_167 0 7 (dk_at dksX7_compares_5 13 rfl rfl)
theorem dX7_compares_135 : decode cX7_compares 135 = .ok (.aload_n 0, 1) := dk_42 (dk_at dksX7_compares_5 16 rfl rfl)
theorem dX7_compares_136 : decode cX7_compares 136 = .ok (.getfield 219, 3) := dk_180 0 219 (dk_at dksX7_compares_5 17 rfl rfl)
theorem dX7_compares_139 : decode cX7_compares 139 = .ok (.putfield 219, 3) := dk_181 0 219 (dk_at dksX7_compares_5 20 rfl rfl)
theorem dX7_compares_142 : decode cX7_compares 142 = .ok (.aload_n 0, 1) := dk_42 (dk_at dksX7_compares_5 23 rfl rfl)
theorem dX7_compares_143 : decode cX7_compares 143 = .ok (.iload 6, 2) := dk_21 6 (dk_at dksX7_compares_6 0 rfl rfl)
theorem dX7_compares_145 : decode cX7_compares 145 = .ok (.ifCond .eq 7, 3) := dk_153 0 7 (dk_at dksX7_compares_6 2 rfl rfl)
theorem dX7_compares_148 : decode cX7_compares 148 = .ok (.iload_n 1, 1) := dk_27 (dk_at dksX7_compares_6 5 rfl rfl)
theorem dX7_compares_149 : decode cX7_compares 149 = .ok (.goto 7, 3) := dk_167 0 7 (dk_at dksX7_compares_6 6 rfl rfl)
theorem dX7_compares_152 : decode cX7_compares 152 = .ok (.aload_n 0, 1) := dk_42 (dk_at dksX7_compares_6 9 rfl rfl)
theorem dX7_compares_153 : decode cX7_compares 153 = .ok (.getfield 210, 3) := dk_180 0 210 (dk_at dksX7_compares_6 10 rfl rfl)
theorem dX7_compares_156 : decode cX7_compares 156 = .ok (.putfield 210, 3) := dk_181 0 210 (dk_at dksX7_compares_6 13 rfl rfl)
theorem dX7_compares_159 : decode cX7_compares 159 = .ok (.return_, 1) := dk_177 (dk_at dksX7_compares_6 16 rfl rfl)
abbrev cX7_rowsOf : ByteArray := prog_11_method_52_code
def yX7_rowsOf : MethodName := ⟨RX7, "rowsOf", "(I)V"⟩
def dkwX7_rowsOf_4 : List UInt8 := [132, 3, 1, 167, 255, 213, 132, 2, 1, 167, 255, 156, 177]
abbrev dktX7_rowsOf_4 : List UInt8 := dkwX7_rowsOf_4 ++ []
def dkwX7_rowsOf_3 : List UInt8 := [17, 1, 12, 182, 0, 189, 42, 17, 1, 12, 29, 182, 0, 222, 153, 0, 10, 42, 5, 28, 29, 182, 0, 225]
abbrev dktX7_rowsOf_3 : List UInt8 := dkwX7_rowsOf_3 ++ dktX7_rowsOf_4
def dkwX7_rowsOf_2 : List UInt8 := [16, 252, 182, 0, 225, 3, 62, 29, 17, 1, 244, 162, 0, 42, 27, 5, 160, 0, 37, 42, 17, 1, 79]
abbrev dktX7_rowsOf_2 : List UInt8 := dkwX7_rowsOf_2 ++ dktX7_rowsOf_3
def dkwX7_rowsOf_1 : List UInt8 := [182, 0, 222, 153, 0, 74, 27, 4, 160, 0, 21, 42, 17, 1, 79, 17, 1, 12, 182, 0, 189, 42, 4, 28]
abbrev dktX7_rowsOf_1 : List UInt8 := dkwX7_rowsOf_1 ++ dktX7_rowsOf_2
def dkwX7_rowsOf_0 : List UInt8 := [3, 61, 28, 17, 1, 244, 162, 0, 99, 42, 3, 17, 1, 79, 182, 0, 189, 42, 17, 1, 79, 28]
abbrev dktX7_rowsOf_0 : List UInt8 := dkwX7_rowsOf_0 ++ dktX7_rowsOf_1
theorem dksX7_rowsOf_0 : cX7_rowsOf.data.toList.drop 0 = dktX7_rowsOf_0 := by decide +kernel
theorem dksX7_rowsOf_1 : cX7_rowsOf.data.toList.drop 22 = dktX7_rowsOf_1 := dk_seg dksX7_rowsOf_0 22 rfl rfl
theorem dksX7_rowsOf_2 : cX7_rowsOf.data.toList.drop 46 = dktX7_rowsOf_2 := dk_seg dksX7_rowsOf_1 24 rfl rfl
theorem dksX7_rowsOf_3 : cX7_rowsOf.data.toList.drop 69 = dktX7_rowsOf_3 := dk_seg dksX7_rowsOf_2 23 rfl rfl
theorem dksX7_rowsOf_4 : cX7_rowsOf.data.toList.drop 93 = dktX7_rowsOf_4 := dk_seg dksX7_rowsOf_3 24 rfl rfl
theorem dX7_rowsOf_0 : decode cX7_rowsOf 0 = .ok (.iconst 0, 1) := dk_3 (dk_at dksX7_rowsOf_0 0 rfl rfl)
theorem dX7_rowsOf_1 : decode cX7_rowsOf 1 = .ok (.istore_n 2, 1) := dk_61 (dk_at dksX7_rowsOf_0 1 rfl rfl)
theorem dX7_rowsOf_2 : decode cX7_rowsOf 2 = .ok (.iload_n 2, 1) := dk_28 (dk_at dksX7_rowsOf_0 2 rfl rfl)
theorem dX7_rowsOf_3 : decode cX7_rowsOf 3 = .ok (.sipush 500, 3) := dk_17 1 244 (dk_at dksX7_rowsOf_0 3 rfl rfl)
theorem dX7_rowsOf_6 : decode cX7_rowsOf 6 = .ok (.if_icmp .ge 99, 3) := dk_162 0 99 (dk_at dksX7_rowsOf_0 6 rfl rfl)
theorem dX7_rowsOf_9 : decode cX7_rowsOf 9 = .ok (.aload_n 0, 1) := dk_42 (dk_at dksX7_rowsOf_0 9 rfl rfl)
theorem dX7_rowsOf_10 : decode cX7_rowsOf 10 = .ok (.iconst 0, 1) := dk_3 (dk_at dksX7_rowsOf_0 10 rfl rfl)
theorem dX7_rowsOf_11 : decode cX7_rowsOf 11 = .ok (.sipush 335, 3) := dk_17 1 79 (dk_at dksX7_rowsOf_0 11 rfl rfl)
theorem dX7_rowsOf_14 : decode cX7_rowsOf 14 = .ok (.invokevirtual 189, 3) := dk_182 0 189 (dk_at dksX7_rowsOf_0 14 rfl rfl)
theorem dX7_rowsOf_17 : decode cX7_rowsOf 17 = .ok (.aload_n 0, 1) := dk_42 (dk_at dksX7_rowsOf_0 17 rfl rfl)
theorem dX7_rowsOf_18 : decode cX7_rowsOf 18 = .ok (.sipush 335, 3) := dk_17 1 79 (dk_at dksX7_rowsOf_0 18 rfl rfl)
theorem dX7_rowsOf_21 : decode cX7_rowsOf 21 = .ok (.iload_n 2, 1) := dk_28 (dk_at dksX7_rowsOf_0 21 rfl rfl)
theorem dX7_rowsOf_22 : decode cX7_rowsOf 22 = .ok (.invokevirtual 222, 3) := dk_182 0 222 (dk_at dksX7_rowsOf_1 0 rfl rfl)
theorem dX7_rowsOf_25 : decode cX7_rowsOf 25 = .ok (.ifCond .eq 74, 3) := dk_153 0 74 (dk_at dksX7_rowsOf_1 3 rfl rfl)
theorem dX7_rowsOf_28 : decode cX7_rowsOf 28 = .ok (.iload_n 1, 1) := dk_27 (dk_at dksX7_rowsOf_1 6 rfl rfl)
theorem dX7_rowsOf_29 : decode cX7_rowsOf 29 = .ok (.iconst 1, 1) := dk_4 (dk_at dksX7_rowsOf_1 7 rfl rfl)
theorem dX7_rowsOf_30 : decode cX7_rowsOf 30 = .ok (.if_icmp .ne 21, 3) := dk_160 0 21 (dk_at dksX7_rowsOf_1 8 rfl rfl)
theorem dX7_rowsOf_33 : decode cX7_rowsOf 33 = .ok (.aload_n 0, 1) := dk_42 (dk_at dksX7_rowsOf_1 11 rfl rfl)
theorem dX7_rowsOf_34 : decode cX7_rowsOf 34 = .ok (.sipush 335, 3) := dk_17 1 79 (dk_at dksX7_rowsOf_1 12 rfl rfl)
theorem dX7_rowsOf_37 : decode cX7_rowsOf 37 = .ok (.sipush 268, 3) := dk_17 1 12 (dk_at dksX7_rowsOf_1 15 rfl rfl)
theorem dX7_rowsOf_40 : decode cX7_rowsOf 40 = .ok (.invokevirtual 189, 3) := dk_182 0 189 (dk_at dksX7_rowsOf_1 18 rfl rfl)
theorem dX7_rowsOf_43 : decode cX7_rowsOf 43 = .ok (.aload_n 0, 1) := dk_42 (dk_at dksX7_rowsOf_1 21 rfl rfl)
theorem dX7_rowsOf_44 : decode cX7_rowsOf 44 = .ok (.iconst 1, 1) := dk_4 (dk_at dksX7_rowsOf_1 22 rfl rfl)
theorem dX7_rowsOf_45 : decode cX7_rowsOf 45 = .ok (.iload_n 2, 1) := dk_28 (dk_at dksX7_rowsOf_1 23 rfl rfl)
theorem dX7_rowsOf_46 : decode cX7_rowsOf 46 = .ok (.bipush (-4), 2) := dk_16 252 (dk_at dksX7_rowsOf_2 0 rfl rfl)
theorem dX7_rowsOf_48 : decode cX7_rowsOf 48 = .ok (.invokevirtual 225, 3) := dk_182 0 225 (dk_at dksX7_rowsOf_2 2 rfl rfl)
theorem dX7_rowsOf_51 : decode cX7_rowsOf 51 = .ok (.iconst 0, 1) := dk_3 (dk_at dksX7_rowsOf_2 5 rfl rfl)
theorem dX7_rowsOf_52 : decode cX7_rowsOf 52 = .ok (.istore_n 3, 1) := dk_62 (dk_at dksX7_rowsOf_2 6 rfl rfl)
theorem dX7_rowsOf_53 : decode cX7_rowsOf 53 = .ok (.iload_n 3, 1) := dk_29 (dk_at dksX7_rowsOf_2 7 rfl rfl)
theorem dX7_rowsOf_54 : decode cX7_rowsOf 54 = .ok (.sipush 500, 3) := dk_17 1 244 (dk_at dksX7_rowsOf_2 8 rfl rfl)
theorem dX7_rowsOf_57 : decode cX7_rowsOf 57 = .ok (.if_icmp .ge 42, 3) := dk_162 0 42 (dk_at dksX7_rowsOf_2 11 rfl rfl)
theorem dX7_rowsOf_60 : decode cX7_rowsOf 60 = .ok (.iload_n 1, 1) := dk_27 (dk_at dksX7_rowsOf_2 14 rfl rfl)
theorem dX7_rowsOf_61 : decode cX7_rowsOf 61 = .ok (.iconst 2, 1) := dk_5 (dk_at dksX7_rowsOf_2 15 rfl rfl)
theorem dX7_rowsOf_62 : decode cX7_rowsOf 62 = .ok (.if_icmp .ne 37, 3) := dk_160 0 37 (dk_at dksX7_rowsOf_2 16 rfl rfl)
theorem dX7_rowsOf_65 : decode cX7_rowsOf 65 = .ok (.aload_n 0, 1) := dk_42 (dk_at dksX7_rowsOf_2 19 rfl rfl)
theorem dX7_rowsOf_66 : decode cX7_rowsOf 66 = .ok (.sipush 335, 3) := dk_17 1 79 (dk_at dksX7_rowsOf_2 20 rfl rfl)
theorem dX7_rowsOf_69 : decode cX7_rowsOf 69 = .ok (.sipush 268, 3) := dk_17 1 12 (dk_at dksX7_rowsOf_3 0 rfl rfl)
theorem dX7_rowsOf_72 : decode cX7_rowsOf 72 = .ok (.invokevirtual 189, 3) := dk_182 0 189 (dk_at dksX7_rowsOf_3 3 rfl rfl)
theorem dX7_rowsOf_75 : decode cX7_rowsOf 75 = .ok (.aload_n 0, 1) := dk_42 (dk_at dksX7_rowsOf_3 6 rfl rfl)
theorem dX7_rowsOf_76 : decode cX7_rowsOf 76 = .ok (.sipush 268, 3) := dk_17 1 12 (dk_at dksX7_rowsOf_3 7 rfl rfl)
theorem dX7_rowsOf_79 : decode cX7_rowsOf 79 = .ok (.iload_n 3, 1) := dk_29 (dk_at dksX7_rowsOf_3 10 rfl rfl)
theorem dX7_rowsOf_80 : decode cX7_rowsOf 80 = .ok (.invokevirtual 222, 3) := dk_182 0 222 (dk_at dksX7_rowsOf_3 11 rfl rfl)
theorem dX7_rowsOf_83 : decode cX7_rowsOf 83 = .ok (.ifCond .eq 10, 3) := dk_153 0 10 (dk_at dksX7_rowsOf_3 14 rfl rfl)
theorem dX7_rowsOf_86 : decode cX7_rowsOf 86 = .ok (.aload_n 0, 1) := dk_42 (dk_at dksX7_rowsOf_3 17 rfl rfl)
theorem dX7_rowsOf_87 : decode cX7_rowsOf 87 = .ok (.iconst 2, 1) := dk_5 (dk_at dksX7_rowsOf_3 18 rfl rfl)
theorem dX7_rowsOf_88 : decode cX7_rowsOf 88 = .ok (.iload_n 2, 1) := dk_28 (dk_at dksX7_rowsOf_3 19 rfl rfl)
theorem dX7_rowsOf_89 : decode cX7_rowsOf 89 = .ok (.iload_n 3, 1) := dk_29 (dk_at dksX7_rowsOf_3 20 rfl rfl)
theorem dX7_rowsOf_90 : decode cX7_rowsOf 90 = .ok (.invokevirtual 225, 3) := dk_182 0 225 (dk_at dksX7_rowsOf_3 21 rfl rfl)
theorem dX7_rowsOf_93 : decode cX7_rowsOf 93 = .ok (.iinc 3 1, 3) := dk_132 3 1 (dk_at dksX7_rowsOf_4 0 rfl rfl)
theorem dX7_rowsOf_96 : decode cX7_rowsOf 96 = .ok (.goto (-43), 3) := dk_167 255 213 (dk_at dksX7_rowsOf_4 3 rfl rfl)
theorem dX7_rowsOf_99 : decode cX7_rowsOf 99 = .ok (.iinc 2 1, 3) := dk_132 2 1 (dk_at dksX7_rowsOf_4 6 rfl rfl)
theorem dX7_rowsOf_102 : decode cX7_rowsOf 102 = .ok (.goto (-100), 3) := dk_167 255 156 (dk_at dksX7_rowsOf_4 9 rfl rfl)
theorem dX7_rowsOf_105 : decode cX7_rowsOf 105 = .ok (.return_, 1) := dk_177 (dk_at dksX7_rowsOf_4 12 rfl rfl)
abbrev cX7_givesBy : ByteArray := prog_11_method_50_code
def yX7_givesBy : MethodName := ⟨RX7, "givesBy", "(II)Z"⟩
def dkwX7_givesBy_3 : List UInt8 := [172]
abbrev dktX7_givesBy_3 : List UInt8 := dkwX7_givesBy_3 ++ []
def dkwX7_givesBy_2 : List UInt8 := [4, 167, 0, 4, 3, 54, 6, 21, 6, 153, 0, 13, 42, 27, 29, 21, 4, 21, 5, 182, 0, 177, 21, 6]
abbrev dktX7_givesBy_2 : List UInt8 := dkwX7_givesBy_2 ++ dktX7_givesBy_3
def dkwX7_givesBy_1 : List UInt8 := [182, 0, 155, 153, 0, 25, 21, 5, 158, 0, 20, 42, 27, 29, 21, 4, 21, 5, 182, 0, 170, 153, 0, 7]
abbrev dktX7_givesBy_1 : List UInt8 := dkwX7_givesBy_1 ++ dktX7_givesBy_2
def dkwX7_givesBy_0 : List UInt8 := [28, 16, 100, 108, 62, 28, 16, 10, 108, 16, 10, 112, 54, 4, 28, 16, 10, 112, 54, 5, 42, 29, 21, 4]
abbrev dktX7_givesBy_0 : List UInt8 := dkwX7_givesBy_0 ++ dktX7_givesBy_1
theorem dksX7_givesBy_0 : cX7_givesBy.data.toList.drop 0 = dktX7_givesBy_0 := by decide +kernel
theorem dksX7_givesBy_1 : cX7_givesBy.data.toList.drop 24 = dktX7_givesBy_1 := dk_seg dksX7_givesBy_0 24 rfl rfl
theorem dksX7_givesBy_2 : cX7_givesBy.data.toList.drop 48 = dktX7_givesBy_2 := dk_seg dksX7_givesBy_1 24 rfl rfl
theorem dksX7_givesBy_3 : cX7_givesBy.data.toList.drop 72 = dktX7_givesBy_3 := dk_seg dksX7_givesBy_2 24 rfl rfl
theorem dX7_givesBy_0 : decode cX7_givesBy 0 = .ok (.iload_n 2, 1) := dk_28 (dk_at dksX7_givesBy_0 0 rfl rfl)
theorem dX7_givesBy_1 : decode cX7_givesBy 1 = .ok (.bipush 100, 2) := dk_16 100 (dk_at dksX7_givesBy_0 1 rfl rfl)
theorem dX7_givesBy_3 : decode cX7_givesBy 3 = .ok (.idiv, 1) := dk_108 (dk_at dksX7_givesBy_0 3 rfl rfl)
theorem dX7_givesBy_4 : decode cX7_givesBy 4 = .ok (.istore_n 3, 1) := dk_62 (dk_at dksX7_givesBy_0 4 rfl rfl)
theorem dX7_givesBy_5 : decode cX7_givesBy 5 = .ok (.iload_n 2, 1) := dk_28 (dk_at dksX7_givesBy_0 5 rfl rfl)
theorem dX7_givesBy_6 : decode cX7_givesBy 6 = .ok (.bipush 10, 2) := dk_16 10 (dk_at dksX7_givesBy_0 6 rfl rfl)
theorem dX7_givesBy_8 : decode cX7_givesBy 8 = .ok (.idiv, 1) := dk_108 (dk_at dksX7_givesBy_0 8 rfl rfl)
theorem dX7_givesBy_9 : decode cX7_givesBy 9 = .ok (.bipush 10, 2) := dk_16 10 (dk_at dksX7_givesBy_0 9 rfl rfl)
theorem dX7_givesBy_11 : decode cX7_givesBy 11 = .ok (.irem, 1) := dk_112 (dk_at dksX7_givesBy_0 11 rfl rfl)
theorem dX7_givesBy_12 : decode cX7_givesBy 12 = .ok (.istore 4, 2) := dk_54 4 (dk_at dksX7_givesBy_0 12 rfl rfl)
theorem dX7_givesBy_14 : decode cX7_givesBy 14 = .ok (.iload_n 2, 1) := dk_28 (dk_at dksX7_givesBy_0 14 rfl rfl)
theorem dX7_givesBy_15 : decode cX7_givesBy 15 = .ok (.bipush 10, 2) := dk_16 10 (dk_at dksX7_givesBy_0 15 rfl rfl)
theorem dX7_givesBy_17 : decode cX7_givesBy 17 = .ok (.irem, 1) := dk_112 (dk_at dksX7_givesBy_0 17 rfl rfl)
theorem dX7_givesBy_18 : decode cX7_givesBy 18 = .ok (.istore 5, 2) := dk_54 5 (dk_at dksX7_givesBy_0 18 rfl rfl)
theorem dX7_givesBy_20 : decode cX7_givesBy 20 = .ok (.aload_n 0, 1) := dk_42 (dk_at dksX7_givesBy_0 20 rfl rfl)
theorem dX7_givesBy_21 : decode cX7_givesBy 21 = .ok (.iload_n 3, 1) := dk_29 (dk_at dksX7_givesBy_0 21 rfl rfl)
theorem dX7_givesBy_22 : decode cX7_givesBy 22 = .ok (.iload 4, 2) := dk_21 4 (dk_at dksX7_givesBy_0 22 rfl rfl)
theorem dX7_givesBy_24 : decode cX7_givesBy 24 = .ok (.invokevirtual 155, 3) := dk_182 0 155 (dk_at dksX7_givesBy_1 0 rfl rfl)
theorem dX7_givesBy_27 : decode cX7_givesBy 27 = .ok (.ifCond .eq 25, 3) := dk_153 0 25 (dk_at dksX7_givesBy_1 3 rfl rfl)
theorem dX7_givesBy_30 : decode cX7_givesBy 30 = .ok (.iload 5, 2) := dk_21 5 (dk_at dksX7_givesBy_1 6 rfl rfl)
theorem dX7_givesBy_32 : decode cX7_givesBy 32 = .ok (.ifCond .le 20, 3) := dk_158 0 20 (dk_at dksX7_givesBy_1 8 rfl rfl)
theorem dX7_givesBy_35 : decode cX7_givesBy 35 = .ok (.aload_n 0, 1) := dk_42 (dk_at dksX7_givesBy_1 11 rfl rfl)
theorem dX7_givesBy_36 : decode cX7_givesBy 36 = .ok (.iload_n 1, 1) := dk_27 (dk_at dksX7_givesBy_1 12 rfl rfl)
theorem dX7_givesBy_37 : decode cX7_givesBy 37 = .ok (.iload_n 3, 1) := dk_29 (dk_at dksX7_givesBy_1 13 rfl rfl)
theorem dX7_givesBy_38 : decode cX7_givesBy 38 = .ok (.iload 4, 2) := dk_21 4 (dk_at dksX7_givesBy_1 14 rfl rfl)
theorem dX7_givesBy_40 : decode cX7_givesBy 40 = .ok (.iload 5, 2) := dk_21 5 (dk_at dksX7_givesBy_1 16 rfl rfl)
theorem dX7_givesBy_42 : decode cX7_givesBy 42 = .ok (.invokevirtual 170, 3) := dk_182 0 170 (dk_at dksX7_givesBy_1 18 rfl rfl)
theorem dX7_givesBy_45 : decode cX7_givesBy 45 = .ok (.ifCond .eq 7, 3) := dk_153 0 7 (dk_at dksX7_givesBy_1 21 rfl rfl)
theorem dX7_givesBy_48 : decode cX7_givesBy 48 = .ok (.iconst 1, 1) := dk_4 (dk_at dksX7_givesBy_2 0 rfl rfl)
theorem dX7_givesBy_49 : decode cX7_givesBy 49 = .ok (.goto 4, 3) := dk_167 0 4 (dk_at dksX7_givesBy_2 1 rfl rfl)
theorem dX7_givesBy_52 : decode cX7_givesBy 52 = .ok (.iconst 0, 1) := dk_3 (dk_at dksX7_givesBy_2 4 rfl rfl)
theorem dX7_givesBy_53 : decode cX7_givesBy 53 = .ok (.istore 6, 2) := dk_54 6 (dk_at dksX7_givesBy_2 5 rfl rfl)
theorem dX7_givesBy_55 : decode cX7_givesBy 55 = .ok (.iload 6, 2) := dk_21 6 (dk_at dksX7_givesBy_2 7 rfl rfl)
theorem dX7_givesBy_57 : decode cX7_givesBy 57 = .ok (.ifCond .eq 13, 3) := dk_153 0 13 (dk_at dksX7_givesBy_2 9 rfl rfl)
theorem dX7_givesBy_60 : decode cX7_givesBy 60 = .ok (.aload_n 0, 1) := dk_42 (dk_at dksX7_givesBy_2 12 rfl rfl)
theorem dX7_givesBy_61 : decode cX7_givesBy 61 = .ok (.iload_n 1, 1) := dk_27 (dk_at dksX7_givesBy_2 13 rfl rfl)
theorem dX7_givesBy_62 : decode cX7_givesBy 62 = .ok (.iload_n 3, 1) := dk_29 (dk_at dksX7_givesBy_2 14 rfl rfl)
theorem dX7_givesBy_63 : decode cX7_givesBy 63 = .ok (.iload 4, 2) := dk_21 4 (dk_at dksX7_givesBy_2 15 rfl rfl)
theorem dX7_givesBy_65 : decode cX7_givesBy 65 = .ok (.iload 5, 2) := dk_21 5 (dk_at dksX7_givesBy_2 17 rfl rfl)
theorem dX7_givesBy_67 : decode cX7_givesBy 67 = .ok (.invokevirtual 177, 3) := dk_182 0 177 (dk_at dksX7_givesBy_2 19 rfl rfl)
theorem dX7_givesBy_70 : decode cX7_givesBy 70 = .ok (.iload 6, 2) := dk_21 6 (dk_at dksX7_givesBy_2 22 rfl rfl)
theorem dX7_givesBy_72 : decode cX7_givesBy 72 = .ok (.ireturn, 1) := dk_172 (dk_at dksX7_givesBy_3 0 rfl rfl)
abbrev cX7_cure : ByteArray := prog_11_method_55_code
def yX7_cure : MethodName := ⟨RX7, "cure", "(II)I"⟩
def dkwX7_cure_5 : List UInt8 := [180, 0, 219, 172]
abbrev dktX7_cure_5 : List UInt8 := dkwX7_cure_5 ++ []
def dkwX7_cure_4 : List UInt8 := [29, 161, 0, 8, 16, 252, 167, 0, 20, 28, 16, 10, 160, 0, 10, 42, 180, 0, 216, 167, 0, 7, 42]
abbrev dktX7_cure_4 : List UInt8 := dkwX7_cure_4 ++ dktX7_cure_5
def dkwX7_cure_3 : List UInt8 := [167, 0, 5, 16, 252, 62, 28, 153, 0, 9, 29, 16, 252, 160, 0, 7, 29, 167, 0, 33, 28, 16, 10, 100]
abbrev dktX7_cure_3 : List UInt8 := dkwX7_cure_3 ++ dktX7_cure_4
def dkwX7_cure_2 : List UInt8 := [27, 4, 182, 0, 236, 153, 0, 7, 4, 167, 0, 18, 42, 27, 5, 182, 0, 236, 153, 0, 7, 5]
abbrev dktX7_cure_2 : List UInt8 := dkwX7_cure_2 ++ dktX7_cure_3
def dkwX7_cure_1 : List UInt8 := [154, 0, 5, 2, 172, 42, 180, 0, 7, 16, 15, 27, 96, 46, 16, 50, 160, 0, 7, 3, 167, 0, 31, 42]
abbrev dktX7_cure_1 : List UInt8 := dkwX7_cure_1 ++ dktX7_cure_2
def dkwX7_cure_0 : List UInt8 := [42, 27, 182, 0, 132, 153, 0, 21, 28, 153, 0, 19, 28, 133, 20, 0, 229, 20, 0, 231, 184, 0, 46]
abbrev dktX7_cure_0 : List UInt8 := dkwX7_cure_0 ++ dktX7_cure_1
theorem dksX7_cure_0 : cX7_cure.data.toList.drop 0 = dktX7_cure_0 := by decide +kernel
theorem dksX7_cure_1 : cX7_cure.data.toList.drop 23 = dktX7_cure_1 := dk_seg dksX7_cure_0 23 rfl rfl
theorem dksX7_cure_2 : cX7_cure.data.toList.drop 47 = dktX7_cure_2 := dk_seg dksX7_cure_1 24 rfl rfl
theorem dksX7_cure_3 : cX7_cure.data.toList.drop 69 = dktX7_cure_3 := dk_seg dksX7_cure_2 22 rfl rfl
theorem dksX7_cure_4 : cX7_cure.data.toList.drop 93 = dktX7_cure_4 := dk_seg dksX7_cure_3 24 rfl rfl
theorem dksX7_cure_5 : cX7_cure.data.toList.drop 116 = dktX7_cure_5 := dk_seg dksX7_cure_4 23 rfl rfl
theorem dX7_cure_0 : decode cX7_cure 0 = .ok (.aload_n 0, 1) := dk_42 (dk_at dksX7_cure_0 0 rfl rfl)
theorem dX7_cure_1 : decode cX7_cure 1 = .ok (.iload_n 1, 1) := dk_27 (dk_at dksX7_cure_0 1 rfl rfl)
theorem dX7_cure_2 : decode cX7_cure 2 = .ok (.invokevirtual 132, 3) := dk_182 0 132 (dk_at dksX7_cure_0 2 rfl rfl)
theorem dX7_cure_5 : decode cX7_cure 5 = .ok (.ifCond .eq 21, 3) := dk_153 0 21 (dk_at dksX7_cure_0 5 rfl rfl)
theorem dX7_cure_8 : decode cX7_cure 8 = .ok (.iload_n 2, 1) := dk_28 (dk_at dksX7_cure_0 8 rfl rfl)
theorem dX7_cure_9 : decode cX7_cure 9 = .ok (.ifCond .eq 19, 3) := dk_153 0 19 (dk_at dksX7_cure_0 9 rfl rfl)
theorem dX7_cure_12 : decode cX7_cure 12 = .ok (.iload_n 2, 1) := dk_28 (dk_at dksX7_cure_0 12 rfl rfl)
theorem dX7_cure_13 : decode cX7_cure 13 = .ok (.i2l, 1) := dk_133 (dk_at dksX7_cure_0 13 rfl rfl)
theorem dX7_cure_14 : decode cX7_cure 14 = .ok (.ldc2_w 229, 3) := dk_20 0 229 (dk_at dksX7_cure_0 14 rfl rfl)
theorem dX7_cure_17 : decode cX7_cure 17 = .ok (.ldc2_w 231, 3) := dk_20 0 231 (dk_at dksX7_cure_0 17 rfl rfl)
theorem dX7_cure_20 : decode cX7_cure 20 = .ok (.invokestatic 46, 3) := dk_184 0 46 (dk_at dksX7_cure_0 20 rfl rfl)
theorem dX7_cure_23 : decode cX7_cure 23 = .ok (.ifCond .ne 5, 3) := dk_154 0 5 (dk_at dksX7_cure_1 0 rfl rfl)
theorem dX7_cure_26 : decode cX7_cure 26 = .ok (.iconst (-1), 1) := dk_2 (dk_at dksX7_cure_1 3 rfl rfl)
theorem dX7_cure_27 : decode cX7_cure 27 = .ok (.ireturn, 1) := dk_172 (dk_at dksX7_cure_1 4 rfl rfl)
theorem dX7_cure_28 : decode cX7_cure 28 = .ok (.aload_n 0, 1) := dk_42 (dk_at dksX7_cure_1 5 rfl rfl)
theorem dX7_cure_29 : decode cX7_cure 29 = .ok (.getfield 7, 3) := dk_180 0 7 (dk_at dksX7_cure_1 6 rfl rfl)
theorem dX7_cure_32 : decode cX7_cure 32 = .ok (.bipush 15, 2) := dk_16 15 (dk_at dksX7_cure_1 9 rfl rfl)
theorem dX7_cure_34 : decode cX7_cure 34 = .ok (.iload_n 1, 1) := dk_27 (dk_at dksX7_cure_1 11 rfl rfl)
theorem dX7_cure_35 : decode cX7_cure 35 = .ok (.iadd, 1) := dk_96 (dk_at dksX7_cure_1 12 rfl rfl)
theorem dX7_cure_36 : decode cX7_cure 36 = .ok (.iaload, 1) := dk_46 (dk_at dksX7_cure_1 13 rfl rfl)
theorem dX7_cure_37 : decode cX7_cure 37 = .ok (.bipush 50, 2) := dk_16 50 (dk_at dksX7_cure_1 14 rfl rfl)
theorem dX7_cure_39 : decode cX7_cure 39 = .ok (.if_icmp .ne 7, 3) := dk_160 0 7 (dk_at dksX7_cure_1 16 rfl rfl)
theorem dX7_cure_42 : decode cX7_cure 42 = .ok (.iconst 0, 1) := dk_3 (dk_at dksX7_cure_1 19 rfl rfl)
theorem dX7_cure_43 : decode cX7_cure 43 = .ok (.goto 31, 3) := dk_167 0 31 (dk_at dksX7_cure_1 20 rfl rfl)
theorem dX7_cure_46 : decode cX7_cure 46 = .ok (.aload_n 0, 1) := dk_42 (dk_at dksX7_cure_1 23 rfl rfl)
theorem dX7_cure_47 : decode cX7_cure 47 = .ok (.iload_n 1, 1) := dk_27 (dk_at dksX7_cure_2 0 rfl rfl)
theorem dX7_cure_48 : decode cX7_cure 48 = .ok (.iconst 1, 1) := dk_4 (dk_at dksX7_cure_2 1 rfl rfl)
theorem dX7_cure_49 : decode cX7_cure 49 = .ok (.invokevirtual 236, 3) := dk_182 0 236 (dk_at dksX7_cure_2 2 rfl rfl)
theorem dX7_cure_52 : decode cX7_cure 52 = .ok (.ifCond .eq 7, 3) := dk_153 0 7 (dk_at dksX7_cure_2 5 rfl rfl)
theorem dX7_cure_55 : decode cX7_cure 55 = .ok (.iconst 1, 1) := dk_4 (dk_at dksX7_cure_2 8 rfl rfl)
theorem dX7_cure_56 : decode cX7_cure 56 = .ok (.goto 18, 3) := dk_167 0 18 (dk_at dksX7_cure_2 9 rfl rfl)
theorem dX7_cure_59 : decode cX7_cure 59 = .ok (.aload_n 0, 1) := dk_42 (dk_at dksX7_cure_2 12 rfl rfl)
theorem dX7_cure_60 : decode cX7_cure 60 = .ok (.iload_n 1, 1) := dk_27 (dk_at dksX7_cure_2 13 rfl rfl)
theorem dX7_cure_61 : decode cX7_cure 61 = .ok (.iconst 2, 1) := dk_5 (dk_at dksX7_cure_2 14 rfl rfl)
theorem dX7_cure_62 : decode cX7_cure 62 = .ok (.invokevirtual 236, 3) := dk_182 0 236 (dk_at dksX7_cure_2 15 rfl rfl)
theorem dX7_cure_65 : decode cX7_cure 65 = .ok (.ifCond .eq 7, 3) := dk_153 0 7 (dk_at dksX7_cure_2 18 rfl rfl)
theorem dX7_cure_68 : decode cX7_cure 68 = .ok (.iconst 2, 1) := dk_5 (dk_at dksX7_cure_2 21 rfl rfl)
theorem dX7_cure_69 : decode cX7_cure 69 = .ok (.goto 5, 3) := dk_167 0 5 (dk_at dksX7_cure_3 0 rfl rfl)
theorem dX7_cure_72 : decode cX7_cure 72 = .ok (.bipush (-4), 2) := dk_16 252 (dk_at dksX7_cure_3 3 rfl rfl)
theorem dX7_cure_74 : decode cX7_cure 74 = .ok (.istore_n 3, 1) := dk_62 (dk_at dksX7_cure_3 5 rfl rfl)
theorem dX7_cure_75 : decode cX7_cure 75 = .ok (.iload_n 2, 1) := dk_28 (dk_at dksX7_cure_3 6 rfl rfl)
theorem dX7_cure_76 : decode cX7_cure 76 = .ok (.ifCond .eq 9, 3) := dk_153 0 9 (dk_at dksX7_cure_3 7 rfl rfl)
theorem dX7_cure_79 : decode cX7_cure 79 = .ok (.iload_n 3, 1) := dk_29 (dk_at dksX7_cure_3 10 rfl rfl)
theorem dX7_cure_80 : decode cX7_cure 80 = .ok (.bipush (-4), 2) := dk_16 252 (dk_at dksX7_cure_3 11 rfl rfl)
theorem dX7_cure_82 : decode cX7_cure 82 = .ok (.if_icmp .ne 7, 3) := dk_160 0 7 (dk_at dksX7_cure_3 13 rfl rfl)
theorem dX7_cure_85 : decode cX7_cure 85 = .ok (.iload_n 3, 1) := dk_29 (dk_at dksX7_cure_3 16 rfl rfl)
theorem dX7_cure_86 : decode cX7_cure 86 = .ok (.goto 33, 3) := dk_167 0 33 (dk_at dksX7_cure_3 17 rfl rfl)
theorem dX7_cure_89 : decode cX7_cure 89 = .ok (.iload_n 2, 1) := dk_28 (dk_at dksX7_cure_3 20 rfl rfl)
theorem dX7_cure_90 : decode cX7_cure 90 = .ok (.bipush 10, 2) := dk_16 10 (dk_at dksX7_cure_3 21 rfl rfl)
theorem dX7_cure_92 : decode cX7_cure 92 = .ok (.isub, 1) := dk_100 (dk_at dksX7_cure_3 23 rfl rfl)
theorem dX7_cure_93 : decode cX7_cure 93 = .ok (.iload_n 3, 1) := dk_29 (dk_at dksX7_cure_4 0 rfl rfl)
theorem dX7_cure_94 : decode cX7_cure 94 = .ok (.if_icmp .lt 8, 3) := dk_161 0 8 (dk_at dksX7_cure_4 1 rfl rfl)
theorem dX7_cure_97 : decode cX7_cure 97 = .ok (.bipush (-4), 2) := dk_16 252 (dk_at dksX7_cure_4 4 rfl rfl)
theorem dX7_cure_99 : decode cX7_cure 99 = .ok (.goto 20, 3) := dk_167 0 20 (dk_at dksX7_cure_4 6 rfl rfl)
theorem dX7_cure_102 : decode cX7_cure 102 = .ok (.iload_n 2, 1) := dk_28 (dk_at dksX7_cure_4 9 rfl rfl)
theorem dX7_cure_103 : decode cX7_cure 103 = .ok (.bipush 10, 2) := dk_16 10 (dk_at dksX7_cure_4 10 rfl rfl)
theorem dX7_cure_105 : decode cX7_cure 105 = .ok (.if_icmp .ne 10, 3) := dk_160 0 10 (dk_at dksX7_cure_4 12 rfl rfl)
theorem dX7_cure_108 : decode cX7_cure 108 = .ok (.aload_n 0, 1) := dk_42 (dk_at dksX7_cure_4 15 rfl rfl)
theorem dX7_cure_109 : decode cX7_cure 109 = .ok (.getfield 216, 3) := dk_180 0 216 (dk_at dksX7_cure_4 16 rfl rfl)
theorem dX7_cure_112 : decode cX7_cure 112 = .ok (.goto 7, 3) := dk_167 0 7 (dk_at dksX7_cure_4 19 rfl rfl)
theorem dX7_cure_115 : decode cX7_cure 115 = .ok (.aload_n 0, 1) := dk_42 (dk_at dksX7_cure_4 22 rfl rfl)
theorem dX7_cure_116 : decode cX7_cure 116 = .ok (.getfield 219, 3) := dk_180 0 219 (dk_at dksX7_cure_5 0 rfl rfl)
theorem dX7_cure_119 : decode cX7_cure 119 = .ok (.ireturn, 1) := dk_172 (dk_at dksX7_cure_5 3 rfl rfl)
abbrev cX7_isCured : ByteArray := prog_11_method_54_code
def yX7_isCured : MethodName := ⟨RX7, "isCured", "(II)Z"⟩
def dkwX7_isCured_5 : List UInt8 := [4, 172, 132, 4, 1, 167, 255, 195, 132, 3, 1, 167, 255, 133, 3, 172]
abbrev dktX7_isCured_5 : List UInt8 := dkwX7_isCured_5 ++ []
def dkwX7_isCured_4 : List UInt8 := [153, 0, 26, 42, 180, 0, 7, 17, 1, 27, 27, 96, 46, 16, 50, 160, 0, 11, 42, 21, 4, 181, 0, 219]
abbrev dktX7_isCured_4 : List UInt8 := dkwX7_isCured_4 ++ dktX7_isCured_5
def dkwX7_isCured_3 : List UInt8 := [160, 0, 54, 42, 17, 1, 79, 17, 1, 12, 182, 0, 189, 42, 17, 1, 12, 21, 4, 182, 0, 222]
abbrev dktX7_isCured_3 : List UInt8 := dkwX7_isCured_3 ++ dktX7_isCured_4
def dkwX7_isCured_2 : List UInt8 := [96, 46, 16, 50, 160, 0, 5, 4, 172, 3, 54, 4, 21, 4, 17, 1, 244, 162, 0, 59, 28, 5]
abbrev dktX7_isCured_2 : List UInt8 := dkwX7_isCured_2 ++ dktX7_isCured_3
def dkwX7_isCured_1 : List UInt8 := [182, 0, 222, 153, 0, 97, 42, 29, 181, 0, 216, 28, 4, 160, 0, 20, 42, 180, 0, 7, 17, 1, 94, 27]
abbrev dktX7_isCured_1 : List UInt8 := dkwX7_isCured_1 ++ dktX7_isCured_2
def dkwX7_isCured_0 : List UInt8 := [3, 62, 29, 17, 1, 244, 162, 0, 122, 42, 3, 17, 1, 79, 182, 0, 189, 42, 17, 1, 79, 29]
abbrev dktX7_isCured_0 : List UInt8 := dkwX7_isCured_0 ++ dktX7_isCured_1
theorem dksX7_isCured_0 : cX7_isCured.data.toList.drop 0 = dktX7_isCured_0 := by decide +kernel
theorem dksX7_isCured_1 : cX7_isCured.data.toList.drop 22 = dktX7_isCured_1 := dk_seg dksX7_isCured_0 22 rfl rfl
theorem dksX7_isCured_2 : cX7_isCured.data.toList.drop 46 = dktX7_isCured_2 := dk_seg dksX7_isCured_1 24 rfl rfl
theorem dksX7_isCured_3 : cX7_isCured.data.toList.drop 68 = dktX7_isCured_3 := dk_seg dksX7_isCured_2 22 rfl rfl
theorem dksX7_isCured_4 : cX7_isCured.data.toList.drop 90 = dktX7_isCured_4 := dk_seg dksX7_isCured_3 22 rfl rfl
theorem dksX7_isCured_5 : cX7_isCured.data.toList.drop 114 = dktX7_isCured_5 := dk_seg dksX7_isCured_4 24 rfl rfl
theorem dX7_isCured_0 : decode cX7_isCured 0 = .ok (.iconst 0, 1) := dk_3 (dk_at dksX7_isCured_0 0 rfl rfl)
theorem dX7_isCured_1 : decode cX7_isCured 1 = .ok (.istore_n 3, 1) := dk_62 (dk_at dksX7_isCured_0 1 rfl rfl)
theorem dX7_isCured_2 : decode cX7_isCured 2 = .ok (.iload_n 3, 1) := dk_29 (dk_at dksX7_isCured_0 2 rfl rfl)
theorem dX7_isCured_3 : decode cX7_isCured 3 = .ok (.sipush 500, 3) := dk_17 1 244 (dk_at dksX7_isCured_0 3 rfl rfl)
theorem dX7_isCured_6 : decode cX7_isCured 6 = .ok (.if_icmp .ge 122, 3) := dk_162 0 122 (dk_at dksX7_isCured_0 6 rfl rfl)
theorem dX7_isCured_9 : decode cX7_isCured 9 = .ok (.aload_n 0, 1) := dk_42 (dk_at dksX7_isCured_0 9 rfl rfl)
theorem dX7_isCured_10 : decode cX7_isCured 10 = .ok (.iconst 0, 1) := dk_3 (dk_at dksX7_isCured_0 10 rfl rfl)
theorem dX7_isCured_11 : decode cX7_isCured 11 = .ok (.sipush 335, 3) := dk_17 1 79 (dk_at dksX7_isCured_0 11 rfl rfl)
theorem dX7_isCured_14 : decode cX7_isCured 14 = .ok (.invokevirtual 189, 3) := dk_182 0 189 (dk_at dksX7_isCured_0 14 rfl rfl)
theorem dX7_isCured_17 : decode cX7_isCured 17 = .ok (.aload_n 0, 1) := dk_42 (dk_at dksX7_isCured_0 17 rfl rfl)
theorem dX7_isCured_18 : decode cX7_isCured 18 = .ok (.sipush 335, 3) := dk_17 1 79 (dk_at dksX7_isCured_0 18 rfl rfl)
theorem dX7_isCured_21 : decode cX7_isCured 21 = .ok (.iload_n 3, 1) := dk_29 (dk_at dksX7_isCured_0 21 rfl rfl)
theorem dX7_isCured_22 : decode cX7_isCured 22 = .ok (.invokevirtual 222, 3) := dk_182 0 222 (dk_at dksX7_isCured_1 0 rfl rfl)
theorem dX7_isCured_25 : decode cX7_isCured 25 = .ok (.ifCond .eq 97, 3) := dk_153 0 97 (dk_at dksX7_isCured_1 3 rfl rfl)
theorem dX7_isCured_28 : decode cX7_isCured 28 = .ok (.aload_n 0, 1) := dk_42 (dk_at dksX7_isCured_1 6 rfl rfl)
theorem dX7_isCured_29 : decode cX7_isCured 29 = .ok (.iload_n 3, 1) := dk_29 (dk_at dksX7_isCured_1 7 rfl rfl)
theorem dX7_isCured_30 : decode cX7_isCured 30 = .ok (.putfield 216, 3) := dk_181 0 216 (dk_at dksX7_isCured_1 8 rfl rfl)
theorem dX7_isCured_33 : decode cX7_isCured 33 = .ok (.iload_n 2, 1) := dk_28 (dk_at dksX7_isCured_1 11 rfl rfl)
theorem dX7_isCured_34 : decode cX7_isCured 34 = .ok (.iconst 1, 1) := dk_4 (dk_at dksX7_isCured_1 12 rfl rfl)
theorem dX7_isCured_35 : decode cX7_isCured 35 = .ok (.if_icmp .ne 20, 3) := dk_160 0 20 (dk_at dksX7_isCured_1 13 rfl rfl)
theorem dX7_isCured_38 : decode cX7_isCured 38 = .ok (.aload_n 0, 1) := dk_42 (dk_at dksX7_isCured_1 16 rfl rfl)
theorem dX7_isCured_39 : decode cX7_isCured 39 = .ok (.getfield 7, 3) := dk_180 0 7 (dk_at dksX7_isCured_1 17 rfl rfl)
theorem dX7_isCured_42 : decode cX7_isCured 42 = .ok (.sipush 350, 3) := dk_17 1 94 (dk_at dksX7_isCured_1 20 rfl rfl)
theorem dX7_isCured_45 : decode cX7_isCured 45 = .ok (.iload_n 1, 1) := dk_27 (dk_at dksX7_isCured_1 23 rfl rfl)
theorem dX7_isCured_46 : decode cX7_isCured 46 = .ok (.iadd, 1) := dk_96 (dk_at dksX7_isCured_2 0 rfl rfl)
theorem dX7_isCured_47 : decode cX7_isCured 47 = .ok (.iaload, 1) := dk_46 (dk_at dksX7_isCured_2 1 rfl rfl)
theorem dX7_isCured_48 : decode cX7_isCured 48 = .ok (.bipush 50, 2) := dk_16 50 (dk_at dksX7_isCured_2 2 rfl rfl)
theorem dX7_isCured_50 : decode cX7_isCured 50 = .ok (.if_icmp .ne 5, 3) := dk_160 0 5 (dk_at dksX7_isCured_2 4 rfl rfl)
theorem dX7_isCured_53 : decode cX7_isCured 53 = .ok (.iconst 1, 1) := dk_4 (dk_at dksX7_isCured_2 7 rfl rfl)
theorem dX7_isCured_54 : decode cX7_isCured 54 = .ok (.ireturn, 1) := dk_172 (dk_at dksX7_isCured_2 8 rfl rfl)
theorem dX7_isCured_55 : decode cX7_isCured 55 = .ok (.iconst 0, 1) := dk_3 (dk_at dksX7_isCured_2 9 rfl rfl)
theorem dX7_isCured_56 : decode cX7_isCured 56 = .ok (.istore 4, 2) := dk_54 4 (dk_at dksX7_isCured_2 10 rfl rfl)
theorem dX7_isCured_58 : decode cX7_isCured 58 = .ok (.iload 4, 2) := dk_21 4 (dk_at dksX7_isCured_2 12 rfl rfl)
theorem dX7_isCured_60 : decode cX7_isCured 60 = .ok (.sipush 500, 3) := dk_17 1 244 (dk_at dksX7_isCured_2 14 rfl rfl)
theorem dX7_isCured_63 : decode cX7_isCured 63 = .ok (.if_icmp .ge 59, 3) := dk_162 0 59 (dk_at dksX7_isCured_2 17 rfl rfl)
theorem dX7_isCured_66 : decode cX7_isCured 66 = .ok (.iload_n 2, 1) := dk_28 (dk_at dksX7_isCured_2 20 rfl rfl)
theorem dX7_isCured_67 : decode cX7_isCured 67 = .ok (.iconst 2, 1) := dk_5 (dk_at dksX7_isCured_2 21 rfl rfl)
theorem dX7_isCured_68 : decode cX7_isCured 68 = .ok (.if_icmp .ne 54, 3) := dk_160 0 54 (dk_at dksX7_isCured_3 0 rfl rfl)
theorem dX7_isCured_71 : decode cX7_isCured 71 = .ok (.aload_n 0, 1) := dk_42 (dk_at dksX7_isCured_3 3 rfl rfl)
theorem dX7_isCured_72 : decode cX7_isCured 72 = .ok (.sipush 335, 3) := dk_17 1 79 (dk_at dksX7_isCured_3 4 rfl rfl)
theorem dX7_isCured_75 : decode cX7_isCured 75 = .ok (.sipush 268, 3) := dk_17 1 12 (dk_at dksX7_isCured_3 7 rfl rfl)
theorem dX7_isCured_78 : decode cX7_isCured 78 = .ok (.invokevirtual 189, 3) := dk_182 0 189 (dk_at dksX7_isCured_3 10 rfl rfl)
theorem dX7_isCured_81 : decode cX7_isCured 81 = .ok (.aload_n 0, 1) := dk_42 (dk_at dksX7_isCured_3 13 rfl rfl)
theorem dX7_isCured_82 : decode cX7_isCured 82 = .ok (.sipush 268, 3) := dk_17 1 12 (dk_at dksX7_isCured_3 14 rfl rfl)
theorem dX7_isCured_85 : decode cX7_isCured 85 = .ok (.iload 4, 2) := dk_21 4 (dk_at dksX7_isCured_3 17 rfl rfl)
theorem dX7_isCured_87 : decode cX7_isCured 87 = .ok (.invokevirtual 222, 3) := dk_182 0 222 (dk_at dksX7_isCured_3 19 rfl rfl)
theorem dX7_isCured_90 : decode cX7_isCured 90 = .ok (.ifCond .eq 26, 3) := dk_153 0 26 (dk_at dksX7_isCured_4 0 rfl rfl)
theorem dX7_isCured_93 : decode cX7_isCured 93 = .ok (.aload_n 0, 1) := dk_42 (dk_at dksX7_isCured_4 3 rfl rfl)
theorem dX7_isCured_94 : decode cX7_isCured 94 = .ok (.getfield 7, 3) := dk_180 0 7 (dk_at dksX7_isCured_4 4 rfl rfl)
theorem dX7_isCured_97 : decode cX7_isCured 97 = .ok (.sipush 283, 3) := dk_17 1 27 (dk_at dksX7_isCured_4 7 rfl rfl)
theorem dX7_isCured_100 : decode cX7_isCured 100 = .ok (.iload_n 1, 1) := dk_27 (dk_at dksX7_isCured_4 10 rfl rfl)
theorem dX7_isCured_101 : decode cX7_isCured 101 = .ok (.iadd, 1) := dk_96 (dk_at dksX7_isCured_4 11 rfl rfl)
theorem dX7_isCured_102 : decode cX7_isCured 102 = .ok (.iaload, 1) := dk_46 (dk_at dksX7_isCured_4 12 rfl rfl)
theorem dX7_isCured_103 : decode cX7_isCured 103 = .ok (.bipush 50, 2) := dk_16 50 (dk_at dksX7_isCured_4 13 rfl rfl)
theorem dX7_isCured_105 : decode cX7_isCured 105 = .ok (.if_icmp .ne 11, 3) := dk_160 0 11 (dk_at dksX7_isCured_4 15 rfl rfl)
theorem dX7_isCured_108 : decode cX7_isCured 108 = .ok (.aload_n 0, 1) := dk_42 (dk_at dksX7_isCured_4 18 rfl rfl)
theorem dX7_isCured_109 : decode cX7_isCured 109 = .ok (.iload 4, 2) := dk_21 4 (dk_at dksX7_isCured_4 19 rfl rfl)
theorem dX7_isCured_111 : decode cX7_isCured 111 = .ok (.putfield 219, 3) := dk_181 0 219 (dk_at dksX7_isCured_4 21 rfl rfl)
theorem dX7_isCured_114 : decode cX7_isCured 114 = .ok (.iconst 1, 1) := dk_4 (dk_at dksX7_isCured_5 0 rfl rfl)
theorem dX7_isCured_115 : decode cX7_isCured 115 = .ok (.ireturn, 1) := dk_172 (dk_at dksX7_isCured_5 1 rfl rfl)
theorem dX7_isCured_116 : decode cX7_isCured 116 = .ok (.iinc 4 1, 3) := dk_132 4 1 (dk_at dksX7_isCured_5 2 rfl rfl)
theorem dX7_isCured_119 : decode cX7_isCured 119 = .ok (.goto (-61), 3) := dk_167 255 195 (dk_at dksX7_isCured_5 5 rfl rfl)
theorem dX7_isCured_122 : decode cX7_isCured 122 = .ok (.iinc 3 1, 3) := dk_132 3 1 (dk_at dksX7_isCured_5 8 rfl rfl)
theorem dX7_isCured_125 : decode cX7_isCured 125 = .ok (.goto (-123), 3) := dk_167 255 133 (dk_at dksX7_isCured_5 11 rfl rfl)
theorem dX7_isCured_128 : decode cX7_isCured 128 = .ok (.iconst 0, 1) := dk_3 (dk_at dksX7_isCured_5 14 rfl rfl)
theorem dX7_isCured_129 : decode cX7_isCured 129 = .ok (.ireturn, 1) := dk_172 (dk_at dksX7_isCured_5 15 rfl rfl)
abbrev cX7_leave : ByteArray := prog_11_method_56_code
def yX7_leave : MethodName := ⟨RX7, "leave", "(I)I"⟩
def dkwX7_leave_4 : List UInt8 := [167, 255, 195, 29, 16, 252, 159, 0, 7, 27, 154, 0, 7, 29, 167, 0, 4, 28, 172]
abbrev dktX7_leave_4 : List UInt8 := dkwX7_leave_4 ++ []
def dkwX7_leave_3 : List UInt8 := [21, 4, 167, 0, 4, 29, 62, 21, 5, 28, 164, 0, 8, 21, 5, 167, 0, 4, 28, 61, 132, 4, 1]
abbrev dktX7_leave_3 : List UInt8 := dkwX7_leave_3 ++ dktX7_leave_4
def dkwX7_leave_2 : List UInt8 := [21, 4, 120, 182, 0, 199, 42, 17, 1, 12, 182, 0, 150, 184, 0, 204, 54, 5, 21, 5, 28, 164, 0, 8]
abbrev dktX7_leave_2 : List UInt8 := dkwX7_leave_2 ++ dktX7_leave_3
def dkwX7_leave_1 : List UInt8 := [184, 0, 204, 61, 16, 252, 62, 3, 54, 4, 21, 4, 42, 180, 0, 7, 16, 66, 46, 162, 0, 55, 42, 4]
abbrev dktX7_leave_1 : List UInt8 := dkwX7_leave_1 ++ dktX7_leave_2
def dkwX7_leave_0 : List UInt8 := [27, 133, 9, 10, 184, 0, 46, 154, 0, 5, 2, 172, 42, 3, 182, 0, 199, 42, 17, 1, 12, 182, 0, 150]
abbrev dktX7_leave_0 : List UInt8 := dkwX7_leave_0 ++ dktX7_leave_1
theorem dksX7_leave_0 : cX7_leave.data.toList.drop 0 = dktX7_leave_0 := by decide +kernel
theorem dksX7_leave_1 : cX7_leave.data.toList.drop 24 = dktX7_leave_1 := dk_seg dksX7_leave_0 24 rfl rfl
theorem dksX7_leave_2 : cX7_leave.data.toList.drop 48 = dktX7_leave_2 := dk_seg dksX7_leave_1 24 rfl rfl
theorem dksX7_leave_3 : cX7_leave.data.toList.drop 72 = dktX7_leave_3 := dk_seg dksX7_leave_2 24 rfl rfl
theorem dksX7_leave_4 : cX7_leave.data.toList.drop 95 = dktX7_leave_4 := dk_seg dksX7_leave_3 23 rfl rfl
theorem dX7_leave_0 : decode cX7_leave 0 = .ok (.iload_n 1, 1) := dk_27 (dk_at dksX7_leave_0 0 rfl rfl)
theorem dX7_leave_1 : decode cX7_leave 1 = .ok (.i2l, 1) := dk_133 (dk_at dksX7_leave_0 1 rfl rfl)
theorem dX7_leave_2 : decode cX7_leave 2 = .ok (.lconst 0, 1) := dk_9 (dk_at dksX7_leave_0 2 rfl rfl)
theorem dX7_leave_3 : decode cX7_leave 3 = .ok (.lconst 1, 1) := dk_10 (dk_at dksX7_leave_0 3 rfl rfl)
theorem dX7_leave_4 : decode cX7_leave 4 = .ok (.invokestatic 46, 3) := dk_184 0 46 (dk_at dksX7_leave_0 4 rfl rfl)
theorem dX7_leave_7 : decode cX7_leave 7 = .ok (.ifCond .ne 5, 3) := dk_154 0 5 (dk_at dksX7_leave_0 7 rfl rfl)
theorem dX7_leave_10 : decode cX7_leave 10 = .ok (.iconst (-1), 1) := dk_2 (dk_at dksX7_leave_0 10 rfl rfl)
theorem dX7_leave_11 : decode cX7_leave 11 = .ok (.ireturn, 1) := dk_172 (dk_at dksX7_leave_0 11 rfl rfl)
theorem dX7_leave_12 : decode cX7_leave 12 = .ok (.aload_n 0, 1) := dk_42 (dk_at dksX7_leave_0 12 rfl rfl)
theorem dX7_leave_13 : decode cX7_leave 13 = .ok (.iconst 0, 1) := dk_3 (dk_at dksX7_leave_0 13 rfl rfl)
theorem dX7_leave_14 : decode cX7_leave 14 = .ok (.invokevirtual 199, 3) := dk_182 0 199 (dk_at dksX7_leave_0 14 rfl rfl)
theorem dX7_leave_17 : decode cX7_leave 17 = .ok (.aload_n 0, 1) := dk_42 (dk_at dksX7_leave_0 17 rfl rfl)
theorem dX7_leave_18 : decode cX7_leave 18 = .ok (.sipush 268, 3) := dk_17 1 12 (dk_at dksX7_leave_0 18 rfl rfl)
theorem dX7_leave_21 : decode cX7_leave 21 = .ok (.invokevirtual 150, 3) := dk_182 0 150 (dk_at dksX7_leave_0 21 rfl rfl)
theorem dX7_leave_24 : decode cX7_leave 24 = .ok (.invokestatic 204, 3) := dk_184 0 204 (dk_at dksX7_leave_1 0 rfl rfl)
theorem dX7_leave_27 : decode cX7_leave 27 = .ok (.istore_n 2, 1) := dk_61 (dk_at dksX7_leave_1 3 rfl rfl)
theorem dX7_leave_28 : decode cX7_leave 28 = .ok (.bipush (-4), 2) := dk_16 252 (dk_at dksX7_leave_1 4 rfl rfl)
theorem dX7_leave_30 : decode cX7_leave 30 = .ok (.istore_n 3, 1) := dk_62 (dk_at dksX7_leave_1 6 rfl rfl)
theorem dX7_leave_31 : decode cX7_leave 31 = .ok (.iconst 0, 1) := dk_3 (dk_at dksX7_leave_1 7 rfl rfl)
theorem dX7_leave_32 : decode cX7_leave 32 = .ok (.istore 4, 2) := dk_54 4 (dk_at dksX7_leave_1 8 rfl rfl)
theorem dX7_leave_34 : decode cX7_leave 34 = .ok (.iload 4, 2) := dk_21 4 (dk_at dksX7_leave_1 10 rfl rfl)
theorem dX7_leave_36 : decode cX7_leave 36 = .ok (.aload_n 0, 1) := dk_42 (dk_at dksX7_leave_1 12 rfl rfl)
theorem dX7_leave_37 : decode cX7_leave 37 = .ok (.getfield 7, 3) := dk_180 0 7 (dk_at dksX7_leave_1 13 rfl rfl)
theorem dX7_leave_40 : decode cX7_leave 40 = .ok (.bipush 66, 2) := dk_16 66 (dk_at dksX7_leave_1 16 rfl rfl)
theorem dX7_leave_42 : decode cX7_leave 42 = .ok (.iaload, 1) := dk_46 (dk_at dksX7_leave_1 18 rfl rfl)
theorem dX7_leave_43 : decode cX7_leave 43 = .ok (.if_icmp .ge 55, 3) := dk_162 0 55 (dk_at dksX7_leave_1 19 rfl rfl)
theorem dX7_leave_46 : decode cX7_leave 46 = .ok (.aload_n 0, 1) := dk_42 (dk_at dksX7_leave_1 22 rfl rfl)
theorem dX7_leave_47 : decode cX7_leave 47 = .ok (.iconst 1, 1) := dk_4 (dk_at dksX7_leave_1 23 rfl rfl)
theorem dX7_leave_48 : decode cX7_leave 48 = .ok (.iload 4, 2) := dk_21 4 (dk_at dksX7_leave_2 0 rfl rfl)
theorem dX7_leave_50 : decode cX7_leave 50 = .ok (.ishl, 1) := dk_120 (dk_at dksX7_leave_2 2 rfl rfl)
theorem dX7_leave_51 : decode cX7_leave 51 = .ok (.invokevirtual 199, 3) := dk_182 0 199 (dk_at dksX7_leave_2 3 rfl rfl)
theorem dX7_leave_54 : decode cX7_leave 54 = .ok (.aload_n 0, 1) := dk_42 (dk_at dksX7_leave_2 6 rfl rfl)
theorem dX7_leave_55 : decode cX7_leave 55 = .ok (.sipush 268, 3) := dk_17 1 12 (dk_at dksX7_leave_2 7 rfl rfl)
theorem dX7_leave_58 : decode cX7_leave 58 = .ok (.invokevirtual 150, 3) := dk_182 0 150 (dk_at dksX7_leave_2 10 rfl rfl)
theorem dX7_leave_61 : decode cX7_leave 61 = .ok (.invokestatic 204, 3) := dk_184 0 204 (dk_at dksX7_leave_2 13 rfl rfl)
theorem dX7_leave_64 : decode cX7_leave 64 = .ok (.istore 5, 2) := dk_54 5 (dk_at dksX7_leave_2 16 rfl rfl)
theorem dX7_leave_66 : decode cX7_leave 66 = .ok (.iload 5, 2) := dk_21 5 (dk_at dksX7_leave_2 18 rfl rfl)
theorem dX7_leave_68 : decode cX7_leave 68 = .ok (.iload_n 2, 1) := dk_28 (dk_at dksX7_leave_2 20 rfl rfl)
theorem dX7_leave_69 : decode cX7_leave 69 = .ok (.if_icmp .le 8, 3) := dk_164 0 8 (dk_at dksX7_leave_2 21 rfl rfl)
theorem dX7_leave_72 : decode cX7_leave 72 = .ok (.iload 4, 2) := dk_21 4 (dk_at dksX7_leave_3 0 rfl rfl)
theorem dX7_leave_74 : decode cX7_leave 74 = .ok (.goto 4, 3) := dk_167 0 4 (dk_at dksX7_leave_3 2 rfl rfl)
theorem dX7_leave_77 : decode cX7_leave 77 = .ok (.iload_n 3, 1) := dk_29 (dk_at dksX7_leave_3 5 rfl rfl)
theorem dX7_leave_78 : decode cX7_leave 78 = .ok (.istore_n 3, 1) := dk_62 (dk_at dksX7_leave_3 6 rfl rfl)
theorem dX7_leave_79 : decode cX7_leave 79 = .ok (.iload 5, 2) := dk_21 5 (dk_at dksX7_leave_3 7 rfl rfl)
theorem dX7_leave_81 : decode cX7_leave 81 = .ok (.iload_n 2, 1) := dk_28 (dk_at dksX7_leave_3 9 rfl rfl)
theorem dX7_leave_82 : decode cX7_leave 82 = .ok (.if_icmp .le 8, 3) := dk_164 0 8 (dk_at dksX7_leave_3 10 rfl rfl)
theorem dX7_leave_85 : decode cX7_leave 85 = .ok (.iload 5, 2) := dk_21 5 (dk_at dksX7_leave_3 13 rfl rfl)
theorem dX7_leave_87 : decode cX7_leave 87 = .ok (.goto 4, 3) := dk_167 0 4 (dk_at dksX7_leave_3 15 rfl rfl)
theorem dX7_leave_90 : decode cX7_leave 90 = .ok (.iload_n 2, 1) := dk_28 (dk_at dksX7_leave_3 18 rfl rfl)
theorem dX7_leave_91 : decode cX7_leave 91 = .ok (.istore_n 2, 1) := dk_61 (dk_at dksX7_leave_3 19 rfl rfl)
theorem dX7_leave_92 : decode cX7_leave 92 = .ok (.iinc 4 1, 3) := dk_132 4 1 (dk_at dksX7_leave_3 20 rfl rfl)
theorem dX7_leave_95 : decode cX7_leave 95 = .ok (.goto (-61), 3) := dk_167 255 195 (dk_at dksX7_leave_4 0 rfl rfl)
theorem dX7_leave_98 : decode cX7_leave 98 = .ok (.iload_n 3, 1) := dk_29 (dk_at dksX7_leave_4 3 rfl rfl)
theorem dX7_leave_99 : decode cX7_leave 99 = .ok (.bipush (-4), 2) := dk_16 252 (dk_at dksX7_leave_4 4 rfl rfl)
theorem dX7_leave_101 : decode cX7_leave 101 = .ok (.if_icmp .eq 7, 3) := dk_159 0 7 (dk_at dksX7_leave_4 6 rfl rfl)
theorem dX7_leave_104 : decode cX7_leave 104 = .ok (.iload_n 1, 1) := dk_27 (dk_at dksX7_leave_4 9 rfl rfl)
theorem dX7_leave_105 : decode cX7_leave 105 = .ok (.ifCond .ne 7, 3) := dk_154 0 7 (dk_at dksX7_leave_4 10 rfl rfl)
theorem dX7_leave_108 : decode cX7_leave 108 = .ok (.iload_n 3, 1) := dk_29 (dk_at dksX7_leave_4 13 rfl rfl)
theorem dX7_leave_109 : decode cX7_leave 109 = .ok (.goto 4, 3) := dk_167 0 4 (dk_at dksX7_leave_4 14 rfl rfl)
theorem dX7_leave_112 : decode cX7_leave 112 = .ok (.iload_n 2, 1) := dk_28 (dk_at dksX7_leave_4 17 rfl rfl)
theorem dX7_leave_113 : decode cX7_leave 113 = .ok (.ireturn, 1) := dk_172 (dk_at dksX7_leave_4 18 rfl rfl)
abbrev cX7_luck : ByteArray := prog_11_method_59_code
def yX7_luck : MethodName := ⟨RX7, "luck", "(III)J"⟩
def dkwX7_luck_1 : List UInt8 := [184, 0, 46, 153, 0, 13, 42, 27, 28, 29, 182, 0, 243, 167, 0, 6, 20, 0, 247, 173]
abbrev dktX7_luck_1 : List UInt8 := dkwX7_luck_1 ++ []
def dkwX7_luck_0 : List UInt8 := [27, 133, 9, 20, 0, 229, 184, 0, 46, 153, 0, 31, 42, 28, 182, 0, 132, 153, 0, 23, 29, 133, 9, 10]
abbrev dktX7_luck_0 : List UInt8 := dkwX7_luck_0 ++ dktX7_luck_1
theorem dksX7_luck_0 : cX7_luck.data.toList.drop 0 = dktX7_luck_0 := by decide +kernel
theorem dksX7_luck_1 : cX7_luck.data.toList.drop 24 = dktX7_luck_1 := dk_seg dksX7_luck_0 24 rfl rfl
theorem dX7_luck_0 : decode cX7_luck 0 = .ok (.iload_n 1, 1) := dk_27 (dk_at dksX7_luck_0 0 rfl rfl)
theorem dX7_luck_1 : decode cX7_luck 1 = .ok (.i2l, 1) := dk_133 (dk_at dksX7_luck_0 1 rfl rfl)
theorem dX7_luck_2 : decode cX7_luck 2 = .ok (.lconst 0, 1) := dk_9 (dk_at dksX7_luck_0 2 rfl rfl)
theorem dX7_luck_3 : decode cX7_luck 3 = .ok (.ldc2_w 229, 3) := dk_20 0 229 (dk_at dksX7_luck_0 3 rfl rfl)
theorem dX7_luck_6 : decode cX7_luck 6 = .ok (.invokestatic 46, 3) := dk_184 0 46 (dk_at dksX7_luck_0 6 rfl rfl)
theorem dX7_luck_9 : decode cX7_luck 9 = .ok (.ifCond .eq 31, 3) := dk_153 0 31 (dk_at dksX7_luck_0 9 rfl rfl)
theorem dX7_luck_12 : decode cX7_luck 12 = .ok (.aload_n 0, 1) := dk_42 (dk_at dksX7_luck_0 12 rfl rfl)
theorem dX7_luck_13 : decode cX7_luck 13 = .ok (.iload_n 2, 1) := dk_28 (dk_at dksX7_luck_0 13 rfl rfl)
theorem dX7_luck_14 : decode cX7_luck 14 = .ok (.invokevirtual 132, 3) := dk_182 0 132 (dk_at dksX7_luck_0 14 rfl rfl)
theorem dX7_luck_17 : decode cX7_luck 17 = .ok (.ifCond .eq 23, 3) := dk_153 0 23 (dk_at dksX7_luck_0 17 rfl rfl)
theorem dX7_luck_20 : decode cX7_luck 20 = .ok (.iload_n 3, 1) := dk_29 (dk_at dksX7_luck_0 20 rfl rfl)
theorem dX7_luck_21 : decode cX7_luck 21 = .ok (.i2l, 1) := dk_133 (dk_at dksX7_luck_0 21 rfl rfl)
theorem dX7_luck_22 : decode cX7_luck 22 = .ok (.lconst 0, 1) := dk_9 (dk_at dksX7_luck_0 22 rfl rfl)
theorem dX7_luck_23 : decode cX7_luck 23 = .ok (.lconst 1, 1) := dk_10 (dk_at dksX7_luck_0 23 rfl rfl)
theorem dX7_luck_24 : decode cX7_luck 24 = .ok (.invokestatic 46, 3) := dk_184 0 46 (dk_at dksX7_luck_1 0 rfl rfl)
theorem dX7_luck_27 : decode cX7_luck 27 = .ok (.ifCond .eq 13, 3) := dk_153 0 13 (dk_at dksX7_luck_1 3 rfl rfl)
theorem dX7_luck_30 : decode cX7_luck 30 = .ok (.aload_n 0, 1) := dk_42 (dk_at dksX7_luck_1 6 rfl rfl)
theorem dX7_luck_31 : decode cX7_luck 31 = .ok (.iload_n 1, 1) := dk_27 (dk_at dksX7_luck_1 7 rfl rfl)
theorem dX7_luck_32 : decode cX7_luck 32 = .ok (.iload_n 2, 1) := dk_28 (dk_at dksX7_luck_1 8 rfl rfl)
theorem dX7_luck_33 : decode cX7_luck 33 = .ok (.iload_n 3, 1) := dk_29 (dk_at dksX7_luck_1 9 rfl rfl)
theorem dX7_luck_34 : decode cX7_luck 34 = .ok (.invokevirtual 243, 3) := dk_182 0 243 (dk_at dksX7_luck_1 10 rfl rfl)
theorem dX7_luck_37 : decode cX7_luck 37 = .ok (.goto 6, 3) := dk_167 0 6 (dk_at dksX7_luck_1 13 rfl rfl)
theorem dX7_luck_40 : decode cX7_luck 40 = .ok (.ldc2_w 247, 3) := dk_20 0 247 (dk_at dksX7_luck_1 16 rfl rfl)
theorem dX7_luck_43 : decode cX7_luck 43 = .ok (.lreturn, 1) := dk_173 (dk_at dksX7_luck_1 19 rfl rfl)
abbrev cX7_byRejected : ByteArray := prog_11_method_58_code
def yX7_byRejected : MethodName := ⟨RX7, "byRejected", "(III)J"⟩
def dkwX7_byRejected_10 : List UInt8 := [29, 184, 0, 239, 173]
abbrev dktX7_byRejected_10 : List UInt8 := dkwX7_byRejected_10 ++ []
def dkwX7_byRejected_9 : List UInt8 := [167, 0, 9, 21, 12, 28, 122, 4, 126, 133, 105, 97, 55, 5, 132, 9, 1, 167, 255, 133, 22, 5, 22, 7]
abbrev dktX7_byRejected_9 : List UInt8 := dkwX7_byRejected_9 ++ dktX7_byRejected_10
def dkwX7_byRejected_8 : List UInt8 := [42, 17, 1, 12, 182, 0, 150, 54, 12, 22, 5, 22, 10, 28, 16, 252, 160, 0, 11, 21, 12, 184, 0, 204]
abbrev dktX7_byRejected_8 : List UInt8 := dkwX7_byRejected_8 ++ dktX7_byRejected_9
def dkwX7_byRejected_7 : List UInt8 := [133, 167, 0, 8, 16, 10, 27, 100, 133, 105, 55, 10, 132, 12, 1, 167, 255, 206, 42, 21, 9, 182, 0, 199]
abbrev dktX7_byRejected_7 : List UInt8 := dkwX7_byRejected_7 ++ dktX7_byRejected_8
def dkwX7_byRejected_6 : List UInt8 := [21, 12, 122, 4, 126, 154, 0, 7, 10, 167, 0, 24, 21, 9, 21, 12, 122, 4, 126, 4, 160, 0, 8, 27]
abbrev dktX7_byRejected_6 : List UInt8 := dkwX7_byRejected_6 ++ dktX7_byRejected_7
def dkwX7_byRejected_5 : List UInt8 := [2, 130, 126, 154, 0, 106, 10, 55, 10, 3, 54, 12, 21, 12, 16, 6, 162, 0, 49, 22, 10, 21, 4]
abbrev dktX7_byRejected_5 : List UInt8 := dkwX7_byRejected_5 ++ dktX7_byRejected_6
def dkwX7_byRejected_4 : List UInt8 := [10, 105, 55, 7, 132, 9, 1, 167, 255, 223, 3, 54, 9, 21, 9, 16, 64, 162, 0, 122, 21, 9, 21, 4]
abbrev dktX7_byRejected_4 : List UInt8 := dkwX7_byRejected_4 ++ dktX7_byRejected_5
def dkwX7_byRejected_3 : List UInt8 := [16, 6, 162, 0, 32, 22, 7, 21, 4, 21, 9, 122, 4, 126, 4, 160, 0, 9, 20, 0, 229, 167, 0, 4]
abbrev dktX7_byRejected_3 : List UInt8 := dkwX7_byRejected_3 ++ dktX7_byRejected_4
def dkwX7_byRejected_2 : List UInt8 := [167, 0, 4, 3, 128, 54, 4, 132, 5, 1, 167, 255, 205, 9, 55, 5, 10, 55, 7, 3, 54, 9, 21, 9]
abbrev dktX7_byRejected_2 : List UInt8 := dkwX7_byRejected_2 ++ dktX7_byRejected_3
def dkwX7_byRejected_1 : List UInt8 := [42, 180, 0, 7, 16, 48, 6, 21, 5, 104, 96, 4, 96, 46, 46, 4, 160, 0, 10, 4, 21, 5, 120]
abbrev dktX7_byRejected_1 : List UInt8 := dkwX7_byRejected_1 ++ dktX7_byRejected_2
def dkwX7_byRejected_0 : List UInt8 := [3, 54, 4, 3, 54, 5, 21, 5, 42, 180, 0, 7, 16, 66, 46, 162, 0, 45, 21, 4, 42, 180, 0, 7]
abbrev dktX7_byRejected_0 : List UInt8 := dkwX7_byRejected_0 ++ dktX7_byRejected_1
theorem dksX7_byRejected_0 : cX7_byRejected.data.toList.drop 0 = dktX7_byRejected_0 := by decide +kernel
theorem dksX7_byRejected_1 : cX7_byRejected.data.toList.drop 24 = dktX7_byRejected_1 := dk_seg dksX7_byRejected_0 24 rfl rfl
theorem dksX7_byRejected_2 : cX7_byRejected.data.toList.drop 47 = dktX7_byRejected_2 := dk_seg dksX7_byRejected_1 23 rfl rfl
theorem dksX7_byRejected_3 : cX7_byRejected.data.toList.drop 71 = dktX7_byRejected_3 := dk_seg dksX7_byRejected_2 24 rfl rfl
theorem dksX7_byRejected_4 : cX7_byRejected.data.toList.drop 95 = dktX7_byRejected_4 := dk_seg dksX7_byRejected_3 24 rfl rfl
theorem dksX7_byRejected_5 : cX7_byRejected.data.toList.drop 119 = dktX7_byRejected_5 := dk_seg dksX7_byRejected_4 24 rfl rfl
theorem dksX7_byRejected_6 : cX7_byRejected.data.toList.drop 142 = dktX7_byRejected_6 := dk_seg dksX7_byRejected_5 23 rfl rfl
theorem dksX7_byRejected_7 : cX7_byRejected.data.toList.drop 166 = dktX7_byRejected_7 := dk_seg dksX7_byRejected_6 24 rfl rfl
theorem dksX7_byRejected_8 : cX7_byRejected.data.toList.drop 190 = dktX7_byRejected_8 := dk_seg dksX7_byRejected_7 24 rfl rfl
theorem dksX7_byRejected_9 : cX7_byRejected.data.toList.drop 214 = dktX7_byRejected_9 := dk_seg dksX7_byRejected_8 24 rfl rfl
theorem dksX7_byRejected_10 : cX7_byRejected.data.toList.drop 238 = dktX7_byRejected_10 := dk_seg dksX7_byRejected_9 24 rfl rfl
theorem dX7_byRejected_0 : decode cX7_byRejected 0 = .ok (.iconst 0, 1) := dk_3 (dk_at dksX7_byRejected_0 0 rfl rfl)
theorem dX7_byRejected_1 : decode cX7_byRejected 1 = .ok (.istore 4, 2) := dk_54 4 (dk_at dksX7_byRejected_0 1 rfl rfl)
theorem dX7_byRejected_3 : decode cX7_byRejected 3 = .ok (.iconst 0, 1) := dk_3 (dk_at dksX7_byRejected_0 3 rfl rfl)
theorem dX7_byRejected_4 : decode cX7_byRejected 4 = .ok (.istore 5, 2) := dk_54 5 (dk_at dksX7_byRejected_0 4 rfl rfl)
theorem dX7_byRejected_6 : decode cX7_byRejected 6 = .ok (.iload 5, 2) := dk_21 5 (dk_at dksX7_byRejected_0 6 rfl rfl)
theorem dX7_byRejected_8 : decode cX7_byRejected 8 = .ok (.aload_n 0, 1) := dk_42 (dk_at dksX7_byRejected_0 8 rfl rfl)
theorem dX7_byRejected_9 : decode cX7_byRejected 9 = .ok (.getfield 7, 3) := dk_180 0 7 (dk_at dksX7_byRejected_0 9 rfl rfl)
theorem dX7_byRejected_12 : decode cX7_byRejected 12 = .ok (.bipush 66, 2) := dk_16 66 (dk_at dksX7_byRejected_0 12 rfl rfl)
theorem dX7_byRejected_14 : decode cX7_byRejected 14 = .ok (.iaload, 1) := dk_46 (dk_at dksX7_byRejected_0 14 rfl rfl)
theorem dX7_byRejected_15 : decode cX7_byRejected 15 = .ok (.if_icmp .ge 45, 3) := dk_162 0 45 (dk_at dksX7_byRejected_0 15 rfl rfl)
theorem dX7_byRejected_18 : decode cX7_byRejected 18 = .ok (.iload 4, 2) := dk_21 4 (dk_at dksX7_byRejected_0 18 rfl rfl)
theorem dX7_byRejected_20 : decode cX7_byRejected 20 = .ok (.aload_n 0, 1) := dk_42 (dk_at dksX7_byRejected_0 20 rfl rfl)
theorem dX7_byRejected_21 : decode cX7_byRejected 21 = .ok (.getfield 7, 3) := dk_180 0 7 (dk_at dksX7_byRejected_0 21 rfl rfl)
theorem dX7_byRejected_24 : decode cX7_byRejected 24 = .ok (.aload_n 0, 1) := dk_42 (dk_at dksX7_byRejected_1 0 rfl rfl)
theorem dX7_byRejected_25 : decode cX7_byRejected 25 = .ok (.getfield 7, 3) := dk_180 0 7 (dk_at dksX7_byRejected_1 1 rfl rfl)
theorem dX7_byRejected_28 : decode cX7_byRejected 28 = .ok (.bipush 48, 2) := dk_16 48 (dk_at dksX7_byRejected_1 4 rfl rfl)
theorem dX7_byRejected_30 : decode cX7_byRejected 30 = .ok (.iconst 3, 1) := dk_6 (dk_at dksX7_byRejected_1 6 rfl rfl)
theorem dX7_byRejected_31 : decode cX7_byRejected 31 = .ok (.iload 5, 2) := dk_21 5 (dk_at dksX7_byRejected_1 7 rfl rfl)
theorem dX7_byRejected_33 : decode cX7_byRejected 33 = .ok (.imul, 1) := dk_104 (dk_at dksX7_byRejected_1 9 rfl rfl)
theorem dX7_byRejected_34 : decode cX7_byRejected 34 = .ok (.iadd, 1) := dk_96 (dk_at dksX7_byRejected_1 10 rfl rfl)
theorem dX7_byRejected_35 : decode cX7_byRejected 35 = .ok (.iconst 1, 1) := dk_4 (dk_at dksX7_byRejected_1 11 rfl rfl)
theorem dX7_byRejected_36 : decode cX7_byRejected 36 = .ok (.iadd, 1) := dk_96 (dk_at dksX7_byRejected_1 12 rfl rfl)
theorem dX7_byRejected_37 : decode cX7_byRejected 37 = .ok (.iaload, 1) := dk_46 (dk_at dksX7_byRejected_1 13 rfl rfl)
theorem dX7_byRejected_38 : decode cX7_byRejected 38 = .ok (.iaload, 1) := dk_46 (dk_at dksX7_byRejected_1 14 rfl rfl)
theorem dX7_byRejected_39 : decode cX7_byRejected 39 = .ok (.iconst 1, 1) := dk_4 (dk_at dksX7_byRejected_1 15 rfl rfl)
theorem dX7_byRejected_40 : decode cX7_byRejected 40 = .ok (.if_icmp .ne 10, 3) := dk_160 0 10 (dk_at dksX7_byRejected_1 16 rfl rfl)
theorem dX7_byRejected_43 : decode cX7_byRejected 43 = .ok (.iconst 1, 1) := dk_4 (dk_at dksX7_byRejected_1 19 rfl rfl)
theorem dX7_byRejected_44 : decode cX7_byRejected 44 = .ok (.iload 5, 2) := dk_21 5 (dk_at dksX7_byRejected_1 20 rfl rfl)
theorem dX7_byRejected_46 : decode cX7_byRejected 46 = .ok (.ishl, 1) := dk_120 (dk_at dksX7_byRejected_1 22 rfl rfl)
theorem dX7_byRejected_47 : decode cX7_byRejected 47 = .ok (.goto 4, 3) := dk_167 0 4 (dk_at dksX7_byRejected_2 0 rfl rfl)
theorem dX7_byRejected_50 : decode cX7_byRejected 50 = .ok (.iconst 0, 1) := dk_3 (dk_at dksX7_byRejected_2 3 rfl rfl)
theorem dX7_byRejected_51 : decode cX7_byRejected 51 = .ok (.ior, 1) := dk_128 (dk_at dksX7_byRejected_2 4 rfl rfl)
theorem dX7_byRejected_52 : decode cX7_byRejected 52 = .ok (.istore 4, 2) := dk_54 4 (dk_at dksX7_byRejected_2 5 rfl rfl)
theorem dX7_byRejected_54 : decode cX7_byRejected 54 = .ok (.iinc 5 1, 3) := dk_132 5 1 (dk_at dksX7_byRejected_2 7 rfl rfl)
theorem dX7_byRejected_57 : decode cX7_byRejected 57 = .ok (.goto (-51), 3) := dk_167 255 205 (dk_at dksX7_byRejected_2 10 rfl rfl)
theorem dX7_byRejected_60 : decode cX7_byRejected 60 = .ok (.lconst 0, 1) := dk_9 (dk_at dksX7_byRejected_2 13 rfl rfl)
theorem dX7_byRejected_61 : decode cX7_byRejected 61 = .ok (.lstore 5, 2) := dk_55 5 (dk_at dksX7_byRejected_2 14 rfl rfl)
theorem dX7_byRejected_63 : decode cX7_byRejected 63 = .ok (.lconst 1, 1) := dk_10 (dk_at dksX7_byRejected_2 16 rfl rfl)
theorem dX7_byRejected_64 : decode cX7_byRejected 64 = .ok (.lstore 7, 2) := dk_55 7 (dk_at dksX7_byRejected_2 17 rfl rfl)
theorem dX7_byRejected_66 : decode cX7_byRejected 66 = .ok (.iconst 0, 1) := dk_3 (dk_at dksX7_byRejected_2 19 rfl rfl)
theorem dX7_byRejected_67 : decode cX7_byRejected 67 = .ok (.istore 9, 2) := dk_54 9 (dk_at dksX7_byRejected_2 20 rfl rfl)
theorem dX7_byRejected_69 : decode cX7_byRejected 69 = .ok (.iload 9, 2) := dk_21 9 (dk_at dksX7_byRejected_2 22 rfl rfl)
theorem dX7_byRejected_71 : decode cX7_byRejected 71 = .ok (.bipush 6, 2) := dk_16 6 (dk_at dksX7_byRejected_3 0 rfl rfl)
theorem dX7_byRejected_73 : decode cX7_byRejected 73 = .ok (.if_icmp .ge 32, 3) := dk_162 0 32 (dk_at dksX7_byRejected_3 2 rfl rfl)
theorem dX7_byRejected_76 : decode cX7_byRejected 76 = .ok (.lload 7, 2) := dk_22 7 (dk_at dksX7_byRejected_3 5 rfl rfl)
theorem dX7_byRejected_78 : decode cX7_byRejected 78 = .ok (.iload 4, 2) := dk_21 4 (dk_at dksX7_byRejected_3 7 rfl rfl)
theorem dX7_byRejected_80 : decode cX7_byRejected 80 = .ok (.iload 9, 2) := dk_21 9 (dk_at dksX7_byRejected_3 9 rfl rfl)
theorem dX7_byRejected_82 : decode cX7_byRejected 82 = .ok (.ishr, 1) := dk_122 (dk_at dksX7_byRejected_3 11 rfl rfl)
theorem dX7_byRejected_83 : decode cX7_byRejected 83 = .ok (.iconst 1, 1) := dk_4 (dk_at dksX7_byRejected_3 12 rfl rfl)
theorem dX7_byRejected_84 : decode cX7_byRejected 84 = .ok (.iand, 1) := dk_126 (dk_at dksX7_byRejected_3 13 rfl rfl)
theorem dX7_byRejected_85 : decode cX7_byRejected 85 = .ok (.iconst 1, 1) := dk_4 (dk_at dksX7_byRejected_3 14 rfl rfl)
theorem dX7_byRejected_86 : decode cX7_byRejected 86 = .ok (.if_icmp .ne 9, 3) := dk_160 0 9 (dk_at dksX7_byRejected_3 15 rfl rfl)
theorem dX7_byRejected_89 : decode cX7_byRejected 89 = .ok (.ldc2_w 229, 3) := dk_20 0 229 (dk_at dksX7_byRejected_3 18 rfl rfl)
theorem dX7_byRejected_92 : decode cX7_byRejected 92 = .ok (.goto 4, 3) := dk_167 0 4 (dk_at dksX7_byRejected_3 21 rfl rfl)
theorem dX7_byRejected_95 : decode cX7_byRejected 95 = .ok (.lconst 1, 1) := dk_10 (dk_at dksX7_byRejected_4 0 rfl rfl)
theorem dX7_byRejected_96 : decode cX7_byRejected 96 = .ok (.lmul, 1) := dk_105 (dk_at dksX7_byRejected_4 1 rfl rfl)
theorem dX7_byRejected_97 : decode cX7_byRejected 97 = .ok (.lstore 7, 2) := dk_55 7 (dk_at dksX7_byRejected_4 2 rfl rfl)
theorem dX7_byRejected_99 : decode cX7_byRejected 99 = .ok (.iinc 9 1, 3) := dk_132 9 1 (dk_at dksX7_byRejected_4 4 rfl rfl)
theorem dX7_byRejected_102 : decode cX7_byRejected 102 = .ok (.goto (-33), 3) := dk_167 255 223 (dk_at dksX7_byRejected_4 7 rfl rfl)
theorem dX7_byRejected_105 : decode cX7_byRejected 105 = .ok (.iconst 0, 1) := dk_3 (dk_at dksX7_byRejected_4 10 rfl rfl)
theorem dX7_byRejected_106 : decode cX7_byRejected 106 = .ok (.istore 9, 2) := dk_54 9 (dk_at dksX7_byRejected_4 11 rfl rfl)
theorem dX7_byRejected_108 : decode cX7_byRejected 108 = .ok (.iload 9, 2) := dk_21 9 (dk_at dksX7_byRejected_4 13 rfl rfl)
theorem dX7_byRejected_110 : decode cX7_byRejected 110 = .ok (.bipush 64, 2) := dk_16 64 (dk_at dksX7_byRejected_4 15 rfl rfl)
theorem dX7_byRejected_112 : decode cX7_byRejected 112 = .ok (.if_icmp .ge 122, 3) := dk_162 0 122 (dk_at dksX7_byRejected_4 17 rfl rfl)
theorem dX7_byRejected_115 : decode cX7_byRejected 115 = .ok (.iload 9, 2) := dk_21 9 (dk_at dksX7_byRejected_4 20 rfl rfl)
theorem dX7_byRejected_117 : decode cX7_byRejected 117 = .ok (.iload 4, 2) := dk_21 4 (dk_at dksX7_byRejected_4 22 rfl rfl)
theorem dX7_byRejected_119 : decode cX7_byRejected 119 = .ok (.iconst (-1), 1) := dk_2 (dk_at dksX7_byRejected_5 0 rfl rfl)
theorem dX7_byRejected_120 : decode cX7_byRejected 120 = .ok (.ixor, 1) := dk_130 (dk_at dksX7_byRejected_5 1 rfl rfl)
theorem dX7_byRejected_121 : decode cX7_byRejected 121 = .ok (.iand, 1) := dk_126 (dk_at dksX7_byRejected_5 2 rfl rfl)
theorem dX7_byRejected_122 : decode cX7_byRejected 122 = .ok (.ifCond .ne 106, 3) := dk_154 0 106 (dk_at dksX7_byRejected_5 3 rfl rfl)
theorem dX7_byRejected_125 : decode cX7_byRejected 125 = .ok (.lconst 1, 1) := dk_10 (dk_at dksX7_byRejected_5 6 rfl rfl)
theorem dX7_byRejected_126 : decode cX7_byRejected 126 = .ok (.lstore 10, 2) := dk_55 10 (dk_at dksX7_byRejected_5 7 rfl rfl)
theorem dX7_byRejected_128 : decode cX7_byRejected 128 = .ok (.iconst 0, 1) := dk_3 (dk_at dksX7_byRejected_5 9 rfl rfl)
theorem dX7_byRejected_129 : decode cX7_byRejected 129 = .ok (.istore 12, 2) := dk_54 12 (dk_at dksX7_byRejected_5 10 rfl rfl)
theorem dX7_byRejected_131 : decode cX7_byRejected 131 = .ok (.iload 12, 2) := dk_21 12 (dk_at dksX7_byRejected_5 12 rfl rfl)
theorem dX7_byRejected_133 : decode cX7_byRejected 133 = .ok (.bipush 6, 2) := dk_16 6 (dk_at dksX7_byRejected_5 14 rfl rfl)
theorem dX7_byRejected_135 : decode cX7_byRejected 135 = .ok (.if_icmp .ge 49, 3) := dk_162 0 49 (dk_at dksX7_byRejected_5 16 rfl rfl)
theorem dX7_byRejected_138 : decode cX7_byRejected 138 = .ok (.lload 10, 2) := dk_22 10 (dk_at dksX7_byRejected_5 19 rfl rfl)
theorem dX7_byRejected_140 : decode cX7_byRejected 140 = .ok (.iload 4, 2) := dk_21 4 (dk_at dksX7_byRejected_5 21 rfl rfl)
theorem dX7_byRejected_142 : decode cX7_byRejected 142 = .ok (.iload 12, 2) := dk_21 12 (dk_at dksX7_byRejected_6 0 rfl rfl)
theorem dX7_byRejected_144 : decode cX7_byRejected 144 = .ok (.ishr, 1) := dk_122 (dk_at dksX7_byRejected_6 2 rfl rfl)
theorem dX7_byRejected_145 : decode cX7_byRejected 145 = .ok (.iconst 1, 1) := dk_4 (dk_at dksX7_byRejected_6 3 rfl rfl)
theorem dX7_byRejected_146 : decode cX7_byRejected 146 = .ok (.iand, 1) := dk_126 (dk_at dksX7_byRejected_6 4 rfl rfl)
theorem dX7_byRejected_147 : decode cX7_byRejected 147 = .ok (.ifCond .ne 7, 3) := dk_154 0 7 (dk_at dksX7_byRejected_6 5 rfl rfl)
theorem dX7_byRejected_150 : decode cX7_byRejected 150 = .ok (.lconst 1, 1) := dk_10 (dk_at dksX7_byRejected_6 8 rfl rfl)
theorem dX7_byRejected_151 : decode cX7_byRejected 151 = .ok (.goto 24, 3) := dk_167 0 24 (dk_at dksX7_byRejected_6 9 rfl rfl)
theorem dX7_byRejected_154 : decode cX7_byRejected 154 = .ok (.iload 9, 2) := dk_21 9 (dk_at dksX7_byRejected_6 12 rfl rfl)
theorem dX7_byRejected_156 : decode cX7_byRejected 156 = .ok (.iload 12, 2) := dk_21 12 (dk_at dksX7_byRejected_6 14 rfl rfl)
theorem dX7_byRejected_158 : decode cX7_byRejected 158 = .ok (.ishr, 1) := dk_122 (dk_at dksX7_byRejected_6 16 rfl rfl)
theorem dX7_byRejected_159 : decode cX7_byRejected 159 = .ok (.iconst 1, 1) := dk_4 (dk_at dksX7_byRejected_6 17 rfl rfl)
theorem dX7_byRejected_160 : decode cX7_byRejected 160 = .ok (.iand, 1) := dk_126 (dk_at dksX7_byRejected_6 18 rfl rfl)
theorem dX7_byRejected_161 : decode cX7_byRejected 161 = .ok (.iconst 1, 1) := dk_4 (dk_at dksX7_byRejected_6 19 rfl rfl)
theorem dX7_byRejected_162 : decode cX7_byRejected 162 = .ok (.if_icmp .ne 8, 3) := dk_160 0 8 (dk_at dksX7_byRejected_6 20 rfl rfl)
theorem dX7_byRejected_165 : decode cX7_byRejected 165 = .ok (.iload_n 1, 1) := dk_27 (dk_at dksX7_byRejected_6 23 rfl rfl)
theorem dX7_byRejected_166 : decode cX7_byRejected 166 = .ok (.i2l, 1) := dk_133 (dk_at dksX7_byRejected_7 0 rfl rfl)
theorem dX7_byRejected_167 : decode cX7_byRejected 167 = .ok (.goto 8, 3) := dk_167 0 8 (dk_at dksX7_byRejected_7 1 rfl rfl)
theorem dX7_byRejected_170 : decode cX7_byRejected 170 = .ok (.bipush 10, 2) := dk_16 10 (dk_at dksX7_byRejected_7 4 rfl rfl)
theorem dX7_byRejected_172 : decode cX7_byRejected 172 = .ok (.iload_n 1, 1) := dk_27 (dk_at dksX7_byRejected_7 6 rfl rfl)
theorem dX7_byRejected_173 : decode cX7_byRejected 173 = .ok (.isub, 1) := dk_100 (dk_at dksX7_byRejected_7 7 rfl rfl)
theorem dX7_byRejected_174 : decode cX7_byRejected 174 = .ok (.i2l, 1) := dk_133 (dk_at dksX7_byRejected_7 8 rfl rfl)
theorem dX7_byRejected_175 : decode cX7_byRejected 175 = .ok (.lmul, 1) := dk_105 (dk_at dksX7_byRejected_7 9 rfl rfl)
theorem dX7_byRejected_176 : decode cX7_byRejected 176 = .ok (.lstore 10, 2) := dk_55 10 (dk_at dksX7_byRejected_7 10 rfl rfl)
theorem dX7_byRejected_178 : decode cX7_byRejected 178 = .ok (.iinc 12 1, 3) := dk_132 12 1 (dk_at dksX7_byRejected_7 12 rfl rfl)
theorem dX7_byRejected_181 : decode cX7_byRejected 181 = .ok (.goto (-50), 3) := dk_167 255 206 (dk_at dksX7_byRejected_7 15 rfl rfl)
theorem dX7_byRejected_184 : decode cX7_byRejected 184 = .ok (.aload_n 0, 1) := dk_42 (dk_at dksX7_byRejected_7 18 rfl rfl)
theorem dX7_byRejected_185 : decode cX7_byRejected 185 = .ok (.iload 9, 2) := dk_21 9 (dk_at dksX7_byRejected_7 19 rfl rfl)
theorem dX7_byRejected_187 : decode cX7_byRejected 187 = .ok (.invokevirtual 199, 3) := dk_182 0 199 (dk_at dksX7_byRejected_7 21 rfl rfl)
theorem dX7_byRejected_190 : decode cX7_byRejected 190 = .ok (.aload_n 0, 1) := dk_42 (dk_at dksX7_byRejected_8 0 rfl rfl)
theorem dX7_byRejected_191 : decode cX7_byRejected 191 = .ok (.sipush 268, 3) := dk_17 1 12 (dk_at dksX7_byRejected_8 1 rfl rfl)
theorem dX7_byRejected_194 : decode cX7_byRejected 194 = .ok (.invokevirtual 150, 3) := dk_182 0 150 (dk_at dksX7_byRejected_8 4 rfl rfl)
theorem dX7_byRejected_197 : decode cX7_byRejected 197 = .ok (.istore 12, 2) := dk_54 12 (dk_at dksX7_byRejected_8 7 rfl rfl)
theorem dX7_byRejected_199 : decode cX7_byRejected 199 = .ok (.lload 5, 2) := dk_22 5 (dk_at dksX7_byRejected_8 9 rfl rfl)
theorem dX7_byRejected_201 : decode cX7_byRejected 201 = .ok (.lload 10, 2) := dk_22 10 (dk_at dksX7_byRejected_8 11 rfl rfl)
theorem dX7_byRejected_203 : decode cX7_byRejected 203 = .ok (.iload_n 2, 1) := dk_28 (dk_at dksX7_byRejected_8 13 rfl rfl)
theorem dX7_byRejected_204 : decode cX7_byRejected 204 = .ok (.bipush (-4), 2) := dk_16 252 (dk_at dksX7_byRejected_8 14 rfl rfl)
theorem dX7_byRejected_206 : decode cX7_byRejected 206 = .ok (.if_icmp .ne 11, 3) := dk_160 0 11 (dk_at dksX7_byRejected_8 16 rfl rfl)
theorem dX7_byRejected_209 : decode cX7_byRejected 209 = .ok (.iload 12, 2) := dk_21 12 (dk_at dksX7_byRejected_8 19 rfl rfl)
theorem dX7_byRejected_211 : decode cX7_byRejected 211 = .ok (.invokestatic 204, 3) := dk_184 0 204 (dk_at dksX7_byRejected_8 21 rfl rfl)
theorem dX7_byRejected_214 : decode cX7_byRejected 214 = .ok (.goto 9, 3) := dk_167 0 9 (dk_at dksX7_byRejected_9 0 rfl rfl)
theorem dX7_byRejected_217 : decode cX7_byRejected 217 = .ok (.iload 12, 2) := dk_21 12 (dk_at dksX7_byRejected_9 3 rfl rfl)
theorem dX7_byRejected_219 : decode cX7_byRejected 219 = .ok (.iload_n 2, 1) := dk_28 (dk_at dksX7_byRejected_9 5 rfl rfl)
theorem dX7_byRejected_220 : decode cX7_byRejected 220 = .ok (.ishr, 1) := dk_122 (dk_at dksX7_byRejected_9 6 rfl rfl)
theorem dX7_byRejected_221 : decode cX7_byRejected 221 = .ok (.iconst 1, 1) := dk_4 (dk_at dksX7_byRejected_9 7 rfl rfl)
theorem dX7_byRejected_222 : decode cX7_byRejected 222 = .ok (.iand, 1) := dk_126 (dk_at dksX7_byRejected_9 8 rfl rfl)
theorem dX7_byRejected_223 : decode cX7_byRejected 223 = .ok (.i2l, 1) := dk_133 (dk_at dksX7_byRejected_9 9 rfl rfl)
theorem dX7_byRejected_224 : decode cX7_byRejected 224 = .ok (.lmul, 1) := dk_105 (dk_at dksX7_byRejected_9 10 rfl rfl)
theorem dX7_byRejected_225 : decode cX7_byRejected 225 = .ok (.ladd, 1) := dk_97 (dk_at dksX7_byRejected_9 11 rfl rfl)
theorem dX7_byRejected_226 : decode cX7_byRejected 226 = .ok (.lstore 5, 2) := dk_55 5 (dk_at dksX7_byRejected_9 12 rfl rfl)
theorem dX7_byRejected_228 : decode cX7_byRejected 228 = .ok (.iinc 9 1, 3) := dk_132 9 1 (dk_at dksX7_byRejected_9 14 rfl rfl)
theorem dX7_byRejected_231 : decode cX7_byRejected 231 = .ok (.goto (-123), 3) := dk_167 255 133 (dk_at dksX7_byRejected_9 17 rfl rfl)
theorem dX7_byRejected_234 : decode cX7_byRejected 234 = .ok (.lload 5, 2) := dk_22 5 (dk_at dksX7_byRejected_9 20 rfl rfl)
theorem dX7_byRejected_236 : decode cX7_byRejected 236 = .ok (.lload 7, 2) := dk_22 7 (dk_at dksX7_byRejected_9 22 rfl rfl)
theorem dX7_byRejected_238 : decode cX7_byRejected 238 = .ok (.iload_n 3, 1) := dk_29 (dk_at dksX7_byRejected_10 0 rfl rfl)
theorem dX7_byRejected_239 : decode cX7_byRejected 239 = .ok (.invokestatic 239, 3) := dk_184 0 239 (dk_at dksX7_byRejected_10 1 rfl rfl)
theorem dX7_byRejected_242 : decode cX7_byRejected 242 = .ok (.lreturn, 1) := dk_173 (dk_at dksX7_byRejected_10 4 rfl rfl)
abbrev cX7_lowest : ByteArray := prog_11_method_57_code
def yX7_lowest : MethodName := ⟨RX7, "lowest", "(JJI)J"⟩
def dkwX7_lowest_1 : List UInt8 := [22, 9, 55, 7, 167, 255, 234, 21, 4, 154, 0, 7, 30, 167, 0, 4, 32, 22, 5, 109, 173]
abbrev dktX7_lowest_1 : List UInt8 := dkwX7_lowest_1 ++ []
def dkwX7_lowest_0 : List UInt8 := [30, 55, 5, 32, 55, 7, 22, 7, 9, 148, 153, 0, 21, 22, 5, 22, 7, 113, 55, 9, 22, 7, 55, 5]
abbrev dktX7_lowest_0 : List UInt8 := dkwX7_lowest_0 ++ dktX7_lowest_1
theorem dksX7_lowest_0 : cX7_lowest.data.toList.drop 0 = dktX7_lowest_0 := by decide +kernel
theorem dksX7_lowest_1 : cX7_lowest.data.toList.drop 24 = dktX7_lowest_1 := dk_seg dksX7_lowest_0 24 rfl rfl
theorem dX7_lowest_0 : decode cX7_lowest 0 = .ok (.lload_n 0, 1) := dk_30 (dk_at dksX7_lowest_0 0 rfl rfl)
theorem dX7_lowest_1 : decode cX7_lowest 1 = .ok (.lstore 5, 2) := dk_55 5 (dk_at dksX7_lowest_0 1 rfl rfl)
theorem dX7_lowest_3 : decode cX7_lowest 3 = .ok (.lload_n 2, 1) := dk_32 (dk_at dksX7_lowest_0 3 rfl rfl)
theorem dX7_lowest_4 : decode cX7_lowest 4 = .ok (.lstore 7, 2) := dk_55 7 (dk_at dksX7_lowest_0 4 rfl rfl)
theorem dX7_lowest_6 : decode cX7_lowest 6 = .ok (.lload 7, 2) := dk_22 7 (dk_at dksX7_lowest_0 6 rfl rfl)
theorem dX7_lowest_8 : decode cX7_lowest 8 = .ok (.lconst 0, 1) := dk_9 (dk_at dksX7_lowest_0 8 rfl rfl)
theorem dX7_lowest_9 : decode cX7_lowest 9 = .ok (.lcmp, 1) := dk_148 (dk_at dksX7_lowest_0 9 rfl rfl)
theorem dX7_lowest_10 : decode cX7_lowest 10 = .ok (.ifCond .eq 21, 3) := dk_153 0 21 (dk_at dksX7_lowest_0 10 rfl rfl)
theorem dX7_lowest_13 : decode cX7_lowest 13 = .ok (.lload 5, 2) := dk_22 5 (dk_at dksX7_lowest_0 13 rfl rfl)
theorem dX7_lowest_15 : decode cX7_lowest 15 = .ok (.lload 7, 2) := dk_22 7 (dk_at dksX7_lowest_0 15 rfl rfl)
theorem dX7_lowest_17 : decode cX7_lowest 17 = .ok (.lrem, 1) := dk_113 (dk_at dksX7_lowest_0 17 rfl rfl)
theorem dX7_lowest_18 : decode cX7_lowest 18 = .ok (.lstore 9, 2) := dk_55 9 (dk_at dksX7_lowest_0 18 rfl rfl)
theorem dX7_lowest_20 : decode cX7_lowest 20 = .ok (.lload 7, 2) := dk_22 7 (dk_at dksX7_lowest_0 20 rfl rfl)
theorem dX7_lowest_22 : decode cX7_lowest 22 = .ok (.lstore 5, 2) := dk_55 5 (dk_at dksX7_lowest_0 22 rfl rfl)
theorem dX7_lowest_24 : decode cX7_lowest 24 = .ok (.lload 9, 2) := dk_22 9 (dk_at dksX7_lowest_1 0 rfl rfl)
theorem dX7_lowest_26 : decode cX7_lowest 26 = .ok (.lstore 7, 2) := dk_55 7 (dk_at dksX7_lowest_1 2 rfl rfl)
theorem dX7_lowest_28 : decode cX7_lowest 28 = .ok (.goto (-22), 3) := dk_167 255 234 (dk_at dksX7_lowest_1 4 rfl rfl)
theorem dX7_lowest_31 : decode cX7_lowest 31 = .ok (.iload 4, 2) := dk_21 4 (dk_at dksX7_lowest_1 7 rfl rfl)
theorem dX7_lowest_33 : decode cX7_lowest 33 = .ok (.ifCond .ne 7, 3) := dk_154 0 7 (dk_at dksX7_lowest_1 9 rfl rfl)
theorem dX7_lowest_36 : decode cX7_lowest 36 = .ok (.lload_n 0, 1) := dk_30 (dk_at dksX7_lowest_1 12 rfl rfl)
theorem dX7_lowest_37 : decode cX7_lowest 37 = .ok (.goto 4, 3) := dk_167 0 4 (dk_at dksX7_lowest_1 13 rfl rfl)
theorem dX7_lowest_40 : decode cX7_lowest 40 = .ok (.lload_n 2, 1) := dk_32 (dk_at dksX7_lowest_1 16 rfl rfl)
theorem dX7_lowest_41 : decode cX7_lowest 41 = .ok (.lload 5, 2) := dk_22 5 (dk_at dksX7_lowest_1 17 rfl rfl)
theorem dX7_lowest_43 : decode cX7_lowest 43 = .ok (.ldiv, 1) := dk_109 (dk_at dksX7_lowest_1 19 rfl rfl)
theorem dX7_lowest_44 : decode cX7_lowest 44 = .ok (.lreturn, 1) := dk_173 (dk_at dksX7_lowest_1 20 rfl rfl)
abbrev cX7_mean : ByteArray := prog_11_method_60_code
def yX7_mean : MethodName := ⟨RX7, "mean", "(II)J"⟩
def dkwX7_mean_1 : List UInt8 := [16, 252, 28, 182, 0, 243, 167, 0, 6, 20, 0, 247, 173]
abbrev dktX7_mean_1 : List UInt8 := dkwX7_mean_1 ++ []
def dkwX7_mean_0 : List UInt8 := [27, 133, 9, 20, 0, 229, 184, 0, 46, 153, 0, 24, 28, 133, 9, 10, 184, 0, 46, 153, 0, 14, 42, 27]
abbrev dktX7_mean_0 : List UInt8 := dkwX7_mean_0 ++ dktX7_mean_1
theorem dksX7_mean_0 : cX7_mean.data.toList.drop 0 = dktX7_mean_0 := by decide +kernel
theorem dksX7_mean_1 : cX7_mean.data.toList.drop 24 = dktX7_mean_1 := dk_seg dksX7_mean_0 24 rfl rfl
theorem dX7_mean_0 : decode cX7_mean 0 = .ok (.iload_n 1, 1) := dk_27 (dk_at dksX7_mean_0 0 rfl rfl)
theorem dX7_mean_1 : decode cX7_mean 1 = .ok (.i2l, 1) := dk_133 (dk_at dksX7_mean_0 1 rfl rfl)
theorem dX7_mean_2 : decode cX7_mean 2 = .ok (.lconst 0, 1) := dk_9 (dk_at dksX7_mean_0 2 rfl rfl)
theorem dX7_mean_3 : decode cX7_mean 3 = .ok (.ldc2_w 229, 3) := dk_20 0 229 (dk_at dksX7_mean_0 3 rfl rfl)
theorem dX7_mean_6 : decode cX7_mean 6 = .ok (.invokestatic 46, 3) := dk_184 0 46 (dk_at dksX7_mean_0 6 rfl rfl)
theorem dX7_mean_9 : decode cX7_mean 9 = .ok (.ifCond .eq 24, 3) := dk_153 0 24 (dk_at dksX7_mean_0 9 rfl rfl)
theorem dX7_mean_12 : decode cX7_mean 12 = .ok (.iload_n 2, 1) := dk_28 (dk_at dksX7_mean_0 12 rfl rfl)
theorem dX7_mean_13 : decode cX7_mean 13 = .ok (.i2l, 1) := dk_133 (dk_at dksX7_mean_0 13 rfl rfl)
theorem dX7_mean_14 : decode cX7_mean 14 = .ok (.lconst 0, 1) := dk_9 (dk_at dksX7_mean_0 14 rfl rfl)
theorem dX7_mean_15 : decode cX7_mean 15 = .ok (.lconst 1, 1) := dk_10 (dk_at dksX7_mean_0 15 rfl rfl)
theorem dX7_mean_16 : decode cX7_mean 16 = .ok (.invokestatic 46, 3) := dk_184 0 46 (dk_at dksX7_mean_0 16 rfl rfl)
theorem dX7_mean_19 : decode cX7_mean 19 = .ok (.ifCond .eq 14, 3) := dk_153 0 14 (dk_at dksX7_mean_0 19 rfl rfl)
theorem dX7_mean_22 : decode cX7_mean 22 = .ok (.aload_n 0, 1) := dk_42 (dk_at dksX7_mean_0 22 rfl rfl)
theorem dX7_mean_23 : decode cX7_mean 23 = .ok (.iload_n 1, 1) := dk_27 (dk_at dksX7_mean_0 23 rfl rfl)
theorem dX7_mean_24 : decode cX7_mean 24 = .ok (.bipush (-4), 2) := dk_16 252 (dk_at dksX7_mean_1 0 rfl rfl)
theorem dX7_mean_26 : decode cX7_mean 26 = .ok (.iload_n 2, 1) := dk_28 (dk_at dksX7_mean_1 2 rfl rfl)
theorem dX7_mean_27 : decode cX7_mean 27 = .ok (.invokevirtual 243, 3) := dk_182 0 243 (dk_at dksX7_mean_1 3 rfl rfl)
theorem dX7_mean_30 : decode cX7_mean 30 = .ok (.goto 6, 3) := dk_167 0 6 (dk_at dksX7_mean_1 6 rfl rfl)
theorem dX7_mean_33 : decode cX7_mean 33 = .ok (.ldc2_w 247, 3) := dk_20 0 247 (dk_at dksX7_mean_1 9 rfl rfl)
theorem dX7_mean_36 : decode cX7_mean 36 = .ok (.lreturn, 1) := dk_173 (dk_at dksX7_mean_1 12 rfl rfl)
abbrev cX7_see : ByteArray := prog_11_method_61_code
def yX7_see : MethodName := ⟨RX7, "see", "(III)I"⟩
def dkwX7_see_4 : List UInt8 := [181, 0, 129, 42, 180, 0, 129, 172]
abbrev dktX7_see_4 : List UInt8 := dkwX7_see_4 ++ []
def dkwX7_see_3 : List UInt8 := [79, 42, 180, 0, 25, 6, 42, 180, 0, 129, 104, 5, 96, 29, 79, 42, 89, 180, 0, 129, 4, 96]
abbrev dktX7_see_3 : List UInt8 := dkwX7_see_3 ++ dktX7_see_4
def dkwX7_see_2 : List UInt8 := [180, 0, 25, 6, 42, 180, 0, 129, 104, 27, 79, 42, 180, 0, 25, 6, 42, 180, 0, 129, 104, 4, 96, 28]
abbrev dktX7_see_2 : List UInt8 := dkwX7_see_2 ++ dktX7_see_3
def dkwX7_see_1 : List UInt8 := [20, 0, 251, 184, 0, 46, 154, 0, 5, 2, 172, 42, 180, 0, 129, 16, 6, 160, 0, 6, 16, 253, 172, 42]
abbrev dktX7_see_1 : List UInt8 := dkwX7_see_1 ++ dktX7_see_2
def dkwX7_see_0 : List UInt8 := [42, 27, 182, 0, 132, 153, 0, 27, 28, 133, 9, 20, 0, 249, 184, 0, 46, 153, 0, 15, 29, 133, 9]
abbrev dktX7_see_0 : List UInt8 := dkwX7_see_0 ++ dktX7_see_1
theorem dksX7_see_0 : cX7_see.data.toList.drop 0 = dktX7_see_0 := by decide +kernel
theorem dksX7_see_1 : cX7_see.data.toList.drop 23 = dktX7_see_1 := dk_seg dksX7_see_0 23 rfl rfl
theorem dksX7_see_2 : cX7_see.data.toList.drop 47 = dktX7_see_2 := dk_seg dksX7_see_1 24 rfl rfl
theorem dksX7_see_3 : cX7_see.data.toList.drop 71 = dktX7_see_3 := dk_seg dksX7_see_2 24 rfl rfl
theorem dksX7_see_4 : cX7_see.data.toList.drop 93 = dktX7_see_4 := dk_seg dksX7_see_3 22 rfl rfl
theorem dX7_see_0 : decode cX7_see 0 = .ok (.aload_n 0, 1) := dk_42 (dk_at dksX7_see_0 0 rfl rfl)
theorem dX7_see_1 : decode cX7_see 1 = .ok (.iload_n 1, 1) := dk_27 (dk_at dksX7_see_0 1 rfl rfl)
theorem dX7_see_2 : decode cX7_see 2 = .ok (.invokevirtual 132, 3) := dk_182 0 132 (dk_at dksX7_see_0 2 rfl rfl)
theorem dX7_see_5 : decode cX7_see 5 = .ok (.ifCond .eq 27, 3) := dk_153 0 27 (dk_at dksX7_see_0 5 rfl rfl)
theorem dX7_see_8 : decode cX7_see 8 = .ok (.iload_n 2, 1) := dk_28 (dk_at dksX7_see_0 8 rfl rfl)
theorem dX7_see_9 : decode cX7_see 9 = .ok (.i2l, 1) := dk_133 (dk_at dksX7_see_0 9 rfl rfl)
theorem dX7_see_10 : decode cX7_see 10 = .ok (.lconst 0, 1) := dk_9 (dk_at dksX7_see_0 10 rfl rfl)
theorem dX7_see_11 : decode cX7_see 11 = .ok (.ldc2_w 249, 3) := dk_20 0 249 (dk_at dksX7_see_0 11 rfl rfl)
theorem dX7_see_14 : decode cX7_see 14 = .ok (.invokestatic 46, 3) := dk_184 0 46 (dk_at dksX7_see_0 14 rfl rfl)
theorem dX7_see_17 : decode cX7_see 17 = .ok (.ifCond .eq 15, 3) := dk_153 0 15 (dk_at dksX7_see_0 17 rfl rfl)
theorem dX7_see_20 : decode cX7_see 20 = .ok (.iload_n 3, 1) := dk_29 (dk_at dksX7_see_0 20 rfl rfl)
theorem dX7_see_21 : decode cX7_see 21 = .ok (.i2l, 1) := dk_133 (dk_at dksX7_see_0 21 rfl rfl)
theorem dX7_see_22 : decode cX7_see 22 = .ok (.lconst 0, 1) := dk_9 (dk_at dksX7_see_0 22 rfl rfl)
theorem dX7_see_23 : decode cX7_see 23 = .ok (.ldc2_w 251, 3) := dk_20 0 251 (dk_at dksX7_see_1 0 rfl rfl)
theorem dX7_see_26 : decode cX7_see 26 = .ok (.invokestatic 46, 3) := dk_184 0 46 (dk_at dksX7_see_1 3 rfl rfl)
theorem dX7_see_29 : decode cX7_see 29 = .ok (.ifCond .ne 5, 3) := dk_154 0 5 (dk_at dksX7_see_1 6 rfl rfl)
theorem dX7_see_32 : decode cX7_see 32 = .ok (.iconst (-1), 1) := dk_2 (dk_at dksX7_see_1 9 rfl rfl)
theorem dX7_see_33 : decode cX7_see 33 = .ok (.ireturn, 1) := dk_172 (dk_at dksX7_see_1 10 rfl rfl)
theorem dX7_see_34 : decode cX7_see 34 = .ok (.aload_n 0, 1) := dk_42 (dk_at dksX7_see_1 11 rfl rfl)
theorem dX7_see_35 : decode cX7_see 35 = .ok (.getfield 129, 3) := dk_180 0 129 (dk_at dksX7_see_1 12 rfl rfl)
theorem dX7_see_38 : decode cX7_see 38 = .ok (.bipush 6, 2) := dk_16 6 (dk_at dksX7_see_1 15 rfl rfl)
theorem dX7_see_40 : decode cX7_see 40 = .ok (.if_icmp .ne 6, 3) := dk_160 0 6 (dk_at dksX7_see_1 17 rfl rfl)
theorem dX7_see_43 : decode cX7_see 43 = .ok (.bipush (-3), 2) := dk_16 253 (dk_at dksX7_see_1 20 rfl rfl)
theorem dX7_see_45 : decode cX7_see 45 = .ok (.ireturn, 1) := dk_172 (dk_at dksX7_see_1 22 rfl rfl)
theorem dX7_see_46 : decode cX7_see 46 = .ok (.aload_n 0, 1) := dk_42 (dk_at dksX7_see_1 23 rfl rfl)
theorem dX7_see_47 : decode cX7_see 47 = .ok (.getfield 25, 3) := dk_180 0 25 (dk_at dksX7_see_2 0 rfl rfl)
theorem dX7_see_50 : decode cX7_see 50 = .ok (.iconst 3, 1) := dk_6 (dk_at dksX7_see_2 3 rfl rfl)
theorem dX7_see_51 : decode cX7_see 51 = .ok (.aload_n 0, 1) := dk_42 (dk_at dksX7_see_2 4 rfl rfl)
theorem dX7_see_52 : decode cX7_see 52 = .ok (.getfield 129, 3) := dk_180 0 129 (dk_at dksX7_see_2 5 rfl rfl)
theorem dX7_see_55 : decode cX7_see 55 = .ok (.imul, 1) := dk_104 (dk_at dksX7_see_2 8 rfl rfl)
theorem dX7_see_56 : decode cX7_see 56 = .ok (.iload_n 1, 1) := dk_27 (dk_at dksX7_see_2 9 rfl rfl)
theorem dX7_see_57 : decode cX7_see 57 = .ok (.iastore, 1) := dk_79 (dk_at dksX7_see_2 10 rfl rfl)
theorem dX7_see_58 : decode cX7_see 58 = .ok (.aload_n 0, 1) := dk_42 (dk_at dksX7_see_2 11 rfl rfl)
theorem dX7_see_59 : decode cX7_see 59 = .ok (.getfield 25, 3) := dk_180 0 25 (dk_at dksX7_see_2 12 rfl rfl)
theorem dX7_see_62 : decode cX7_see 62 = .ok (.iconst 3, 1) := dk_6 (dk_at dksX7_see_2 15 rfl rfl)
theorem dX7_see_63 : decode cX7_see 63 = .ok (.aload_n 0, 1) := dk_42 (dk_at dksX7_see_2 16 rfl rfl)
theorem dX7_see_64 : decode cX7_see 64 = .ok (.getfield 129, 3) := dk_180 0 129 (dk_at dksX7_see_2 17 rfl rfl)
theorem dX7_see_67 : decode cX7_see 67 = .ok (.imul, 1) := dk_104 (dk_at dksX7_see_2 20 rfl rfl)
theorem dX7_see_68 : decode cX7_see 68 = .ok (.iconst 1, 1) := dk_4 (dk_at dksX7_see_2 21 rfl rfl)
theorem dX7_see_69 : decode cX7_see 69 = .ok (.iadd, 1) := dk_96 (dk_at dksX7_see_2 22 rfl rfl)
theorem dX7_see_70 : decode cX7_see 70 = .ok (.iload_n 2, 1) := dk_28 (dk_at dksX7_see_2 23 rfl rfl)
theorem dX7_see_71 : decode cX7_see 71 = .ok (.iastore, 1) := dk_79 (dk_at dksX7_see_3 0 rfl rfl)
theorem dX7_see_72 : decode cX7_see 72 = .ok (.aload_n 0, 1) := dk_42 (dk_at dksX7_see_3 1 rfl rfl)
theorem dX7_see_73 : decode cX7_see 73 = .ok (.getfield 25, 3) := dk_180 0 25 (dk_at dksX7_see_3 2 rfl rfl)
theorem dX7_see_76 : decode cX7_see 76 = .ok (.iconst 3, 1) := dk_6 (dk_at dksX7_see_3 5 rfl rfl)
theorem dX7_see_77 : decode cX7_see 77 = .ok (.aload_n 0, 1) := dk_42 (dk_at dksX7_see_3 6 rfl rfl)
theorem dX7_see_78 : decode cX7_see 78 = .ok (.getfield 129, 3) := dk_180 0 129 (dk_at dksX7_see_3 7 rfl rfl)
theorem dX7_see_81 : decode cX7_see 81 = .ok (.imul, 1) := dk_104 (dk_at dksX7_see_3 10 rfl rfl)
theorem dX7_see_82 : decode cX7_see 82 = .ok (.iconst 2, 1) := dk_5 (dk_at dksX7_see_3 11 rfl rfl)
theorem dX7_see_83 : decode cX7_see 83 = .ok (.iadd, 1) := dk_96 (dk_at dksX7_see_3 12 rfl rfl)
theorem dX7_see_84 : decode cX7_see 84 = .ok (.iload_n 3, 1) := dk_29 (dk_at dksX7_see_3 13 rfl rfl)
theorem dX7_see_85 : decode cX7_see 85 = .ok (.iastore, 1) := dk_79 (dk_at dksX7_see_3 14 rfl rfl)
theorem dX7_see_86 : decode cX7_see 86 = .ok (.aload_n 0, 1) := dk_42 (dk_at dksX7_see_3 15 rfl rfl)
theorem dX7_see_87 : decode cX7_see 87 = .ok (.dup, 1) := dk_89 (dk_at dksX7_see_3 16 rfl rfl)
theorem dX7_see_88 : decode cX7_see 88 = .ok (.getfield 129, 3) := dk_180 0 129 (dk_at dksX7_see_3 17 rfl rfl)
theorem dX7_see_91 : decode cX7_see 91 = .ok (.iconst 1, 1) := dk_4 (dk_at dksX7_see_3 20 rfl rfl)
theorem dX7_see_92 : decode cX7_see 92 = .ok (.iadd, 1) := dk_96 (dk_at dksX7_see_3 21 rfl rfl)
theorem dX7_see_93 : decode cX7_see 93 = .ok (.putfield 129, 3) := dk_181 0 129 (dk_at dksX7_see_4 0 rfl rfl)
theorem dX7_see_96 : decode cX7_see 96 = .ok (.aload_n 0, 1) := dk_42 (dk_at dksX7_see_4 3 rfl rfl)
theorem dX7_see_97 : decode cX7_see 97 = .ok (.getfield 129, 3) := dk_180 0 129 (dk_at dksX7_see_4 4 rfl rfl)
theorem dX7_see_100 : decode cX7_see 100 = .ok (.ireturn, 1) := dk_172 (dk_at dksX7_see_4 7 rfl rfl)
abbrev cX7_forget : ByteArray := prog_11_method_62_code
def yX7_forget : MethodName := ⟨RX7, "forget", "(I)I"⟩
def dkwX7_forget_1 : List UInt8 := [181, 0, 129, 28, 172]
abbrev dktX7_forget_1 : List UInt8 := dkwX7_forget_1 ++ []
def dkwX7_forget_0 : List UInt8 := [27, 133, 9, 42, 180, 0, 129, 133, 184, 0, 46, 154, 0, 5, 2, 172, 42, 180, 0, 129, 61, 42, 27]
abbrev dktX7_forget_0 : List UInt8 := dkwX7_forget_0 ++ dktX7_forget_1
theorem dksX7_forget_0 : cX7_forget.data.toList.drop 0 = dktX7_forget_0 := by decide +kernel
theorem dksX7_forget_1 : cX7_forget.data.toList.drop 23 = dktX7_forget_1 := dk_seg dksX7_forget_0 23 rfl rfl
theorem dX7_forget_0 : decode cX7_forget 0 = .ok (.iload_n 1, 1) := dk_27 (dk_at dksX7_forget_0 0 rfl rfl)
theorem dX7_forget_1 : decode cX7_forget 1 = .ok (.i2l, 1) := dk_133 (dk_at dksX7_forget_0 1 rfl rfl)
theorem dX7_forget_2 : decode cX7_forget 2 = .ok (.lconst 0, 1) := dk_9 (dk_at dksX7_forget_0 2 rfl rfl)
theorem dX7_forget_3 : decode cX7_forget 3 = .ok (.aload_n 0, 1) := dk_42 (dk_at dksX7_forget_0 3 rfl rfl)
theorem dX7_forget_4 : decode cX7_forget 4 = .ok (.getfield 129, 3) := dk_180 0 129 (dk_at dksX7_forget_0 4 rfl rfl)
theorem dX7_forget_7 : decode cX7_forget 7 = .ok (.i2l, 1) := dk_133 (dk_at dksX7_forget_0 7 rfl rfl)
theorem dX7_forget_8 : decode cX7_forget 8 = .ok (.invokestatic 46, 3) := dk_184 0 46 (dk_at dksX7_forget_0 8 rfl rfl)
theorem dX7_forget_11 : decode cX7_forget 11 = .ok (.ifCond .ne 5, 3) := dk_154 0 5 (dk_at dksX7_forget_0 11 rfl rfl)
theorem dX7_forget_14 : decode cX7_forget 14 = .ok (.iconst (-1), 1) := dk_2 (dk_at dksX7_forget_0 14 rfl rfl)
theorem dX7_forget_15 : decode cX7_forget 15 = .ok (.ireturn, 1) := dk_172 (dk_at dksX7_forget_0 15 rfl rfl)
theorem dX7_forget_16 : decode cX7_forget 16 = .ok (.aload_n 0, 1) := dk_42 (dk_at dksX7_forget_0 16 rfl rfl)
theorem dX7_forget_17 : decode cX7_forget 17 = .ok (.getfield 129, 3) := dk_180 0 129 (dk_at dksX7_forget_0 17 rfl rfl)
theorem dX7_forget_20 : decode cX7_forget 20 = .ok (.istore_n 2, 1) := dk_61 (dk_at dksX7_forget_0 20 rfl rfl)
theorem dX7_forget_21 : decode cX7_forget 21 = .ok (.aload_n 0, 1) := dk_42 (dk_at dksX7_forget_0 21 rfl rfl)
theorem dX7_forget_22 : decode cX7_forget 22 = .ok (.iload_n 1, 1) := dk_27 (dk_at dksX7_forget_0 22 rfl rfl)
theorem dX7_forget_23 : decode cX7_forget 23 = .ok (.putfield 129, 3) := dk_181 0 129 (dk_at dksX7_forget_1 0 rfl rfl)
theorem dX7_forget_26 : decode cX7_forget 26 = .ok (.iload_n 2, 1) := dk_28 (dk_at dksX7_forget_1 3 rfl rfl)
theorem dX7_forget_27 : decode cX7_forget 27 = .ok (.ireturn, 1) := dk_172 (dk_at dksX7_forget_1 4 rfl rfl)
abbrev cX7_kinds : ByteArray := prog_11_method_64_code
def yX7_kinds : MethodName := ⟨RX7, "kinds", "(I)I"⟩
def dkwX7_kinds_2 : List UInt8 := [21, 4, 120, 167, 0, 4, 3, 128, 62, 132, 4, 1, 167, 255, 219, 42, 180, 0, 7, 27, 28, 79, 29, 172]
abbrev dktX7_kinds_2 : List UInt8 := dkwX7_kinds_2 ++ []
def dkwX7_kinds_1 : List UInt8 := [7, 162, 0, 37, 42, 180, 0, 7, 27, 21, 4, 79, 29, 42, 27, 3, 182, 0, 253, 153, 0, 10, 4]
abbrev dktX7_kinds_1 : List UInt8 := dkwX7_kinds_1 ++ dktX7_kinds_2
def dkwX7_kinds_0 : List UInt8 := [42, 27, 182, 0, 132, 154, 0, 5, 2, 172, 42, 180, 0, 7, 27, 46, 61, 3, 62, 3, 54, 4, 21, 4]
abbrev dktX7_kinds_0 : List UInt8 := dkwX7_kinds_0 ++ dktX7_kinds_1
theorem dksX7_kinds_0 : cX7_kinds.data.toList.drop 0 = dktX7_kinds_0 := by decide +kernel
theorem dksX7_kinds_1 : cX7_kinds.data.toList.drop 24 = dktX7_kinds_1 := dk_seg dksX7_kinds_0 24 rfl rfl
theorem dksX7_kinds_2 : cX7_kinds.data.toList.drop 47 = dktX7_kinds_2 := dk_seg dksX7_kinds_1 23 rfl rfl
theorem dX7_kinds_0 : decode cX7_kinds 0 = .ok (.aload_n 0, 1) := dk_42 (dk_at dksX7_kinds_0 0 rfl rfl)
theorem dX7_kinds_1 : decode cX7_kinds 1 = .ok (.iload_n 1, 1) := dk_27 (dk_at dksX7_kinds_0 1 rfl rfl)
theorem dX7_kinds_2 : decode cX7_kinds 2 = .ok (.invokevirtual 132, 3) := dk_182 0 132 (dk_at dksX7_kinds_0 2 rfl rfl)
theorem dX7_kinds_5 : decode cX7_kinds 5 = .ok (.ifCond .ne 5, 3) := dk_154 0 5 (dk_at dksX7_kinds_0 5 rfl rfl)
theorem dX7_kinds_8 : decode cX7_kinds 8 = .ok (.iconst (-1), 1) := dk_2 (dk_at dksX7_kinds_0 8 rfl rfl)
theorem dX7_kinds_9 : decode cX7_kinds 9 = .ok (.ireturn, 1) := dk_172 (dk_at dksX7_kinds_0 9 rfl rfl)
theorem dX7_kinds_10 : decode cX7_kinds 10 = .ok (.aload_n 0, 1) := dk_42 (dk_at dksX7_kinds_0 10 rfl rfl)
theorem dX7_kinds_11 : decode cX7_kinds 11 = .ok (.getfield 7, 3) := dk_180 0 7 (dk_at dksX7_kinds_0 11 rfl rfl)
theorem dX7_kinds_14 : decode cX7_kinds 14 = .ok (.iload_n 1, 1) := dk_27 (dk_at dksX7_kinds_0 14 rfl rfl)
theorem dX7_kinds_15 : decode cX7_kinds 15 = .ok (.iaload, 1) := dk_46 (dk_at dksX7_kinds_0 15 rfl rfl)
theorem dX7_kinds_16 : decode cX7_kinds 16 = .ok (.istore_n 2, 1) := dk_61 (dk_at dksX7_kinds_0 16 rfl rfl)
theorem dX7_kinds_17 : decode cX7_kinds 17 = .ok (.iconst 0, 1) := dk_3 (dk_at dksX7_kinds_0 17 rfl rfl)
theorem dX7_kinds_18 : decode cX7_kinds 18 = .ok (.istore_n 3, 1) := dk_62 (dk_at dksX7_kinds_0 18 rfl rfl)
theorem dX7_kinds_19 : decode cX7_kinds 19 = .ok (.iconst 0, 1) := dk_3 (dk_at dksX7_kinds_0 19 rfl rfl)
theorem dX7_kinds_20 : decode cX7_kinds 20 = .ok (.istore 4, 2) := dk_54 4 (dk_at dksX7_kinds_0 20 rfl rfl)
theorem dX7_kinds_22 : decode cX7_kinds 22 = .ok (.iload 4, 2) := dk_21 4 (dk_at dksX7_kinds_0 22 rfl rfl)
theorem dX7_kinds_24 : decode cX7_kinds 24 = .ok (.iconst 4, 1) := dk_7 (dk_at dksX7_kinds_1 0 rfl rfl)
theorem dX7_kinds_25 : decode cX7_kinds 25 = .ok (.if_icmp .ge 37, 3) := dk_162 0 37 (dk_at dksX7_kinds_1 1 rfl rfl)
theorem dX7_kinds_28 : decode cX7_kinds 28 = .ok (.aload_n 0, 1) := dk_42 (dk_at dksX7_kinds_1 4 rfl rfl)
theorem dX7_kinds_29 : decode cX7_kinds 29 = .ok (.getfield 7, 3) := dk_180 0 7 (dk_at dksX7_kinds_1 5 rfl rfl)
theorem dX7_kinds_32 : decode cX7_kinds 32 = .ok (.iload_n 1, 1) := dk_27 (dk_at dksX7_kinds_1 8 rfl rfl)
theorem dX7_kinds_33 : decode cX7_kinds 33 = .ok (.iload 4, 2) := dk_21 4 (dk_at dksX7_kinds_1 9 rfl rfl)
theorem dX7_kinds_35 : decode cX7_kinds 35 = .ok (.iastore, 1) := dk_79 (dk_at dksX7_kinds_1 11 rfl rfl)
theorem dX7_kinds_36 : decode cX7_kinds 36 = .ok (.iload_n 3, 1) := dk_29 (dk_at dksX7_kinds_1 12 rfl rfl)
theorem dX7_kinds_37 : decode cX7_kinds 37 = .ok (.aload_n 0, 1) := dk_42 (dk_at dksX7_kinds_1 13 rfl rfl)
theorem dX7_kinds_38 : decode cX7_kinds 38 = .ok (.iload_n 1, 1) := dk_27 (dk_at dksX7_kinds_1 14 rfl rfl)
theorem dX7_kinds_39 : decode cX7_kinds 39 = .ok (.iconst 0, 1) := dk_3 (dk_at dksX7_kinds_1 15 rfl rfl)
theorem dX7_kinds_40 : decode cX7_kinds 40 = .ok (.invokevirtual 253, 3) := dk_182 0 253 (dk_at dksX7_kinds_1 16 rfl rfl)
theorem dX7_kinds_43 : decode cX7_kinds 43 = .ok (.ifCond .eq 10, 3) := dk_153 0 10 (dk_at dksX7_kinds_1 19 rfl rfl)
theorem dX7_kinds_46 : decode cX7_kinds 46 = .ok (.iconst 1, 1) := dk_4 (dk_at dksX7_kinds_1 22 rfl rfl)
theorem dX7_kinds_47 : decode cX7_kinds 47 = .ok (.iload 4, 2) := dk_21 4 (dk_at dksX7_kinds_2 0 rfl rfl)
theorem dX7_kinds_49 : decode cX7_kinds 49 = .ok (.ishl, 1) := dk_120 (dk_at dksX7_kinds_2 2 rfl rfl)
theorem dX7_kinds_50 : decode cX7_kinds 50 = .ok (.goto 4, 3) := dk_167 0 4 (dk_at dksX7_kinds_2 3 rfl rfl)
theorem dX7_kinds_53 : decode cX7_kinds 53 = .ok (.iconst 0, 1) := dk_3 (dk_at dksX7_kinds_2 6 rfl rfl)
theorem dX7_kinds_54 : decode cX7_kinds 54 = .ok (.ior, 1) := dk_128 (dk_at dksX7_kinds_2 7 rfl rfl)
theorem dX7_kinds_55 : decode cX7_kinds 55 = .ok (.istore_n 3, 1) := dk_62 (dk_at dksX7_kinds_2 8 rfl rfl)
theorem dX7_kinds_56 : decode cX7_kinds 56 = .ok (.iinc 4 1, 3) := dk_132 4 1 (dk_at dksX7_kinds_2 9 rfl rfl)
theorem dX7_kinds_59 : decode cX7_kinds 59 = .ok (.goto (-37), 3) := dk_167 255 219 (dk_at dksX7_kinds_2 12 rfl rfl)
theorem dX7_kinds_62 : decode cX7_kinds 62 = .ok (.aload_n 0, 1) := dk_42 (dk_at dksX7_kinds_2 15 rfl rfl)
theorem dX7_kinds_63 : decode cX7_kinds 63 = .ok (.getfield 7, 3) := dk_180 0 7 (dk_at dksX7_kinds_2 16 rfl rfl)
theorem dX7_kinds_66 : decode cX7_kinds 66 = .ok (.iload_n 1, 1) := dk_27 (dk_at dksX7_kinds_2 19 rfl rfl)
theorem dX7_kinds_67 : decode cX7_kinds 67 = .ok (.iload_n 2, 1) := dk_28 (dk_at dksX7_kinds_2 20 rfl rfl)
theorem dX7_kinds_68 : decode cX7_kinds 68 = .ok (.iastore, 1) := dk_79 (dk_at dksX7_kinds_2 21 rfl rfl)
theorem dX7_kinds_69 : decode cX7_kinds 69 = .ok (.iload_n 3, 1) := dk_29 (dk_at dksX7_kinds_2 22 rfl rfl)
theorem dX7_kinds_70 : decode cX7_kinds 70 = .ok (.ireturn, 1) := dk_172 (dk_at dksX7_kinds_2 23 rfl rfl)
abbrev cX7_isAsSeen : ByteArray := prog_11_method_63_code
def yX7_isAsSeen : MethodName := ⟨RX7, "isAsSeen", "(II)Z"⟩
def dkwX7_isAsSeen_5 : List UInt8 := [167, 255, 186, 42, 17, 1, 12, 182, 0, 186, 132, 4, 1, 167, 255, 141, 29, 172]
abbrev dktX7_isAsSeen_5 : List UInt8 := dkwX7_isAsSeen_5 ++ []
def dkwX7_isAsSeen_4 : List UInt8 := [180, 0, 25, 6, 21, 5, 104, 5, 96, 46, 160, 0, 7, 4, 167, 0, 4, 3, 62, 132, 5, 1]
abbrev dktX7_isAsSeen_4 : List UInt8 := dkwX7_isAsSeen_4 ++ dktX7_isAsSeen_5
def dkwX7_isAsSeen_3 : List UInt8 := [160, 0, 35, 42, 180, 0, 7, 17, 1, 27, 42, 180, 0, 25, 6, 21, 5, 104, 46, 96, 46, 42]
abbrev dktX7_isAsSeen_3 : List UInt8 := dkwX7_isAsSeen_3 ++ dktX7_isAsSeen_4
def dkwX7_isAsSeen_2 : List UInt8 := [180, 0, 129, 162, 0, 67, 29, 153, 0, 55, 42, 180, 0, 25, 6, 21, 5, 104, 4, 96, 46, 21, 4]
abbrev dktX7_isAsSeen_2 : List UInt8 := dkwX7_isAsSeen_2 ++ dktX7_isAsSeen_3
def dkwX7_isAsSeen_1 : List UInt8 := [16, 21, 28, 104, 21, 4, 96, 42, 180, 0, 7, 17, 1, 27, 27, 96, 46, 79, 3, 54, 5, 21, 5, 42]
abbrev dktX7_isAsSeen_1 : List UInt8 := dkwX7_isAsSeen_1 ++ dktX7_isAsSeen_2
def dkwX7_isAsSeen_0 : List UInt8 := [42, 3, 17, 1, 12, 182, 0, 189, 4, 62, 3, 54, 4, 21, 4, 16, 20, 163, 0, 114, 42, 180, 0, 28]
abbrev dktX7_isAsSeen_0 : List UInt8 := dkwX7_isAsSeen_0 ++ dktX7_isAsSeen_1
theorem dksX7_isAsSeen_0 : cX7_isAsSeen.data.toList.drop 0 = dktX7_isAsSeen_0 := by decide +kernel
theorem dksX7_isAsSeen_1 : cX7_isAsSeen.data.toList.drop 24 = dktX7_isAsSeen_1 := dk_seg dksX7_isAsSeen_0 24 rfl rfl
theorem dksX7_isAsSeen_2 : cX7_isAsSeen.data.toList.drop 48 = dktX7_isAsSeen_2 := dk_seg dksX7_isAsSeen_1 24 rfl rfl
theorem dksX7_isAsSeen_3 : cX7_isAsSeen.data.toList.drop 71 = dktX7_isAsSeen_3 := dk_seg dksX7_isAsSeen_2 23 rfl rfl
theorem dksX7_isAsSeen_4 : cX7_isAsSeen.data.toList.drop 93 = dktX7_isAsSeen_4 := dk_seg dksX7_isAsSeen_3 22 rfl rfl
theorem dksX7_isAsSeen_5 : cX7_isAsSeen.data.toList.drop 115 = dktX7_isAsSeen_5 := dk_seg dksX7_isAsSeen_4 22 rfl rfl
theorem dX7_isAsSeen_0 : decode cX7_isAsSeen 0 = .ok (.aload_n 0, 1) := dk_42 (dk_at dksX7_isAsSeen_0 0 rfl rfl)
theorem dX7_isAsSeen_1 : decode cX7_isAsSeen 1 = .ok (.iconst 0, 1) := dk_3 (dk_at dksX7_isAsSeen_0 1 rfl rfl)
theorem dX7_isAsSeen_2 : decode cX7_isAsSeen 2 = .ok (.sipush 268, 3) := dk_17 1 12 (dk_at dksX7_isAsSeen_0 2 rfl rfl)
theorem dX7_isAsSeen_5 : decode cX7_isAsSeen 5 = .ok (.invokevirtual 189, 3) := dk_182 0 189 (dk_at dksX7_isAsSeen_0 5 rfl rfl)
theorem dX7_isAsSeen_8 : decode cX7_isAsSeen 8 = .ok (.iconst 1, 1) := dk_4 (dk_at dksX7_isAsSeen_0 8 rfl rfl)
theorem dX7_isAsSeen_9 : decode cX7_isAsSeen 9 = .ok (.istore_n 3, 1) := dk_62 (dk_at dksX7_isAsSeen_0 9 rfl rfl)
theorem dX7_isAsSeen_10 : decode cX7_isAsSeen 10 = .ok (.iconst 0, 1) := dk_3 (dk_at dksX7_isAsSeen_0 10 rfl rfl)
theorem dX7_isAsSeen_11 : decode cX7_isAsSeen 11 = .ok (.istore 4, 2) := dk_54 4 (dk_at dksX7_isAsSeen_0 11 rfl rfl)
theorem dX7_isAsSeen_13 : decode cX7_isAsSeen 13 = .ok (.iload 4, 2) := dk_21 4 (dk_at dksX7_isAsSeen_0 13 rfl rfl)
theorem dX7_isAsSeen_15 : decode cX7_isAsSeen 15 = .ok (.bipush 20, 2) := dk_16 20 (dk_at dksX7_isAsSeen_0 15 rfl rfl)
theorem dX7_isAsSeen_17 : decode cX7_isAsSeen 17 = .ok (.if_icmp .gt 114, 3) := dk_163 0 114 (dk_at dksX7_isAsSeen_0 17 rfl rfl)
theorem dX7_isAsSeen_20 : decode cX7_isAsSeen 20 = .ok (.aload_n 0, 1) := dk_42 (dk_at dksX7_isAsSeen_0 20 rfl rfl)
theorem dX7_isAsSeen_21 : decode cX7_isAsSeen 21 = .ok (.getfield 28, 3) := dk_180 0 28 (dk_at dksX7_isAsSeen_0 21 rfl rfl)
theorem dX7_isAsSeen_24 : decode cX7_isAsSeen 24 = .ok (.bipush 21, 2) := dk_16 21 (dk_at dksX7_isAsSeen_1 0 rfl rfl)
theorem dX7_isAsSeen_26 : decode cX7_isAsSeen 26 = .ok (.iload_n 2, 1) := dk_28 (dk_at dksX7_isAsSeen_1 2 rfl rfl)
theorem dX7_isAsSeen_27 : decode cX7_isAsSeen 27 = .ok (.imul, 1) := dk_104 (dk_at dksX7_isAsSeen_1 3 rfl rfl)
theorem dX7_isAsSeen_28 : decode cX7_isAsSeen 28 = .ok (.iload 4, 2) := dk_21 4 (dk_at dksX7_isAsSeen_1 4 rfl rfl)
theorem dX7_isAsSeen_30 : decode cX7_isAsSeen 30 = .ok (.iadd, 1) := dk_96 (dk_at dksX7_isAsSeen_1 6 rfl rfl)
theorem dX7_isAsSeen_31 : decode cX7_isAsSeen 31 = .ok (.aload_n 0, 1) := dk_42 (dk_at dksX7_isAsSeen_1 7 rfl rfl)
theorem dX7_isAsSeen_32 : decode cX7_isAsSeen 32 = .ok (.getfield 7, 3) := dk_180 0 7 (dk_at dksX7_isAsSeen_1 8 rfl rfl)
theorem dX7_isAsSeen_35 : decode cX7_isAsSeen 35 = .ok (.sipush 283, 3) := dk_17 1 27 (dk_at dksX7_isAsSeen_1 11 rfl rfl)
theorem dX7_isAsSeen_38 : decode cX7_isAsSeen 38 = .ok (.iload_n 1, 1) := dk_27 (dk_at dksX7_isAsSeen_1 14 rfl rfl)
theorem dX7_isAsSeen_39 : decode cX7_isAsSeen 39 = .ok (.iadd, 1) := dk_96 (dk_at dksX7_isAsSeen_1 15 rfl rfl)
theorem dX7_isAsSeen_40 : decode cX7_isAsSeen 40 = .ok (.iaload, 1) := dk_46 (dk_at dksX7_isAsSeen_1 16 rfl rfl)
theorem dX7_isAsSeen_41 : decode cX7_isAsSeen 41 = .ok (.iastore, 1) := dk_79 (dk_at dksX7_isAsSeen_1 17 rfl rfl)
theorem dX7_isAsSeen_42 : decode cX7_isAsSeen 42 = .ok (.iconst 0, 1) := dk_3 (dk_at dksX7_isAsSeen_1 18 rfl rfl)
theorem dX7_isAsSeen_43 : decode cX7_isAsSeen 43 = .ok (.istore 5, 2) := dk_54 5 (dk_at dksX7_isAsSeen_1 19 rfl rfl)
theorem dX7_isAsSeen_45 : decode cX7_isAsSeen 45 = .ok (.iload 5, 2) := dk_21 5 (dk_at dksX7_isAsSeen_1 21 rfl rfl)
theorem dX7_isAsSeen_47 : decode cX7_isAsSeen 47 = .ok (.aload_n 0, 1) := dk_42 (dk_at dksX7_isAsSeen_1 23 rfl rfl)
theorem dX7_isAsSeen_48 : decode cX7_isAsSeen 48 = .ok (.getfield 129, 3) := dk_180 0 129 (dk_at dksX7_isAsSeen_2 0 rfl rfl)
theorem dX7_isAsSeen_51 : decode cX7_isAsSeen 51 = .ok (.if_icmp .ge 67, 3) := dk_162 0 67 (dk_at dksX7_isAsSeen_2 3 rfl rfl)
theorem dX7_isAsSeen_54 : decode cX7_isAsSeen 54 = .ok (.iload_n 3, 1) := dk_29 (dk_at dksX7_isAsSeen_2 6 rfl rfl)
theorem dX7_isAsSeen_55 : decode cX7_isAsSeen 55 = .ok (.ifCond .eq 55, 3) := dk_153 0 55 (dk_at dksX7_isAsSeen_2 7 rfl rfl)
theorem dX7_isAsSeen_58 : decode cX7_isAsSeen 58 = .ok (.aload_n 0, 1) := dk_42 (dk_at dksX7_isAsSeen_2 10 rfl rfl)
theorem dX7_isAsSeen_59 : decode cX7_isAsSeen 59 = .ok (.getfield 25, 3) := dk_180 0 25 (dk_at dksX7_isAsSeen_2 11 rfl rfl)
theorem dX7_isAsSeen_62 : decode cX7_isAsSeen 62 = .ok (.iconst 3, 1) := dk_6 (dk_at dksX7_isAsSeen_2 14 rfl rfl)
theorem dX7_isAsSeen_63 : decode cX7_isAsSeen 63 = .ok (.iload 5, 2) := dk_21 5 (dk_at dksX7_isAsSeen_2 15 rfl rfl)
theorem dX7_isAsSeen_65 : decode cX7_isAsSeen 65 = .ok (.imul, 1) := dk_104 (dk_at dksX7_isAsSeen_2 17 rfl rfl)
theorem dX7_isAsSeen_66 : decode cX7_isAsSeen 66 = .ok (.iconst 1, 1) := dk_4 (dk_at dksX7_isAsSeen_2 18 rfl rfl)
theorem dX7_isAsSeen_67 : decode cX7_isAsSeen 67 = .ok (.iadd, 1) := dk_96 (dk_at dksX7_isAsSeen_2 19 rfl rfl)
theorem dX7_isAsSeen_68 : decode cX7_isAsSeen 68 = .ok (.iaload, 1) := dk_46 (dk_at dksX7_isAsSeen_2 20 rfl rfl)
theorem dX7_isAsSeen_69 : decode cX7_isAsSeen 69 = .ok (.iload 4, 2) := dk_21 4 (dk_at dksX7_isAsSeen_2 21 rfl rfl)
theorem dX7_isAsSeen_71 : decode cX7_isAsSeen 71 = .ok (.if_icmp .ne 35, 3) := dk_160 0 35 (dk_at dksX7_isAsSeen_3 0 rfl rfl)
theorem dX7_isAsSeen_74 : decode cX7_isAsSeen 74 = .ok (.aload_n 0, 1) := dk_42 (dk_at dksX7_isAsSeen_3 3 rfl rfl)
theorem dX7_isAsSeen_75 : decode cX7_isAsSeen 75 = .ok (.getfield 7, 3) := dk_180 0 7 (dk_at dksX7_isAsSeen_3 4 rfl rfl)
theorem dX7_isAsSeen_78 : decode cX7_isAsSeen 78 = .ok (.sipush 283, 3) := dk_17 1 27 (dk_at dksX7_isAsSeen_3 7 rfl rfl)
theorem dX7_isAsSeen_81 : decode cX7_isAsSeen 81 = .ok (.aload_n 0, 1) := dk_42 (dk_at dksX7_isAsSeen_3 10 rfl rfl)
theorem dX7_isAsSeen_82 : decode cX7_isAsSeen 82 = .ok (.getfield 25, 3) := dk_180 0 25 (dk_at dksX7_isAsSeen_3 11 rfl rfl)
theorem dX7_isAsSeen_85 : decode cX7_isAsSeen 85 = .ok (.iconst 3, 1) := dk_6 (dk_at dksX7_isAsSeen_3 14 rfl rfl)
theorem dX7_isAsSeen_86 : decode cX7_isAsSeen 86 = .ok (.iload 5, 2) := dk_21 5 (dk_at dksX7_isAsSeen_3 15 rfl rfl)
theorem dX7_isAsSeen_88 : decode cX7_isAsSeen 88 = .ok (.imul, 1) := dk_104 (dk_at dksX7_isAsSeen_3 17 rfl rfl)
theorem dX7_isAsSeen_89 : decode cX7_isAsSeen 89 = .ok (.iaload, 1) := dk_46 (dk_at dksX7_isAsSeen_3 18 rfl rfl)
theorem dX7_isAsSeen_90 : decode cX7_isAsSeen 90 = .ok (.iadd, 1) := dk_96 (dk_at dksX7_isAsSeen_3 19 rfl rfl)
theorem dX7_isAsSeen_91 : decode cX7_isAsSeen 91 = .ok (.iaload, 1) := dk_46 (dk_at dksX7_isAsSeen_3 20 rfl rfl)
theorem dX7_isAsSeen_92 : decode cX7_isAsSeen 92 = .ok (.aload_n 0, 1) := dk_42 (dk_at dksX7_isAsSeen_3 21 rfl rfl)
theorem dX7_isAsSeen_93 : decode cX7_isAsSeen 93 = .ok (.getfield 25, 3) := dk_180 0 25 (dk_at dksX7_isAsSeen_4 0 rfl rfl)
theorem dX7_isAsSeen_96 : decode cX7_isAsSeen 96 = .ok (.iconst 3, 1) := dk_6 (dk_at dksX7_isAsSeen_4 3 rfl rfl)
theorem dX7_isAsSeen_97 : decode cX7_isAsSeen 97 = .ok (.iload 5, 2) := dk_21 5 (dk_at dksX7_isAsSeen_4 4 rfl rfl)
theorem dX7_isAsSeen_99 : decode cX7_isAsSeen 99 = .ok (.imul, 1) := dk_104 (dk_at dksX7_isAsSeen_4 6 rfl rfl)
theorem dX7_isAsSeen_100 : decode cX7_isAsSeen 100 = .ok (.iconst 2, 1) := dk_5 (dk_at dksX7_isAsSeen_4 7 rfl rfl)
theorem dX7_isAsSeen_101 : decode cX7_isAsSeen 101 = .ok (.iadd, 1) := dk_96 (dk_at dksX7_isAsSeen_4 8 rfl rfl)
theorem dX7_isAsSeen_102 : decode cX7_isAsSeen 102 = .ok (.iaload, 1) := dk_46 (dk_at dksX7_isAsSeen_4 9 rfl rfl)
theorem dX7_isAsSeen_103 : decode cX7_isAsSeen 103 = .ok (.if_icmp .ne 7, 3) := dk_160 0 7 (dk_at dksX7_isAsSeen_4 10 rfl rfl)
theorem dX7_isAsSeen_106 : decode cX7_isAsSeen 106 = .ok (.iconst 1, 1) := dk_4 (dk_at dksX7_isAsSeen_4 13 rfl rfl)
theorem dX7_isAsSeen_107 : decode cX7_isAsSeen 107 = .ok (.goto 4, 3) := dk_167 0 4 (dk_at dksX7_isAsSeen_4 14 rfl rfl)
theorem dX7_isAsSeen_110 : decode cX7_isAsSeen 110 = .ok (.iconst 0, 1) := dk_3 (dk_at dksX7_isAsSeen_4 17 rfl rfl)
theorem dX7_isAsSeen_111 : decode cX7_isAsSeen 111 = .ok (.istore_n 3, 1) := dk_62 (dk_at dksX7_isAsSeen_4 18 rfl rfl)
theorem dX7_isAsSeen_112 : decode cX7_isAsSeen 112 = .ok (.iinc 5 1, 3) := dk_132 5 1 (dk_at dksX7_isAsSeen_4 19 rfl rfl)
theorem dX7_isAsSeen_115 : decode cX7_isAsSeen 115 = .ok (.goto (-70), 3) := dk_167 255 186 (dk_at dksX7_isAsSeen_5 0 rfl rfl)
theorem dX7_isAsSeen_118 : decode cX7_isAsSeen 118 = .ok (.aload_n 0, 1) := dk_42 (dk_at dksX7_isAsSeen_5 3 rfl rfl)
theorem dX7_isAsSeen_119 : decode cX7_isAsSeen 119 = .ok (.sipush 268, 3) := dk_17 1 12 (dk_at dksX7_isAsSeen_5 4 rfl rfl)
theorem dX7_isAsSeen_122 : decode cX7_isAsSeen 122 = .ok (.invokevirtual 186, 3) := dk_182 0 186 (dk_at dksX7_isAsSeen_5 7 rfl rfl)
theorem dX7_isAsSeen_125 : decode cX7_isAsSeen 125 = .ok (.iinc 4 1, 3) := dk_132 4 1 (dk_at dksX7_isAsSeen_5 10 rfl rfl)
theorem dX7_isAsSeen_128 : decode cX7_isAsSeen 128 = .ok (.goto (-115), 3) := dk_167 255 141 (dk_at dksX7_isAsSeen_5 13 rfl rfl)
theorem dX7_isAsSeen_131 : decode cX7_isAsSeen 131 = .ok (.iload_n 3, 1) := dk_29 (dk_at dksX7_isAsSeen_5 16 rfl rfl)
theorem dX7_isAsSeen_132 : decode cX7_isAsSeen 132 = .ok (.ireturn, 1) := dk_172 (dk_at dksX7_isAsSeen_5 17 rfl rfl)
abbrev cX7_rates : ByteArray := prog_11_method_66_code
def yX7_rates : MethodName := ⟨RX7, "rates", "(I)I"⟩
def dkwX7_rates_0 : List UInt8 := [42, 27, 182, 0, 132, 153, 0, 11, 42, 27, 182, 1, 0, 167, 0, 4, 2, 172]
abbrev dktX7_rates_0 : List UInt8 := dkwX7_rates_0 ++ []
theorem dksX7_rates_0 : cX7_rates.data.toList.drop 0 = dktX7_rates_0 := by decide +kernel
theorem dX7_rates_0 : decode cX7_rates 0 = .ok (.aload_n 0, 1) := dk_42 (dk_at dksX7_rates_0 0 rfl rfl)
theorem dX7_rates_1 : decode cX7_rates 1 = .ok (.iload_n 1, 1) := dk_27 (dk_at dksX7_rates_0 1 rfl rfl)
theorem dX7_rates_2 : decode cX7_rates 2 = .ok (.invokevirtual 132, 3) := dk_182 0 132 (dk_at dksX7_rates_0 2 rfl rfl)
theorem dX7_rates_5 : decode cX7_rates 5 = .ok (.ifCond .eq 11, 3) := dk_153 0 11 (dk_at dksX7_rates_0 5 rfl rfl)
theorem dX7_rates_8 : decode cX7_rates 8 = .ok (.aload_n 0, 1) := dk_42 (dk_at dksX7_rates_0 8 rfl rfl)
theorem dX7_rates_9 : decode cX7_rates 9 = .ok (.iload_n 1, 1) := dk_27 (dk_at dksX7_rates_0 9 rfl rfl)
theorem dX7_rates_10 : decode cX7_rates 10 = .ok (.invokevirtual 256, 3) := dk_182 1 0 (dk_at dksX7_rates_0 10 rfl rfl)
theorem dX7_rates_13 : decode cX7_rates 13 = .ok (.goto 4, 3) := dk_167 0 4 (dk_at dksX7_rates_0 13 rfl rfl)
theorem dX7_rates_16 : decode cX7_rates 16 = .ok (.iconst (-1), 1) := dk_2 (dk_at dksX7_rates_0 16 rfl rfl)
theorem dX7_rates_17 : decode cX7_rates 17 = .ok (.ireturn, 1) := dk_172 (dk_at dksX7_rates_0 17 rfl rfl)
abbrev cX7_ratesOf : ByteArray := prog_11_method_65_code
def yX7_ratesOf : MethodName := ⟨RX7, "ratesOf", "(I)I"⟩
def dkwX7_ratesOf_3 : List UInt8 := [172]
abbrev dktX7_ratesOf_3 : List UInt8 := dkwX7_ratesOf_3 ++ []
def dkwX7_ratesOf_2 : List UInt8 := [120, 167, 0, 4, 3, 128, 62, 132, 4, 1, 167, 255, 214, 42, 180, 0, 7, 16, 10, 27, 96, 28, 79, 29]
abbrev dktX7_ratesOf_2 : List UInt8 := dkwX7_ratesOf_2 ++ dktX7_ratesOf_3
def dkwX7_ratesOf_1 : List UInt8 := [180, 0, 7, 16, 10, 27, 96, 21, 4, 79, 29, 42, 27, 21, 4, 182, 0, 253, 153, 0, 10, 4, 21, 4]
abbrev dktX7_ratesOf_1 : List UInt8 := dkwX7_ratesOf_1 ++ dktX7_ratesOf_2
def dkwX7_ratesOf_0 : List UInt8 := [42, 180, 0, 7, 16, 10, 27, 96, 46, 61, 3, 62, 3, 54, 4, 21, 4, 16, 6, 163, 0, 41, 42]
abbrev dktX7_ratesOf_0 : List UInt8 := dkwX7_ratesOf_0 ++ dktX7_ratesOf_1
theorem dksX7_ratesOf_0 : cX7_ratesOf.data.toList.drop 0 = dktX7_ratesOf_0 := by decide +kernel
theorem dksX7_ratesOf_1 : cX7_ratesOf.data.toList.drop 23 = dktX7_ratesOf_1 := dk_seg dksX7_ratesOf_0 23 rfl rfl
theorem dksX7_ratesOf_2 : cX7_ratesOf.data.toList.drop 47 = dktX7_ratesOf_2 := dk_seg dksX7_ratesOf_1 24 rfl rfl
theorem dksX7_ratesOf_3 : cX7_ratesOf.data.toList.drop 71 = dktX7_ratesOf_3 := dk_seg dksX7_ratesOf_2 24 rfl rfl
theorem dX7_ratesOf_0 : decode cX7_ratesOf 0 = .ok (.aload_n 0, 1) := dk_42 (dk_at dksX7_ratesOf_0 0 rfl rfl)
theorem dX7_ratesOf_1 : decode cX7_ratesOf 1 = .ok (.getfield 7, 3) := dk_180 0 7 (dk_at dksX7_ratesOf_0 1 rfl rfl)
theorem dX7_ratesOf_4 : decode cX7_ratesOf 4 = .ok (.bipush 10, 2) := dk_16 10 (dk_at dksX7_ratesOf_0 4 rfl rfl)
theorem dX7_ratesOf_6 : decode cX7_ratesOf 6 = .ok (.iload_n 1, 1) := dk_27 (dk_at dksX7_ratesOf_0 6 rfl rfl)
theorem dX7_ratesOf_7 : decode cX7_ratesOf 7 = .ok (.iadd, 1) := dk_96 (dk_at dksX7_ratesOf_0 7 rfl rfl)
theorem dX7_ratesOf_8 : decode cX7_ratesOf 8 = .ok (.iaload, 1) := dk_46 (dk_at dksX7_ratesOf_0 8 rfl rfl)
theorem dX7_ratesOf_9 : decode cX7_ratesOf 9 = .ok (.istore_n 2, 1) := dk_61 (dk_at dksX7_ratesOf_0 9 rfl rfl)
theorem dX7_ratesOf_10 : decode cX7_ratesOf 10 = .ok (.iconst 0, 1) := dk_3 (dk_at dksX7_ratesOf_0 10 rfl rfl)
theorem dX7_ratesOf_11 : decode cX7_ratesOf 11 = .ok (.istore_n 3, 1) := dk_62 (dk_at dksX7_ratesOf_0 11 rfl rfl)
theorem dX7_ratesOf_12 : decode cX7_ratesOf 12 = .ok (.iconst 0, 1) := dk_3 (dk_at dksX7_ratesOf_0 12 rfl rfl)
theorem dX7_ratesOf_13 : decode cX7_ratesOf 13 = .ok (.istore 4, 2) := dk_54 4 (dk_at dksX7_ratesOf_0 13 rfl rfl)
theorem dX7_ratesOf_15 : decode cX7_ratesOf 15 = .ok (.iload 4, 2) := dk_21 4 (dk_at dksX7_ratesOf_0 15 rfl rfl)
theorem dX7_ratesOf_17 : decode cX7_ratesOf 17 = .ok (.bipush 6, 2) := dk_16 6 (dk_at dksX7_ratesOf_0 17 rfl rfl)
theorem dX7_ratesOf_19 : decode cX7_ratesOf 19 = .ok (.if_icmp .gt 41, 3) := dk_163 0 41 (dk_at dksX7_ratesOf_0 19 rfl rfl)
theorem dX7_ratesOf_22 : decode cX7_ratesOf 22 = .ok (.aload_n 0, 1) := dk_42 (dk_at dksX7_ratesOf_0 22 rfl rfl)
theorem dX7_ratesOf_23 : decode cX7_ratesOf 23 = .ok (.getfield 7, 3) := dk_180 0 7 (dk_at dksX7_ratesOf_1 0 rfl rfl)
theorem dX7_ratesOf_26 : decode cX7_ratesOf 26 = .ok (.bipush 10, 2) := dk_16 10 (dk_at dksX7_ratesOf_1 3 rfl rfl)
theorem dX7_ratesOf_28 : decode cX7_ratesOf 28 = .ok (.iload_n 1, 1) := dk_27 (dk_at dksX7_ratesOf_1 5 rfl rfl)
theorem dX7_ratesOf_29 : decode cX7_ratesOf 29 = .ok (.iadd, 1) := dk_96 (dk_at dksX7_ratesOf_1 6 rfl rfl)
theorem dX7_ratesOf_30 : decode cX7_ratesOf 30 = .ok (.iload 4, 2) := dk_21 4 (dk_at dksX7_ratesOf_1 7 rfl rfl)
theorem dX7_ratesOf_32 : decode cX7_ratesOf 32 = .ok (.iastore, 1) := dk_79 (dk_at dksX7_ratesOf_1 9 rfl rfl)
theorem dX7_ratesOf_33 : decode cX7_ratesOf 33 = .ok (.iload_n 3, 1) := dk_29 (dk_at dksX7_ratesOf_1 10 rfl rfl)
theorem dX7_ratesOf_34 : decode cX7_ratesOf 34 = .ok (.aload_n 0, 1) := dk_42 (dk_at dksX7_ratesOf_1 11 rfl rfl)
theorem dX7_ratesOf_35 : decode cX7_ratesOf 35 = .ok (.iload_n 1, 1) := dk_27 (dk_at dksX7_ratesOf_1 12 rfl rfl)
theorem dX7_ratesOf_36 : decode cX7_ratesOf 36 = .ok (.iload 4, 2) := dk_21 4 (dk_at dksX7_ratesOf_1 13 rfl rfl)
theorem dX7_ratesOf_38 : decode cX7_ratesOf 38 = .ok (.invokevirtual 253, 3) := dk_182 0 253 (dk_at dksX7_ratesOf_1 15 rfl rfl)
theorem dX7_ratesOf_41 : decode cX7_ratesOf 41 = .ok (.ifCond .eq 10, 3) := dk_153 0 10 (dk_at dksX7_ratesOf_1 18 rfl rfl)
theorem dX7_ratesOf_44 : decode cX7_ratesOf 44 = .ok (.iconst 1, 1) := dk_4 (dk_at dksX7_ratesOf_1 21 rfl rfl)
theorem dX7_ratesOf_45 : decode cX7_ratesOf 45 = .ok (.iload 4, 2) := dk_21 4 (dk_at dksX7_ratesOf_1 22 rfl rfl)
theorem dX7_ratesOf_47 : decode cX7_ratesOf 47 = .ok (.ishl, 1) := dk_120 (dk_at dksX7_ratesOf_2 0 rfl rfl)
theorem dX7_ratesOf_48 : decode cX7_ratesOf 48 = .ok (.goto 4, 3) := dk_167 0 4 (dk_at dksX7_ratesOf_2 1 rfl rfl)
theorem dX7_ratesOf_51 : decode cX7_ratesOf 51 = .ok (.iconst 0, 1) := dk_3 (dk_at dksX7_ratesOf_2 4 rfl rfl)
theorem dX7_ratesOf_52 : decode cX7_ratesOf 52 = .ok (.ior, 1) := dk_128 (dk_at dksX7_ratesOf_2 5 rfl rfl)
theorem dX7_ratesOf_53 : decode cX7_ratesOf 53 = .ok (.istore_n 3, 1) := dk_62 (dk_at dksX7_ratesOf_2 6 rfl rfl)
theorem dX7_ratesOf_54 : decode cX7_ratesOf 54 = .ok (.iinc 4 1, 3) := dk_132 4 1 (dk_at dksX7_ratesOf_2 7 rfl rfl)
theorem dX7_ratesOf_57 : decode cX7_ratesOf 57 = .ok (.goto (-42), 3) := dk_167 255 214 (dk_at dksX7_ratesOf_2 10 rfl rfl)
theorem dX7_ratesOf_60 : decode cX7_ratesOf 60 = .ok (.aload_n 0, 1) := dk_42 (dk_at dksX7_ratesOf_2 13 rfl rfl)
theorem dX7_ratesOf_61 : decode cX7_ratesOf 61 = .ok (.getfield 7, 3) := dk_180 0 7 (dk_at dksX7_ratesOf_2 14 rfl rfl)
theorem dX7_ratesOf_64 : decode cX7_ratesOf 64 = .ok (.bipush 10, 2) := dk_16 10 (dk_at dksX7_ratesOf_2 17 rfl rfl)
theorem dX7_ratesOf_66 : decode cX7_ratesOf 66 = .ok (.iload_n 1, 1) := dk_27 (dk_at dksX7_ratesOf_2 19 rfl rfl)
theorem dX7_ratesOf_67 : decode cX7_ratesOf 67 = .ok (.iadd, 1) := dk_96 (dk_at dksX7_ratesOf_2 20 rfl rfl)
theorem dX7_ratesOf_68 : decode cX7_ratesOf 68 = .ok (.iload_n 2, 1) := dk_28 (dk_at dksX7_ratesOf_2 21 rfl rfl)
theorem dX7_ratesOf_69 : decode cX7_ratesOf 69 = .ok (.iastore, 1) := dk_79 (dk_at dksX7_ratesOf_2 22 rfl rfl)
theorem dX7_ratesOf_70 : decode cX7_ratesOf 70 = .ok (.iload_n 3, 1) := dk_29 (dk_at dksX7_ratesOf_2 23 rfl rfl)
theorem dX7_ratesOf_71 : decode cX7_ratesOf 71 = .ok (.ireturn, 1) := dk_172 (dk_at dksX7_ratesOf_3 0 rfl rfl)
abbrev cX7_look : ByteArray := prog_11_method_67_code
def yX7_look : MethodName := ⟨RX7, "look", "(II)I"⟩
def dkwX7_look_9 : List UInt8 := [167, 0, 5, 21, 4, 172]
abbrev dktX7_look_9 : List UInt8 := dkwX7_look_9 ++ []
def dkwX7_look_8 : List UInt8 := [21, 4, 54, 4, 132, 6, 1, 167, 255, 101, 21, 5, 16, 252, 159, 0, 7, 28, 154, 0, 8, 21, 5]
abbrev dktX7_look_8 : List UInt8 := dkwX7_look_8 ++ dktX7_look_9
def dkwX7_look_7 : List UInt8 := [162, 0, 8, 21, 6, 167, 0, 5, 21, 5, 54, 5, 21, 7, 21, 4, 162, 0, 8, 21, 7, 167, 0, 5]
abbrev dktX7_look_7 : List UInt8 := dkwX7_look_7 ++ dktX7_look_8
def dkwX7_look_6 : List UInt8 := [21, 7, 164, 0, 8, 21, 9, 167, 0, 5, 21, 7, 54, 7, 132, 8, 1, 167, 255, 152, 21, 7, 21, 4]
abbrev dktX7_look_6 : List UInt8 := dkwX7_look_6 ++ dktX7_look_7
def dkwX7_look_5 : List UInt8 := [104, 21, 6, 96, 46, 160, 0, 7, 4, 167, 0, 4, 3, 96, 54, 9, 132, 10, 1, 167, 255, 187, 21, 9]
abbrev dktX7_look_5 : List UInt8 := dkwX7_look_5 ++ dktX7_look_6
def dkwX7_look_4 : List UInt8 := [160, 0, 36, 42, 180, 0, 28, 16, 21, 21, 8, 104, 21, 6, 96, 46, 42, 180, 0, 28, 16, 21, 21, 10]
abbrev dktX7_look_4 : List UInt8 := dkwX7_look_4 ++ dktX7_look_5
def dkwX7_look_3 : List UInt8 := [163, 0, 68, 29, 21, 8, 122, 4, 126, 4, 160, 0, 58, 21, 9, 29, 21, 10, 122, 4, 126, 4]
abbrev dktX7_look_3 : List UInt8 := dkwX7_look_3 ++ dktX7_look_4
def dkwX7_look_2 : List UInt8 := [3, 54, 7, 3, 54, 8, 21, 8, 16, 6, 163, 0, 103, 3, 54, 9, 3, 54, 10, 21, 10, 16, 6]
abbrev dktX7_look_2 : List UInt8 := dkwX7_look_2 ++ dktX7_look_3
def dkwX7_look_1 : List UInt8 := [182, 1, 0, 62, 29, 184, 0, 204, 54, 4, 16, 252, 54, 5, 3, 54, 6, 21, 6, 16, 20, 163, 0, 154]
abbrev dktX7_look_1 : List UInt8 := dkwX7_look_1 ++ dktX7_look_2
def dkwX7_look_0 : List UInt8 := [42, 27, 182, 0, 132, 153, 0, 13, 28, 133, 9, 10, 184, 0, 46, 154, 0, 5, 2, 172, 42, 27]
abbrev dktX7_look_0 : List UInt8 := dkwX7_look_0 ++ dktX7_look_1
theorem dksX7_look_0 : cX7_look.data.toList.drop 0 = dktX7_look_0 := by decide +kernel
theorem dksX7_look_1 : cX7_look.data.toList.drop 22 = dktX7_look_1 := dk_seg dksX7_look_0 22 rfl rfl
theorem dksX7_look_2 : cX7_look.data.toList.drop 46 = dktX7_look_2 := dk_seg dksX7_look_1 24 rfl rfl
theorem dksX7_look_3 : cX7_look.data.toList.drop 69 = dktX7_look_3 := dk_seg dksX7_look_2 23 rfl rfl
theorem dksX7_look_4 : cX7_look.data.toList.drop 91 = dktX7_look_4 := dk_seg dksX7_look_3 22 rfl rfl
theorem dksX7_look_5 : cX7_look.data.toList.drop 115 = dktX7_look_5 := dk_seg dksX7_look_4 24 rfl rfl
theorem dksX7_look_6 : cX7_look.data.toList.drop 139 = dktX7_look_6 := dk_seg dksX7_look_5 24 rfl rfl
theorem dksX7_look_7 : cX7_look.data.toList.drop 163 = dktX7_look_7 := dk_seg dksX7_look_6 24 rfl rfl
theorem dksX7_look_8 : cX7_look.data.toList.drop 187 = dktX7_look_8 := dk_seg dksX7_look_7 24 rfl rfl
theorem dksX7_look_9 : cX7_look.data.toList.drop 210 = dktX7_look_9 := dk_seg dksX7_look_8 23 rfl rfl
theorem dX7_look_0 : decode cX7_look 0 = .ok (.aload_n 0, 1) := dk_42 (dk_at dksX7_look_0 0 rfl rfl)
theorem dX7_look_1 : decode cX7_look 1 = .ok (.iload_n 1, 1) := dk_27 (dk_at dksX7_look_0 1 rfl rfl)
theorem dX7_look_2 : decode cX7_look 2 = .ok (.invokevirtual 132, 3) := dk_182 0 132 (dk_at dksX7_look_0 2 rfl rfl)
theorem dX7_look_5 : decode cX7_look 5 = .ok (.ifCond .eq 13, 3) := dk_153 0 13 (dk_at dksX7_look_0 5 rfl rfl)
theorem dX7_look_8 : decode cX7_look 8 = .ok (.iload_n 2, 1) := dk_28 (dk_at dksX7_look_0 8 rfl rfl)
theorem dX7_look_9 : decode cX7_look 9 = .ok (.i2l, 1) := dk_133 (dk_at dksX7_look_0 9 rfl rfl)
theorem dX7_look_10 : decode cX7_look 10 = .ok (.lconst 0, 1) := dk_9 (dk_at dksX7_look_0 10 rfl rfl)
theorem dX7_look_11 : decode cX7_look 11 = .ok (.lconst 1, 1) := dk_10 (dk_at dksX7_look_0 11 rfl rfl)
theorem dX7_look_12 : decode cX7_look 12 = .ok (.invokestatic 46, 3) := dk_184 0 46 (dk_at dksX7_look_0 12 rfl rfl)
theorem dX7_look_15 : decode cX7_look 15 = .ok (.ifCond .ne 5, 3) := dk_154 0 5 (dk_at dksX7_look_0 15 rfl rfl)
theorem dX7_look_18 : decode cX7_look 18 = .ok (.iconst (-1), 1) := dk_2 (dk_at dksX7_look_0 18 rfl rfl)
theorem dX7_look_19 : decode cX7_look 19 = .ok (.ireturn, 1) := dk_172 (dk_at dksX7_look_0 19 rfl rfl)
theorem dX7_look_20 : decode cX7_look 20 = .ok (.aload_n 0, 1) := dk_42 (dk_at dksX7_look_0 20 rfl rfl)
theorem dX7_look_21 : decode cX7_look 21 = .ok (.iload_n 1, 1) := dk_27 (dk_at dksX7_look_0 21 rfl rfl)
theorem dX7_look_22 : decode cX7_look 22 = .ok (.invokevirtual 256, 3) := dk_182 1 0 (dk_at dksX7_look_1 0 rfl rfl)
theorem dX7_look_25 : decode cX7_look 25 = .ok (.istore_n 3, 1) := dk_62 (dk_at dksX7_look_1 3 rfl rfl)
theorem dX7_look_26 : decode cX7_look 26 = .ok (.iload_n 3, 1) := dk_29 (dk_at dksX7_look_1 4 rfl rfl)
theorem dX7_look_27 : decode cX7_look 27 = .ok (.invokestatic 204, 3) := dk_184 0 204 (dk_at dksX7_look_1 5 rfl rfl)
theorem dX7_look_30 : decode cX7_look 30 = .ok (.istore 4, 2) := dk_54 4 (dk_at dksX7_look_1 8 rfl rfl)
theorem dX7_look_32 : decode cX7_look 32 = .ok (.bipush (-4), 2) := dk_16 252 (dk_at dksX7_look_1 10 rfl rfl)
theorem dX7_look_34 : decode cX7_look 34 = .ok (.istore 5, 2) := dk_54 5 (dk_at dksX7_look_1 12 rfl rfl)
theorem dX7_look_36 : decode cX7_look 36 = .ok (.iconst 0, 1) := dk_3 (dk_at dksX7_look_1 14 rfl rfl)
theorem dX7_look_37 : decode cX7_look 37 = .ok (.istore 6, 2) := dk_54 6 (dk_at dksX7_look_1 15 rfl rfl)
theorem dX7_look_39 : decode cX7_look 39 = .ok (.iload 6, 2) := dk_21 6 (dk_at dksX7_look_1 17 rfl rfl)
theorem dX7_look_41 : decode cX7_look 41 = .ok (.bipush 20, 2) := dk_16 20 (dk_at dksX7_look_1 19 rfl rfl)
theorem dX7_look_43 : decode cX7_look 43 = .ok (.if_icmp .gt 154, 3) := dk_163 0 154 (dk_at dksX7_look_1 21 rfl rfl)
theorem dX7_look_46 : decode cX7_look 46 = .ok (.iconst 0, 1) := dk_3 (dk_at dksX7_look_2 0 rfl rfl)
theorem dX7_look_47 : decode cX7_look 47 = .ok (.istore 7, 2) := dk_54 7 (dk_at dksX7_look_2 1 rfl rfl)
theorem dX7_look_49 : decode cX7_look 49 = .ok (.iconst 0, 1) := dk_3 (dk_at dksX7_look_2 3 rfl rfl)
theorem dX7_look_50 : decode cX7_look 50 = .ok (.istore 8, 2) := dk_54 8 (dk_at dksX7_look_2 4 rfl rfl)
theorem dX7_look_52 : decode cX7_look 52 = .ok (.iload 8, 2) := dk_21 8 (dk_at dksX7_look_2 6 rfl rfl)
theorem dX7_look_54 : decode cX7_look 54 = .ok (.bipush 6, 2) := dk_16 6 (dk_at dksX7_look_2 8 rfl rfl)
theorem dX7_look_56 : decode cX7_look 56 = .ok (.if_icmp .gt 103, 3) := dk_163 0 103 (dk_at dksX7_look_2 10 rfl rfl)
theorem dX7_look_59 : decode cX7_look 59 = .ok (.iconst 0, 1) := dk_3 (dk_at dksX7_look_2 13 rfl rfl)
theorem dX7_look_60 : decode cX7_look 60 = .ok (.istore 9, 2) := dk_54 9 (dk_at dksX7_look_2 14 rfl rfl)
theorem dX7_look_62 : decode cX7_look 62 = .ok (.iconst 0, 1) := dk_3 (dk_at dksX7_look_2 16 rfl rfl)
theorem dX7_look_63 : decode cX7_look 63 = .ok (.istore 10, 2) := dk_54 10 (dk_at dksX7_look_2 17 rfl rfl)
theorem dX7_look_65 : decode cX7_look 65 = .ok (.iload 10, 2) := dk_21 10 (dk_at dksX7_look_2 19 rfl rfl)
theorem dX7_look_67 : decode cX7_look 67 = .ok (.bipush 6, 2) := dk_16 6 (dk_at dksX7_look_2 21 rfl rfl)
theorem dX7_look_69 : decode cX7_look 69 = .ok (.if_icmp .gt 68, 3) := dk_163 0 68 (dk_at dksX7_look_3 0 rfl rfl)
theorem dX7_look_72 : decode cX7_look 72 = .ok (.iload_n 3, 1) := dk_29 (dk_at dksX7_look_3 3 rfl rfl)
theorem dX7_look_73 : decode cX7_look 73 = .ok (.iload 8, 2) := dk_21 8 (dk_at dksX7_look_3 4 rfl rfl)
theorem dX7_look_75 : decode cX7_look 75 = .ok (.ishr, 1) := dk_122 (dk_at dksX7_look_3 6 rfl rfl)
theorem dX7_look_76 : decode cX7_look 76 = .ok (.iconst 1, 1) := dk_4 (dk_at dksX7_look_3 7 rfl rfl)
theorem dX7_look_77 : decode cX7_look 77 = .ok (.iand, 1) := dk_126 (dk_at dksX7_look_3 8 rfl rfl)
theorem dX7_look_78 : decode cX7_look 78 = .ok (.iconst 1, 1) := dk_4 (dk_at dksX7_look_3 9 rfl rfl)
theorem dX7_look_79 : decode cX7_look 79 = .ok (.if_icmp .ne 58, 3) := dk_160 0 58 (dk_at dksX7_look_3 10 rfl rfl)
theorem dX7_look_82 : decode cX7_look 82 = .ok (.iload 9, 2) := dk_21 9 (dk_at dksX7_look_3 13 rfl rfl)
theorem dX7_look_84 : decode cX7_look 84 = .ok (.iload_n 3, 1) := dk_29 (dk_at dksX7_look_3 15 rfl rfl)
theorem dX7_look_85 : decode cX7_look 85 = .ok (.iload 10, 2) := dk_21 10 (dk_at dksX7_look_3 16 rfl rfl)
theorem dX7_look_87 : decode cX7_look 87 = .ok (.ishr, 1) := dk_122 (dk_at dksX7_look_3 18 rfl rfl)
theorem dX7_look_88 : decode cX7_look 88 = .ok (.iconst 1, 1) := dk_4 (dk_at dksX7_look_3 19 rfl rfl)
theorem dX7_look_89 : decode cX7_look 89 = .ok (.iand, 1) := dk_126 (dk_at dksX7_look_3 20 rfl rfl)
theorem dX7_look_90 : decode cX7_look 90 = .ok (.iconst 1, 1) := dk_4 (dk_at dksX7_look_3 21 rfl rfl)
theorem dX7_look_91 : decode cX7_look 91 = .ok (.if_icmp .ne 36, 3) := dk_160 0 36 (dk_at dksX7_look_4 0 rfl rfl)
theorem dX7_look_94 : decode cX7_look 94 = .ok (.aload_n 0, 1) := dk_42 (dk_at dksX7_look_4 3 rfl rfl)
theorem dX7_look_95 : decode cX7_look 95 = .ok (.getfield 28, 3) := dk_180 0 28 (dk_at dksX7_look_4 4 rfl rfl)
theorem dX7_look_98 : decode cX7_look 98 = .ok (.bipush 21, 2) := dk_16 21 (dk_at dksX7_look_4 7 rfl rfl)
theorem dX7_look_100 : decode cX7_look 100 = .ok (.iload 8, 2) := dk_21 8 (dk_at dksX7_look_4 9 rfl rfl)
theorem dX7_look_102 : decode cX7_look 102 = .ok (.imul, 1) := dk_104 (dk_at dksX7_look_4 11 rfl rfl)
theorem dX7_look_103 : decode cX7_look 103 = .ok (.iload 6, 2) := dk_21 6 (dk_at dksX7_look_4 12 rfl rfl)
theorem dX7_look_105 : decode cX7_look 105 = .ok (.iadd, 1) := dk_96 (dk_at dksX7_look_4 14 rfl rfl)
theorem dX7_look_106 : decode cX7_look 106 = .ok (.iaload, 1) := dk_46 (dk_at dksX7_look_4 15 rfl rfl)
theorem dX7_look_107 : decode cX7_look 107 = .ok (.aload_n 0, 1) := dk_42 (dk_at dksX7_look_4 16 rfl rfl)
theorem dX7_look_108 : decode cX7_look 108 = .ok (.getfield 28, 3) := dk_180 0 28 (dk_at dksX7_look_4 17 rfl rfl)
theorem dX7_look_111 : decode cX7_look 111 = .ok (.bipush 21, 2) := dk_16 21 (dk_at dksX7_look_4 20 rfl rfl)
theorem dX7_look_113 : decode cX7_look 113 = .ok (.iload 10, 2) := dk_21 10 (dk_at dksX7_look_4 22 rfl rfl)
theorem dX7_look_115 : decode cX7_look 115 = .ok (.imul, 1) := dk_104 (dk_at dksX7_look_5 0 rfl rfl)
theorem dX7_look_116 : decode cX7_look 116 = .ok (.iload 6, 2) := dk_21 6 (dk_at dksX7_look_5 1 rfl rfl)
theorem dX7_look_118 : decode cX7_look 118 = .ok (.iadd, 1) := dk_96 (dk_at dksX7_look_5 3 rfl rfl)
theorem dX7_look_119 : decode cX7_look 119 = .ok (.iaload, 1) := dk_46 (dk_at dksX7_look_5 4 rfl rfl)
theorem dX7_look_120 : decode cX7_look 120 = .ok (.if_icmp .ne 7, 3) := dk_160 0 7 (dk_at dksX7_look_5 5 rfl rfl)
theorem dX7_look_123 : decode cX7_look 123 = .ok (.iconst 1, 1) := dk_4 (dk_at dksX7_look_5 8 rfl rfl)
theorem dX7_look_124 : decode cX7_look 124 = .ok (.goto 4, 3) := dk_167 0 4 (dk_at dksX7_look_5 9 rfl rfl)
theorem dX7_look_127 : decode cX7_look 127 = .ok (.iconst 0, 1) := dk_3 (dk_at dksX7_look_5 12 rfl rfl)
theorem dX7_look_128 : decode cX7_look 128 = .ok (.iadd, 1) := dk_96 (dk_at dksX7_look_5 13 rfl rfl)
theorem dX7_look_129 : decode cX7_look 129 = .ok (.istore 9, 2) := dk_54 9 (dk_at dksX7_look_5 14 rfl rfl)
theorem dX7_look_131 : decode cX7_look 131 = .ok (.iinc 10 1, 3) := dk_132 10 1 (dk_at dksX7_look_5 16 rfl rfl)
theorem dX7_look_134 : decode cX7_look 134 = .ok (.goto (-69), 3) := dk_167 255 187 (dk_at dksX7_look_5 19 rfl rfl)
theorem dX7_look_137 : decode cX7_look 137 = .ok (.iload 9, 2) := dk_21 9 (dk_at dksX7_look_5 22 rfl rfl)
theorem dX7_look_139 : decode cX7_look 139 = .ok (.iload 7, 2) := dk_21 7 (dk_at dksX7_look_6 0 rfl rfl)
theorem dX7_look_141 : decode cX7_look 141 = .ok (.if_icmp .le 8, 3) := dk_164 0 8 (dk_at dksX7_look_6 2 rfl rfl)
theorem dX7_look_144 : decode cX7_look 144 = .ok (.iload 9, 2) := dk_21 9 (dk_at dksX7_look_6 5 rfl rfl)
theorem dX7_look_146 : decode cX7_look 146 = .ok (.goto 5, 3) := dk_167 0 5 (dk_at dksX7_look_6 7 rfl rfl)
theorem dX7_look_149 : decode cX7_look 149 = .ok (.iload 7, 2) := dk_21 7 (dk_at dksX7_look_6 10 rfl rfl)
theorem dX7_look_151 : decode cX7_look 151 = .ok (.istore 7, 2) := dk_54 7 (dk_at dksX7_look_6 12 rfl rfl)
theorem dX7_look_153 : decode cX7_look 153 = .ok (.iinc 8 1, 3) := dk_132 8 1 (dk_at dksX7_look_6 14 rfl rfl)
theorem dX7_look_156 : decode cX7_look 156 = .ok (.goto (-104), 3) := dk_167 255 152 (dk_at dksX7_look_6 17 rfl rfl)
theorem dX7_look_159 : decode cX7_look 159 = .ok (.iload 7, 2) := dk_21 7 (dk_at dksX7_look_6 20 rfl rfl)
theorem dX7_look_161 : decode cX7_look 161 = .ok (.iload 4, 2) := dk_21 4 (dk_at dksX7_look_6 22 rfl rfl)
theorem dX7_look_163 : decode cX7_look 163 = .ok (.if_icmp .ge 8, 3) := dk_162 0 8 (dk_at dksX7_look_7 0 rfl rfl)
theorem dX7_look_166 : decode cX7_look 166 = .ok (.iload 6, 2) := dk_21 6 (dk_at dksX7_look_7 3 rfl rfl)
theorem dX7_look_168 : decode cX7_look 168 = .ok (.goto 5, 3) := dk_167 0 5 (dk_at dksX7_look_7 5 rfl rfl)
theorem dX7_look_171 : decode cX7_look 171 = .ok (.iload 5, 2) := dk_21 5 (dk_at dksX7_look_7 8 rfl rfl)
theorem dX7_look_173 : decode cX7_look 173 = .ok (.istore 5, 2) := dk_54 5 (dk_at dksX7_look_7 10 rfl rfl)
theorem dX7_look_175 : decode cX7_look 175 = .ok (.iload 7, 2) := dk_21 7 (dk_at dksX7_look_7 12 rfl rfl)
theorem dX7_look_177 : decode cX7_look 177 = .ok (.iload 4, 2) := dk_21 4 (dk_at dksX7_look_7 14 rfl rfl)
theorem dX7_look_179 : decode cX7_look 179 = .ok (.if_icmp .ge 8, 3) := dk_162 0 8 (dk_at dksX7_look_7 16 rfl rfl)
theorem dX7_look_182 : decode cX7_look 182 = .ok (.iload 7, 2) := dk_21 7 (dk_at dksX7_look_7 19 rfl rfl)
theorem dX7_look_184 : decode cX7_look 184 = .ok (.goto 5, 3) := dk_167 0 5 (dk_at dksX7_look_7 21 rfl rfl)
theorem dX7_look_187 : decode cX7_look 187 = .ok (.iload 4, 2) := dk_21 4 (dk_at dksX7_look_8 0 rfl rfl)
theorem dX7_look_189 : decode cX7_look 189 = .ok (.istore 4, 2) := dk_54 4 (dk_at dksX7_look_8 2 rfl rfl)
theorem dX7_look_191 : decode cX7_look 191 = .ok (.iinc 6 1, 3) := dk_132 6 1 (dk_at dksX7_look_8 4 rfl rfl)
theorem dX7_look_194 : decode cX7_look 194 = .ok (.goto (-155), 3) := dk_167 255 101 (dk_at dksX7_look_8 7 rfl rfl)
theorem dX7_look_197 : decode cX7_look 197 = .ok (.iload 5, 2) := dk_21 5 (dk_at dksX7_look_8 10 rfl rfl)
theorem dX7_look_199 : decode cX7_look 199 = .ok (.bipush (-4), 2) := dk_16 252 (dk_at dksX7_look_8 12 rfl rfl)
theorem dX7_look_201 : decode cX7_look 201 = .ok (.if_icmp .eq 7, 3) := dk_159 0 7 (dk_at dksX7_look_8 14 rfl rfl)
theorem dX7_look_204 : decode cX7_look 204 = .ok (.iload_n 2, 1) := dk_28 (dk_at dksX7_look_8 17 rfl rfl)
theorem dX7_look_205 : decode cX7_look 205 = .ok (.ifCond .ne 8, 3) := dk_154 0 8 (dk_at dksX7_look_8 18 rfl rfl)
theorem dX7_look_208 : decode cX7_look 208 = .ok (.iload 5, 2) := dk_21 5 (dk_at dksX7_look_8 21 rfl rfl)
theorem dX7_look_210 : decode cX7_look 210 = .ok (.goto 5, 3) := dk_167 0 5 (dk_at dksX7_look_9 0 rfl rfl)
theorem dX7_look_213 : decode cX7_look 213 = .ok (.iload 4, 2) := dk_21 4 (dk_at dksX7_look_9 3 rfl rfl)
theorem dX7_look_215 : decode cX7_look 215 = .ok (.ireturn, 1) := dk_172 (dk_at dksX7_look_9 5 rfl rfl)
abbrev cX7_drift : ByteArray := prog_11_method_68_code
def yX7_drift : MethodName := ⟨RX7, "drift", "(III)I"⟩
def dkwX7_drift_6 : List UInt8 := [167, 255, 166, 29, 154, 0, 8, 21, 5, 167, 0, 10, 42, 17, 1, 12, 182, 0, 150, 172]
abbrev dktX7_drift_6 : List UInt8 := dkwX7_drift_6 ++ []
def dkwX7_drift_5 : List UInt8 := [96, 182, 0, 222, 153, 0, 9, 132, 5, 1, 167, 0, 10, 42, 17, 1, 12, 182, 0, 186, 132, 6, 1]
abbrev dktX7_drift_5 : List UInt8 := dkwX7_drift_5 ++ dktX7_drift_6
def dkwX7_drift_4 : List UInt8 := [16, 10, 21, 7, 16, 8, 108, 42, 180, 0, 126, 112, 104, 96, 4, 96, 21, 7, 16, 64, 108, 16, 9, 112]
abbrev dktX7_drift_4 : List UInt8 := dkwX7_drift_4 ++ dktX7_drift_5
def dkwX7_drift_3 : List UInt8 := [16, 16, 122, 17, 127, 255, 126, 54, 7, 42, 17, 1, 12, 16, 100, 21, 7, 42, 180, 0, 126, 112, 104]
abbrev dktX7_drift_3 : List UInt8 := dkwX7_drift_3 ++ dktX7_drift_4
def dkwX7_drift_2 : List UInt8 := [3, 54, 6, 21, 6, 28, 162, 0, 90, 21, 4, 19, 1, 3, 104, 17, 48, 57, 96, 54, 4, 21, 4]
abbrev dktX7_drift_2 : List UInt8 := dkwX7_drift_2 ++ dktX7_drift_3
def dkwX7_drift_1 : List UInt8 := [42, 180, 0, 126, 154, 0, 6, 16, 254, 172, 42, 3, 17, 1, 12, 182, 0, 189, 27, 54, 4, 3, 54, 5]
abbrev dktX7_drift_1 : List UInt8 := dkwX7_drift_1 ++ dktX7_drift_2
def dkwX7_drift_0 : List UInt8 := [28, 133, 10, 20, 0, 202, 184, 0, 46, 153, 0, 13, 29, 133, 9, 10, 184, 0, 46, 154, 0, 5, 2, 172]
abbrev dktX7_drift_0 : List UInt8 := dkwX7_drift_0 ++ dktX7_drift_1
theorem dksX7_drift_0 : cX7_drift.data.toList.drop 0 = dktX7_drift_0 := by decide +kernel
theorem dksX7_drift_1 : cX7_drift.data.toList.drop 24 = dktX7_drift_1 := dk_seg dksX7_drift_0 24 rfl rfl
theorem dksX7_drift_2 : cX7_drift.data.toList.drop 48 = dktX7_drift_2 := dk_seg dksX7_drift_1 24 rfl rfl
theorem dksX7_drift_3 : cX7_drift.data.toList.drop 71 = dktX7_drift_3 := dk_seg dksX7_drift_2 23 rfl rfl
theorem dksX7_drift_4 : cX7_drift.data.toList.drop 94 = dktX7_drift_4 := dk_seg dksX7_drift_3 23 rfl rfl
theorem dksX7_drift_5 : cX7_drift.data.toList.drop 118 = dktX7_drift_5 := dk_seg dksX7_drift_4 24 rfl rfl
theorem dksX7_drift_6 : cX7_drift.data.toList.drop 141 = dktX7_drift_6 := dk_seg dksX7_drift_5 23 rfl rfl
theorem dX7_drift_0 : decode cX7_drift 0 = .ok (.iload_n 2, 1) := dk_28 (dk_at dksX7_drift_0 0 rfl rfl)
theorem dX7_drift_1 : decode cX7_drift 1 = .ok (.i2l, 1) := dk_133 (dk_at dksX7_drift_0 1 rfl rfl)
theorem dX7_drift_2 : decode cX7_drift 2 = .ok (.lconst 1, 1) := dk_10 (dk_at dksX7_drift_0 2 rfl rfl)
theorem dX7_drift_3 : decode cX7_drift 3 = .ok (.ldc2_w 202, 3) := dk_20 0 202 (dk_at dksX7_drift_0 3 rfl rfl)
theorem dX7_drift_6 : decode cX7_drift 6 = .ok (.invokestatic 46, 3) := dk_184 0 46 (dk_at dksX7_drift_0 6 rfl rfl)
theorem dX7_drift_9 : decode cX7_drift 9 = .ok (.ifCond .eq 13, 3) := dk_153 0 13 (dk_at dksX7_drift_0 9 rfl rfl)
theorem dX7_drift_12 : decode cX7_drift 12 = .ok (.iload_n 3, 1) := dk_29 (dk_at dksX7_drift_0 12 rfl rfl)
theorem dX7_drift_13 : decode cX7_drift 13 = .ok (.i2l, 1) := dk_133 (dk_at dksX7_drift_0 13 rfl rfl)
theorem dX7_drift_14 : decode cX7_drift 14 = .ok (.lconst 0, 1) := dk_9 (dk_at dksX7_drift_0 14 rfl rfl)
theorem dX7_drift_15 : decode cX7_drift 15 = .ok (.lconst 1, 1) := dk_10 (dk_at dksX7_drift_0 15 rfl rfl)
theorem dX7_drift_16 : decode cX7_drift 16 = .ok (.invokestatic 46, 3) := dk_184 0 46 (dk_at dksX7_drift_0 16 rfl rfl)
theorem dX7_drift_19 : decode cX7_drift 19 = .ok (.ifCond .ne 5, 3) := dk_154 0 5 (dk_at dksX7_drift_0 19 rfl rfl)
theorem dX7_drift_22 : decode cX7_drift 22 = .ok (.iconst (-1), 1) := dk_2 (dk_at dksX7_drift_0 22 rfl rfl)
theorem dX7_drift_23 : decode cX7_drift 23 = .ok (.ireturn, 1) := dk_172 (dk_at dksX7_drift_0 23 rfl rfl)
theorem dX7_drift_24 : decode cX7_drift 24 = .ok (.aload_n 0, 1) := dk_42 (dk_at dksX7_drift_1 0 rfl rfl)
theorem dX7_drift_25 : decode cX7_drift 25 = .ok (.getfield 126, 3) := dk_180 0 126 (dk_at dksX7_drift_1 1 rfl rfl)
theorem dX7_drift_28 : decode cX7_drift 28 = .ok (.ifCond .ne 6, 3) := dk_154 0 6 (dk_at dksX7_drift_1 4 rfl rfl)
theorem dX7_drift_31 : decode cX7_drift 31 = .ok (.bipush (-2), 2) := dk_16 254 (dk_at dksX7_drift_1 7 rfl rfl)
theorem dX7_drift_33 : decode cX7_drift 33 = .ok (.ireturn, 1) := dk_172 (dk_at dksX7_drift_1 9 rfl rfl)
theorem dX7_drift_34 : decode cX7_drift 34 = .ok (.aload_n 0, 1) := dk_42 (dk_at dksX7_drift_1 10 rfl rfl)
theorem dX7_drift_35 : decode cX7_drift 35 = .ok (.iconst 0, 1) := dk_3 (dk_at dksX7_drift_1 11 rfl rfl)
theorem dX7_drift_36 : decode cX7_drift 36 = .ok (.sipush 268, 3) := dk_17 1 12 (dk_at dksX7_drift_1 12 rfl rfl)
theorem dX7_drift_39 : decode cX7_drift 39 = .ok (.invokevirtual 189, 3) := dk_182 0 189 (dk_at dksX7_drift_1 15 rfl rfl)
theorem dX7_drift_42 : decode cX7_drift 42 = .ok (.iload_n 1, 1) := dk_27 (dk_at dksX7_drift_1 18 rfl rfl)
theorem dX7_drift_43 : decode cX7_drift 43 = .ok (.istore 4, 2) := dk_54 4 (dk_at dksX7_drift_1 19 rfl rfl)
theorem dX7_drift_45 : decode cX7_drift 45 = .ok (.iconst 0, 1) := dk_3 (dk_at dksX7_drift_1 21 rfl rfl)
theorem dX7_drift_46 : decode cX7_drift 46 = .ok (.istore 5, 2) := dk_54 5 (dk_at dksX7_drift_1 22 rfl rfl)
theorem dX7_drift_48 : decode cX7_drift 48 = .ok (.iconst 0, 1) := dk_3 (dk_at dksX7_drift_2 0 rfl rfl)
theorem dX7_drift_49 : decode cX7_drift 49 = .ok (.istore 6, 2) := dk_54 6 (dk_at dksX7_drift_2 1 rfl rfl)
theorem dX7_drift_51 : decode cX7_drift 51 = .ok (.iload 6, 2) := dk_21 6 (dk_at dksX7_drift_2 3 rfl rfl)
theorem dX7_drift_53 : decode cX7_drift 53 = .ok (.iload_n 2, 1) := dk_28 (dk_at dksX7_drift_2 5 rfl rfl)
theorem dX7_drift_54 : decode cX7_drift 54 = .ok (.if_icmp .ge 90, 3) := dk_162 0 90 (dk_at dksX7_drift_2 6 rfl rfl)
theorem dX7_drift_57 : decode cX7_drift 57 = .ok (.iload 4, 2) := dk_21 4 (dk_at dksX7_drift_2 9 rfl rfl)
theorem dX7_drift_59 : decode cX7_drift 59 = .ok (.ldc_w 259, 3) := dk_19 1 3 (dk_at dksX7_drift_2 11 rfl rfl)
theorem dX7_drift_62 : decode cX7_drift 62 = .ok (.imul, 1) := dk_104 (dk_at dksX7_drift_2 14 rfl rfl)
theorem dX7_drift_63 : decode cX7_drift 63 = .ok (.sipush 12345, 3) := dk_17 48 57 (dk_at dksX7_drift_2 15 rfl rfl)
theorem dX7_drift_66 : decode cX7_drift 66 = .ok (.iadd, 1) := dk_96 (dk_at dksX7_drift_2 18 rfl rfl)
theorem dX7_drift_67 : decode cX7_drift 67 = .ok (.istore 4, 2) := dk_54 4 (dk_at dksX7_drift_2 19 rfl rfl)
theorem dX7_drift_69 : decode cX7_drift 69 = .ok (.iload 4, 2) := dk_21 4 (dk_at dksX7_drift_2 21 rfl rfl)
theorem dX7_drift_71 : decode cX7_drift 71 = .ok (.bipush 16, 2) := dk_16 16 (dk_at dksX7_drift_3 0 rfl rfl)
theorem dX7_drift_73 : decode cX7_drift 73 = .ok (.ishr, 1) := dk_122 (dk_at dksX7_drift_3 2 rfl rfl)
theorem dX7_drift_74 : decode cX7_drift 74 = .ok (.sipush 32767, 3) := dk_17 127 255 (dk_at dksX7_drift_3 3 rfl rfl)
theorem dX7_drift_77 : decode cX7_drift 77 = .ok (.iand, 1) := dk_126 (dk_at dksX7_drift_3 6 rfl rfl)
theorem dX7_drift_78 : decode cX7_drift 78 = .ok (.istore 7, 2) := dk_54 7 (dk_at dksX7_drift_3 7 rfl rfl)
theorem dX7_drift_80 : decode cX7_drift 80 = .ok (.aload_n 0, 1) := dk_42 (dk_at dksX7_drift_3 9 rfl rfl)
theorem dX7_drift_81 : decode cX7_drift 81 = .ok (.sipush 268, 3) := dk_17 1 12 (dk_at dksX7_drift_3 10 rfl rfl)
theorem dX7_drift_84 : decode cX7_drift 84 = .ok (.bipush 100, 2) := dk_16 100 (dk_at dksX7_drift_3 13 rfl rfl)
theorem dX7_drift_86 : decode cX7_drift 86 = .ok (.iload 7, 2) := dk_21 7 (dk_at dksX7_drift_3 15 rfl rfl)
theorem dX7_drift_88 : decode cX7_drift 88 = .ok (.aload_n 0, 1) := dk_42 (dk_at dksX7_drift_3 17 rfl rfl)
theorem dX7_drift_89 : decode cX7_drift 89 = .ok (.getfield 126, 3) := dk_180 0 126 (dk_at dksX7_drift_3 18 rfl rfl)
theorem dX7_drift_92 : decode cX7_drift 92 = .ok (.irem, 1) := dk_112 (dk_at dksX7_drift_3 21 rfl rfl)
theorem dX7_drift_93 : decode cX7_drift 93 = .ok (.imul, 1) := dk_104 (dk_at dksX7_drift_3 22 rfl rfl)
theorem dX7_drift_94 : decode cX7_drift 94 = .ok (.bipush 10, 2) := dk_16 10 (dk_at dksX7_drift_4 0 rfl rfl)
theorem dX7_drift_96 : decode cX7_drift 96 = .ok (.iload 7, 2) := dk_21 7 (dk_at dksX7_drift_4 2 rfl rfl)
theorem dX7_drift_98 : decode cX7_drift 98 = .ok (.bipush 8, 2) := dk_16 8 (dk_at dksX7_drift_4 4 rfl rfl)
theorem dX7_drift_100 : decode cX7_drift 100 = .ok (.idiv, 1) := dk_108 (dk_at dksX7_drift_4 6 rfl rfl)
theorem dX7_drift_101 : decode cX7_drift 101 = .ok (.aload_n 0, 1) := dk_42 (dk_at dksX7_drift_4 7 rfl rfl)
theorem dX7_drift_102 : decode cX7_drift 102 = .ok (.getfield 126, 3) := dk_180 0 126 (dk_at dksX7_drift_4 8 rfl rfl)
theorem dX7_drift_105 : decode cX7_drift 105 = .ok (.irem, 1) := dk_112 (dk_at dksX7_drift_4 11 rfl rfl)
theorem dX7_drift_106 : decode cX7_drift 106 = .ok (.imul, 1) := dk_104 (dk_at dksX7_drift_4 12 rfl rfl)
theorem dX7_drift_107 : decode cX7_drift 107 = .ok (.iadd, 1) := dk_96 (dk_at dksX7_drift_4 13 rfl rfl)
theorem dX7_drift_108 : decode cX7_drift 108 = .ok (.iconst 1, 1) := dk_4 (dk_at dksX7_drift_4 14 rfl rfl)
theorem dX7_drift_109 : decode cX7_drift 109 = .ok (.iadd, 1) := dk_96 (dk_at dksX7_drift_4 15 rfl rfl)
theorem dX7_drift_110 : decode cX7_drift 110 = .ok (.iload 7, 2) := dk_21 7 (dk_at dksX7_drift_4 16 rfl rfl)
theorem dX7_drift_112 : decode cX7_drift 112 = .ok (.bipush 64, 2) := dk_16 64 (dk_at dksX7_drift_4 18 rfl rfl)
theorem dX7_drift_114 : decode cX7_drift 114 = .ok (.idiv, 1) := dk_108 (dk_at dksX7_drift_4 20 rfl rfl)
theorem dX7_drift_115 : decode cX7_drift 115 = .ok (.bipush 9, 2) := dk_16 9 (dk_at dksX7_drift_4 21 rfl rfl)
theorem dX7_drift_117 : decode cX7_drift 117 = .ok (.irem, 1) := dk_112 (dk_at dksX7_drift_4 23 rfl rfl)
theorem dX7_drift_118 : decode cX7_drift 118 = .ok (.iadd, 1) := dk_96 (dk_at dksX7_drift_5 0 rfl rfl)
theorem dX7_drift_119 : decode cX7_drift 119 = .ok (.invokevirtual 222, 3) := dk_182 0 222 (dk_at dksX7_drift_5 1 rfl rfl)
theorem dX7_drift_122 : decode cX7_drift 122 = .ok (.ifCond .eq 9, 3) := dk_153 0 9 (dk_at dksX7_drift_5 4 rfl rfl)
theorem dX7_drift_125 : decode cX7_drift 125 = .ok (.iinc 5 1, 3) := dk_132 5 1 (dk_at dksX7_drift_5 7 rfl rfl)
theorem dX7_drift_128 : decode cX7_drift 128 = .ok (.goto 10, 3) := dk_167 0 10 (dk_at dksX7_drift_5 10 rfl rfl)
theorem dX7_drift_131 : decode cX7_drift 131 = .ok (.aload_n 0, 1) := dk_42 (dk_at dksX7_drift_5 13 rfl rfl)
theorem dX7_drift_132 : decode cX7_drift 132 = .ok (.sipush 268, 3) := dk_17 1 12 (dk_at dksX7_drift_5 14 rfl rfl)
theorem dX7_drift_135 : decode cX7_drift 135 = .ok (.invokevirtual 186, 3) := dk_182 0 186 (dk_at dksX7_drift_5 17 rfl rfl)
theorem dX7_drift_138 : decode cX7_drift 138 = .ok (.iinc 6 1, 3) := dk_132 6 1 (dk_at dksX7_drift_5 20 rfl rfl)
theorem dX7_drift_141 : decode cX7_drift 141 = .ok (.goto (-90), 3) := dk_167 255 166 (dk_at dksX7_drift_6 0 rfl rfl)
theorem dX7_drift_144 : decode cX7_drift 144 = .ok (.iload_n 3, 1) := dk_29 (dk_at dksX7_drift_6 3 rfl rfl)
theorem dX7_drift_145 : decode cX7_drift 145 = .ok (.ifCond .ne 8, 3) := dk_154 0 8 (dk_at dksX7_drift_6 4 rfl rfl)
theorem dX7_drift_148 : decode cX7_drift 148 = .ok (.iload 5, 2) := dk_21 5 (dk_at dksX7_drift_6 7 rfl rfl)
theorem dX7_drift_150 : decode cX7_drift 150 = .ok (.goto 10, 3) := dk_167 0 10 (dk_at dksX7_drift_6 9 rfl rfl)
theorem dX7_drift_153 : decode cX7_drift 153 = .ok (.aload_n 0, 1) := dk_42 (dk_at dksX7_drift_6 12 rfl rfl)
theorem dX7_drift_154 : decode cX7_drift 154 = .ok (.sipush 268, 3) := dk_17 1 12 (dk_at dksX7_drift_6 13 rfl rfl)
theorem dX7_drift_157 : decode cX7_drift 157 = .ok (.invokevirtual 150, 3) := dk_182 0 150 (dk_at dksX7_drift_6 16 rfl rfl)
theorem dX7_drift_160 : decode cX7_drift 160 = .ok (.ireturn, 1) := dk_172 (dk_at dksX7_drift_6 19 rfl rfl)
abbrev cX7_keep : ByteArray := prog_11_method_69_code
def yX7_keep : MethodName := ⟨RX7, "keep", "(I)I"⟩
def dkwX7_keep_1 : List UInt8 := [180, 0, 31, 27, 51, 153, 0, 7, 4, 167, 0, 4, 3, 61, 42, 180, 0, 31, 27, 4, 84, 28, 172]
abbrev dktX7_keep_1 : List UInt8 := dkwX7_keep_1 ++ []
def dkwX7_keep_0 : List UInt8 := [27, 133, 9, 10, 184, 0, 46, 154, 0, 5, 2, 172, 42, 3, 16, 67, 27, 4, 96, 104, 182, 0, 189, 42]
abbrev dktX7_keep_0 : List UInt8 := dkwX7_keep_0 ++ dktX7_keep_1
theorem dksX7_keep_0 : cX7_keep.data.toList.drop 0 = dktX7_keep_0 := by decide +kernel
theorem dksX7_keep_1 : cX7_keep.data.toList.drop 24 = dktX7_keep_1 := dk_seg dksX7_keep_0 24 rfl rfl
theorem dX7_keep_0 : decode cX7_keep 0 = .ok (.iload_n 1, 1) := dk_27 (dk_at dksX7_keep_0 0 rfl rfl)
theorem dX7_keep_1 : decode cX7_keep 1 = .ok (.i2l, 1) := dk_133 (dk_at dksX7_keep_0 1 rfl rfl)
theorem dX7_keep_2 : decode cX7_keep 2 = .ok (.lconst 0, 1) := dk_9 (dk_at dksX7_keep_0 2 rfl rfl)
theorem dX7_keep_3 : decode cX7_keep 3 = .ok (.lconst 1, 1) := dk_10 (dk_at dksX7_keep_0 3 rfl rfl)
theorem dX7_keep_4 : decode cX7_keep 4 = .ok (.invokestatic 46, 3) := dk_184 0 46 (dk_at dksX7_keep_0 4 rfl rfl)
theorem dX7_keep_7 : decode cX7_keep 7 = .ok (.ifCond .ne 5, 3) := dk_154 0 5 (dk_at dksX7_keep_0 7 rfl rfl)
theorem dX7_keep_10 : decode cX7_keep 10 = .ok (.iconst (-1), 1) := dk_2 (dk_at dksX7_keep_0 10 rfl rfl)
theorem dX7_keep_11 : decode cX7_keep 11 = .ok (.ireturn, 1) := dk_172 (dk_at dksX7_keep_0 11 rfl rfl)
theorem dX7_keep_12 : decode cX7_keep 12 = .ok (.aload_n 0, 1) := dk_42 (dk_at dksX7_keep_0 12 rfl rfl)
theorem dX7_keep_13 : decode cX7_keep 13 = .ok (.iconst 0, 1) := dk_3 (dk_at dksX7_keep_0 13 rfl rfl)
theorem dX7_keep_14 : decode cX7_keep 14 = .ok (.bipush 67, 2) := dk_16 67 (dk_at dksX7_keep_0 14 rfl rfl)
theorem dX7_keep_16 : decode cX7_keep 16 = .ok (.iload_n 1, 1) := dk_27 (dk_at dksX7_keep_0 16 rfl rfl)
theorem dX7_keep_17 : decode cX7_keep 17 = .ok (.iconst 1, 1) := dk_4 (dk_at dksX7_keep_0 17 rfl rfl)
theorem dX7_keep_18 : decode cX7_keep 18 = .ok (.iadd, 1) := dk_96 (dk_at dksX7_keep_0 18 rfl rfl)
theorem dX7_keep_19 : decode cX7_keep 19 = .ok (.imul, 1) := dk_104 (dk_at dksX7_keep_0 19 rfl rfl)
theorem dX7_keep_20 : decode cX7_keep 20 = .ok (.invokevirtual 189, 3) := dk_182 0 189 (dk_at dksX7_keep_0 20 rfl rfl)
theorem dX7_keep_23 : decode cX7_keep 23 = .ok (.aload_n 0, 1) := dk_42 (dk_at dksX7_keep_0 23 rfl rfl)
theorem dX7_keep_24 : decode cX7_keep 24 = .ok (.getfield 31, 3) := dk_180 0 31 (dk_at dksX7_keep_1 0 rfl rfl)
theorem dX7_keep_27 : decode cX7_keep 27 = .ok (.iload_n 1, 1) := dk_27 (dk_at dksX7_keep_1 3 rfl rfl)
theorem dX7_keep_28 : decode cX7_keep 28 = .ok (.baload, 1) := dk_51 (dk_at dksX7_keep_1 4 rfl rfl)
theorem dX7_keep_29 : decode cX7_keep 29 = .ok (.ifCond .eq 7, 3) := dk_153 0 7 (dk_at dksX7_keep_1 5 rfl rfl)
theorem dX7_keep_32 : decode cX7_keep 32 = .ok (.iconst 1, 1) := dk_4 (dk_at dksX7_keep_1 8 rfl rfl)
theorem dX7_keep_33 : decode cX7_keep 33 = .ok (.goto 4, 3) := dk_167 0 4 (dk_at dksX7_keep_1 9 rfl rfl)
theorem dX7_keep_36 : decode cX7_keep 36 = .ok (.iconst 0, 1) := dk_3 (dk_at dksX7_keep_1 12 rfl rfl)
theorem dX7_keep_37 : decode cX7_keep 37 = .ok (.istore_n 2, 1) := dk_61 (dk_at dksX7_keep_1 13 rfl rfl)
theorem dX7_keep_38 : decode cX7_keep 38 = .ok (.aload_n 0, 1) := dk_42 (dk_at dksX7_keep_1 14 rfl rfl)
theorem dX7_keep_39 : decode cX7_keep 39 = .ok (.getfield 31, 3) := dk_180 0 31 (dk_at dksX7_keep_1 15 rfl rfl)
theorem dX7_keep_42 : decode cX7_keep 42 = .ok (.iload_n 1, 1) := dk_27 (dk_at dksX7_keep_1 18 rfl rfl)
theorem dX7_keep_43 : decode cX7_keep 43 = .ok (.iconst 1, 1) := dk_4 (dk_at dksX7_keep_1 19 rfl rfl)
theorem dX7_keep_44 : decode cX7_keep 44 = .ok (.bastore, 1) := dk_84 (dk_at dksX7_keep_1 20 rfl rfl)
theorem dX7_keep_45 : decode cX7_keep 45 = .ok (.iload_n 2, 1) := dk_28 (dk_at dksX7_keep_1 21 rfl rfl)
theorem dX7_keep_46 : decode cX7_keep 46 = .ok (.ireturn, 1) := dk_172 (dk_at dksX7_keep_1 22 rfl rfl)
abbrev cX7_back : ByteArray := prog_11_method_70_code
def yX7_back : MethodName := ⟨RX7, "back", "(I)I"⟩
def dkwX7_back_1 : List UInt8 := [42, 16, 67, 27, 4, 96, 104, 3, 182, 0, 189, 42, 180, 0, 7, 16, 21, 46, 172]
abbrev dktX7_back_1 : List UInt8 := dkwX7_back_1 ++ []
def dkwX7_back_0 : List UInt8 := [27, 133, 9, 10, 184, 0, 46, 154, 0, 5, 2, 172, 42, 180, 0, 31, 27, 51, 154, 0, 6, 16, 254, 172]
abbrev dktX7_back_0 : List UInt8 := dkwX7_back_0 ++ dktX7_back_1
theorem dksX7_back_0 : cX7_back.data.toList.drop 0 = dktX7_back_0 := by decide +kernel
theorem dksX7_back_1 : cX7_back.data.toList.drop 24 = dktX7_back_1 := dk_seg dksX7_back_0 24 rfl rfl
theorem dX7_back_0 : decode cX7_back 0 = .ok (.iload_n 1, 1) := dk_27 (dk_at dksX7_back_0 0 rfl rfl)
theorem dX7_back_1 : decode cX7_back 1 = .ok (.i2l, 1) := dk_133 (dk_at dksX7_back_0 1 rfl rfl)
theorem dX7_back_2 : decode cX7_back 2 = .ok (.lconst 0, 1) := dk_9 (dk_at dksX7_back_0 2 rfl rfl)
theorem dX7_back_3 : decode cX7_back 3 = .ok (.lconst 1, 1) := dk_10 (dk_at dksX7_back_0 3 rfl rfl)
theorem dX7_back_4 : decode cX7_back 4 = .ok (.invokestatic 46, 3) := dk_184 0 46 (dk_at dksX7_back_0 4 rfl rfl)
theorem dX7_back_7 : decode cX7_back 7 = .ok (.ifCond .ne 5, 3) := dk_154 0 5 (dk_at dksX7_back_0 7 rfl rfl)
theorem dX7_back_10 : decode cX7_back 10 = .ok (.iconst (-1), 1) := dk_2 (dk_at dksX7_back_0 10 rfl rfl)
theorem dX7_back_11 : decode cX7_back 11 = .ok (.ireturn, 1) := dk_172 (dk_at dksX7_back_0 11 rfl rfl)
theorem dX7_back_12 : decode cX7_back 12 = .ok (.aload_n 0, 1) := dk_42 (dk_at dksX7_back_0 12 rfl rfl)
theorem dX7_back_13 : decode cX7_back 13 = .ok (.getfield 31, 3) := dk_180 0 31 (dk_at dksX7_back_0 13 rfl rfl)
theorem dX7_back_16 : decode cX7_back 16 = .ok (.iload_n 1, 1) := dk_27 (dk_at dksX7_back_0 16 rfl rfl)
theorem dX7_back_17 : decode cX7_back 17 = .ok (.baload, 1) := dk_51 (dk_at dksX7_back_0 17 rfl rfl)
theorem dX7_back_18 : decode cX7_back 18 = .ok (.ifCond .ne 6, 3) := dk_154 0 6 (dk_at dksX7_back_0 18 rfl rfl)
theorem dX7_back_21 : decode cX7_back 21 = .ok (.bipush (-2), 2) := dk_16 254 (dk_at dksX7_back_0 21 rfl rfl)
theorem dX7_back_23 : decode cX7_back 23 = .ok (.ireturn, 1) := dk_172 (dk_at dksX7_back_0 23 rfl rfl)
theorem dX7_back_24 : decode cX7_back 24 = .ok (.aload_n 0, 1) := dk_42 (dk_at dksX7_back_1 0 rfl rfl)
theorem dX7_back_25 : decode cX7_back 25 = .ok (.bipush 67, 2) := dk_16 67 (dk_at dksX7_back_1 1 rfl rfl)
theorem dX7_back_27 : decode cX7_back 27 = .ok (.iload_n 1, 1) := dk_27 (dk_at dksX7_back_1 3 rfl rfl)
theorem dX7_back_28 : decode cX7_back 28 = .ok (.iconst 1, 1) := dk_4 (dk_at dksX7_back_1 4 rfl rfl)
theorem dX7_back_29 : decode cX7_back 29 = .ok (.iadd, 1) := dk_96 (dk_at dksX7_back_1 5 rfl rfl)
theorem dX7_back_30 : decode cX7_back 30 = .ok (.imul, 1) := dk_104 (dk_at dksX7_back_1 6 rfl rfl)
theorem dX7_back_31 : decode cX7_back 31 = .ok (.iconst 0, 1) := dk_3 (dk_at dksX7_back_1 7 rfl rfl)
theorem dX7_back_32 : decode cX7_back 32 = .ok (.invokevirtual 189, 3) := dk_182 0 189 (dk_at dksX7_back_1 8 rfl rfl)
theorem dX7_back_35 : decode cX7_back 35 = .ok (.aload_n 0, 1) := dk_42 (dk_at dksX7_back_1 11 rfl rfl)
theorem dX7_back_36 : decode cX7_back 36 = .ok (.getfield 7, 3) := dk_180 0 7 (dk_at dksX7_back_1 12 rfl rfl)
theorem dX7_back_39 : decode cX7_back 39 = .ok (.bipush 21, 2) := dk_16 21 (dk_at dksX7_back_1 15 rfl rfl)
theorem dX7_back_41 : decode cX7_back 41 = .ok (.iaload, 1) := dk_46 (dk_at dksX7_back_1 17 rfl rfl)
theorem dX7_back_42 : decode cX7_back 42 = .ok (.ireturn, 1) := dk_172 (dk_at dksX7_back_1 18 rfl rfl)
abbrev cX7_sheet : ByteArray := prog_11_method_71_code
def yX7_sheet : MethodName := ⟨RX7, "sheet", "(III)I"⟩
def dkwX7_sheet_3 : List UInt8 := [21, 4, 96, 3, 79, 132, 4, 1, 167, 255, 233, 4, 172]
abbrev dktX7_sheet_3 : List UInt8 := dkwX7_sheet_3 ++ []
def dkwX7_sheet_2 : List UInt8 := [180, 0, 38, 27, 29, 79, 3, 54, 4, 21, 4, 16, 40, 162, 0, 22, 42, 180, 0, 41, 16, 40, 27, 104]
abbrev dktX7_sheet_2 : List UInt8 := dkwX7_sheet_2 ++ dktX7_sheet_3
def dkwX7_sheet_1 : List UInt8 := [29, 16, 40, 164, 0, 5, 2, 172, 29, 156, 0, 6, 16, 242, 172, 42, 180, 0, 35, 27, 28, 79, 42]
abbrev dktX7_sheet_1 : List UInt8 := dkwX7_sheet_1 ++ dktX7_sheet_2
def dkwX7_sheet_0 : List UInt8 := [27, 133, 9, 20, 0, 160, 184, 0, 46, 153, 0, 21, 28, 133, 9, 20, 0, 158, 184, 0, 46, 153, 0, 9]
abbrev dktX7_sheet_0 : List UInt8 := dkwX7_sheet_0 ++ dktX7_sheet_1
theorem dksX7_sheet_0 : cX7_sheet.data.toList.drop 0 = dktX7_sheet_0 := by decide +kernel
theorem dksX7_sheet_1 : cX7_sheet.data.toList.drop 24 = dktX7_sheet_1 := dk_seg dksX7_sheet_0 24 rfl rfl
theorem dksX7_sheet_2 : cX7_sheet.data.toList.drop 47 = dktX7_sheet_2 := dk_seg dksX7_sheet_1 23 rfl rfl
theorem dksX7_sheet_3 : cX7_sheet.data.toList.drop 71 = dktX7_sheet_3 := dk_seg dksX7_sheet_2 24 rfl rfl
theorem dX7_sheet_0 : decode cX7_sheet 0 = .ok (.iload_n 1, 1) := dk_27 (dk_at dksX7_sheet_0 0 rfl rfl)
theorem dX7_sheet_1 : decode cX7_sheet 1 = .ok (.i2l, 1) := dk_133 (dk_at dksX7_sheet_0 1 rfl rfl)
theorem dX7_sheet_2 : decode cX7_sheet 2 = .ok (.lconst 0, 1) := dk_9 (dk_at dksX7_sheet_0 2 rfl rfl)
theorem dX7_sheet_3 : decode cX7_sheet 3 = .ok (.ldc2_w 160, 3) := dk_20 0 160 (dk_at dksX7_sheet_0 3 rfl rfl)
theorem dX7_sheet_6 : decode cX7_sheet 6 = .ok (.invokestatic 46, 3) := dk_184 0 46 (dk_at dksX7_sheet_0 6 rfl rfl)
theorem dX7_sheet_9 : decode cX7_sheet 9 = .ok (.ifCond .eq 21, 3) := dk_153 0 21 (dk_at dksX7_sheet_0 9 rfl rfl)
theorem dX7_sheet_12 : decode cX7_sheet 12 = .ok (.iload_n 2, 1) := dk_28 (dk_at dksX7_sheet_0 12 rfl rfl)
theorem dX7_sheet_13 : decode cX7_sheet 13 = .ok (.i2l, 1) := dk_133 (dk_at dksX7_sheet_0 13 rfl rfl)
theorem dX7_sheet_14 : decode cX7_sheet 14 = .ok (.lconst 0, 1) := dk_9 (dk_at dksX7_sheet_0 14 rfl rfl)
theorem dX7_sheet_15 : decode cX7_sheet 15 = .ok (.ldc2_w 158, 3) := dk_20 0 158 (dk_at dksX7_sheet_0 15 rfl rfl)
theorem dX7_sheet_18 : decode cX7_sheet 18 = .ok (.invokestatic 46, 3) := dk_184 0 46 (dk_at dksX7_sheet_0 18 rfl rfl)
theorem dX7_sheet_21 : decode cX7_sheet 21 = .ok (.ifCond .eq 9, 3) := dk_153 0 9 (dk_at dksX7_sheet_0 21 rfl rfl)
theorem dX7_sheet_24 : decode cX7_sheet 24 = .ok (.iload_n 3, 1) := dk_29 (dk_at dksX7_sheet_1 0 rfl rfl)
theorem dX7_sheet_25 : decode cX7_sheet 25 = .ok (.bipush 40, 2) := dk_16 40 (dk_at dksX7_sheet_1 1 rfl rfl)
theorem dX7_sheet_27 : decode cX7_sheet 27 = .ok (.if_icmp .le 5, 3) := dk_164 0 5 (dk_at dksX7_sheet_1 3 rfl rfl)
theorem dX7_sheet_30 : decode cX7_sheet 30 = .ok (.iconst (-1), 1) := dk_2 (dk_at dksX7_sheet_1 6 rfl rfl)
theorem dX7_sheet_31 : decode cX7_sheet 31 = .ok (.ireturn, 1) := dk_172 (dk_at dksX7_sheet_1 7 rfl rfl)
theorem dX7_sheet_32 : decode cX7_sheet 32 = .ok (.iload_n 3, 1) := dk_29 (dk_at dksX7_sheet_1 8 rfl rfl)
theorem dX7_sheet_33 : decode cX7_sheet 33 = .ok (.ifCond .ge 6, 3) := dk_156 0 6 (dk_at dksX7_sheet_1 9 rfl rfl)
theorem dX7_sheet_36 : decode cX7_sheet 36 = .ok (.bipush (-14), 2) := dk_16 242 (dk_at dksX7_sheet_1 12 rfl rfl)
theorem dX7_sheet_38 : decode cX7_sheet 38 = .ok (.ireturn, 1) := dk_172 (dk_at dksX7_sheet_1 14 rfl rfl)
theorem dX7_sheet_39 : decode cX7_sheet 39 = .ok (.aload_n 0, 1) := dk_42 (dk_at dksX7_sheet_1 15 rfl rfl)
theorem dX7_sheet_40 : decode cX7_sheet 40 = .ok (.getfield 35, 3) := dk_180 0 35 (dk_at dksX7_sheet_1 16 rfl rfl)
theorem dX7_sheet_43 : decode cX7_sheet 43 = .ok (.iload_n 1, 1) := dk_27 (dk_at dksX7_sheet_1 19 rfl rfl)
theorem dX7_sheet_44 : decode cX7_sheet 44 = .ok (.iload_n 2, 1) := dk_28 (dk_at dksX7_sheet_1 20 rfl rfl)
theorem dX7_sheet_45 : decode cX7_sheet 45 = .ok (.iastore, 1) := dk_79 (dk_at dksX7_sheet_1 21 rfl rfl)
theorem dX7_sheet_46 : decode cX7_sheet 46 = .ok (.aload_n 0, 1) := dk_42 (dk_at dksX7_sheet_1 22 rfl rfl)
theorem dX7_sheet_47 : decode cX7_sheet 47 = .ok (.getfield 38, 3) := dk_180 0 38 (dk_at dksX7_sheet_2 0 rfl rfl)
theorem dX7_sheet_50 : decode cX7_sheet 50 = .ok (.iload_n 1, 1) := dk_27 (dk_at dksX7_sheet_2 3 rfl rfl)
theorem dX7_sheet_51 : decode cX7_sheet 51 = .ok (.iload_n 3, 1) := dk_29 (dk_at dksX7_sheet_2 4 rfl rfl)
theorem dX7_sheet_52 : decode cX7_sheet 52 = .ok (.iastore, 1) := dk_79 (dk_at dksX7_sheet_2 5 rfl rfl)
theorem dX7_sheet_53 : decode cX7_sheet 53 = .ok (.iconst 0, 1) := dk_3 (dk_at dksX7_sheet_2 6 rfl rfl)
theorem dX7_sheet_54 : decode cX7_sheet 54 = .ok (.istore 4, 2) := dk_54 4 (dk_at dksX7_sheet_2 7 rfl rfl)
theorem dX7_sheet_56 : decode cX7_sheet 56 = .ok (.iload 4, 2) := dk_21 4 (dk_at dksX7_sheet_2 9 rfl rfl)
theorem dX7_sheet_58 : decode cX7_sheet 58 = .ok (.bipush 40, 2) := dk_16 40 (dk_at dksX7_sheet_2 11 rfl rfl)
theorem dX7_sheet_60 : decode cX7_sheet 60 = .ok (.if_icmp .ge 22, 3) := dk_162 0 22 (dk_at dksX7_sheet_2 13 rfl rfl)
theorem dX7_sheet_63 : decode cX7_sheet 63 = .ok (.aload_n 0, 1) := dk_42 (dk_at dksX7_sheet_2 16 rfl rfl)
theorem dX7_sheet_64 : decode cX7_sheet 64 = .ok (.getfield 41, 3) := dk_180 0 41 (dk_at dksX7_sheet_2 17 rfl rfl)
theorem dX7_sheet_67 : decode cX7_sheet 67 = .ok (.bipush 40, 2) := dk_16 40 (dk_at dksX7_sheet_2 20 rfl rfl)
theorem dX7_sheet_69 : decode cX7_sheet 69 = .ok (.iload_n 1, 1) := dk_27 (dk_at dksX7_sheet_2 22 rfl rfl)
theorem dX7_sheet_70 : decode cX7_sheet 70 = .ok (.imul, 1) := dk_104 (dk_at dksX7_sheet_2 23 rfl rfl)
theorem dX7_sheet_71 : decode cX7_sheet 71 = .ok (.iload 4, 2) := dk_21 4 (dk_at dksX7_sheet_3 0 rfl rfl)
theorem dX7_sheet_73 : decode cX7_sheet 73 = .ok (.iadd, 1) := dk_96 (dk_at dksX7_sheet_3 2 rfl rfl)
theorem dX7_sheet_74 : decode cX7_sheet 74 = .ok (.iconst 0, 1) := dk_3 (dk_at dksX7_sheet_3 3 rfl rfl)
theorem dX7_sheet_75 : decode cX7_sheet 75 = .ok (.iastore, 1) := dk_79 (dk_at dksX7_sheet_3 4 rfl rfl)
theorem dX7_sheet_76 : decode cX7_sheet 76 = .ok (.iinc 4 1, 3) := dk_132 4 1 (dk_at dksX7_sheet_3 5 rfl rfl)
theorem dX7_sheet_79 : decode cX7_sheet 79 = .ok (.goto (-23), 3) := dk_167 255 233 (dk_at dksX7_sheet_3 8 rfl rfl)
theorem dX7_sheet_82 : decode cX7_sheet 82 = .ok (.iconst 1, 1) := dk_4 (dk_at dksX7_sheet_3 11 rfl rfl)
theorem dX7_sheet_83 : decode cX7_sheet 83 = .ok (.ireturn, 1) := dk_172 (dk_at dksX7_sheet_3 12 rfl rfl)
abbrev cX7_lay : ByteArray := prog_11_method_72_code
def yX7_lay : MethodName := ⟨RX7, "lay", "(III)I"⟩
def dkwX7_lay_4 : List UInt8 := [16, 16, 122, 167, 0, 4, 29, 79, 4, 172]
abbrev dktX7_lay_4 : List UInt8 := dkwX7_lay_4 ++ []
def dkwX7_lay_3 : List UInt8 := [16, 24, 120, 16, 24, 122, 167, 0, 24, 42, 180, 0, 35, 27, 46, 4, 160, 0, 13, 29, 16, 16, 120]
abbrev dktX7_lay_3 : List UInt8 := dkwX7_lay_3 ++ dktX7_lay_4
def dkwX7_lay_2 : List UInt8 := [16, 244, 172, 42, 180, 0, 41, 16, 40, 27, 104, 28, 96, 42, 180, 0, 35, 27, 46, 154, 0, 13, 29]
abbrev dktX7_lay_2 : List UInt8 := dkwX7_lay_2 ++ dktX7_lay_3
def dkwX7_lay_1 : List UInt8 := [160, 0, 6, 16, 245, 172, 28, 133, 9, 42, 180, 0, 38, 27, 46, 4, 100, 133, 184, 0, 46, 154, 0, 6]
abbrev dktX7_lay_1 : List UInt8 := dkwX7_lay_1 ++ dktX7_lay_2
def dkwX7_lay_0 : List UInt8 := [27, 133, 9, 20, 0, 160, 184, 0, 46, 154, 0, 5, 2, 172, 42, 180, 0, 35, 27, 46, 16, 252]
abbrev dktX7_lay_0 : List UInt8 := dkwX7_lay_0 ++ dktX7_lay_1
theorem dksX7_lay_0 : cX7_lay.data.toList.drop 0 = dktX7_lay_0 := by decide +kernel
theorem dksX7_lay_1 : cX7_lay.data.toList.drop 22 = dktX7_lay_1 := dk_seg dksX7_lay_0 22 rfl rfl
theorem dksX7_lay_2 : cX7_lay.data.toList.drop 46 = dktX7_lay_2 := dk_seg dksX7_lay_1 24 rfl rfl
theorem dksX7_lay_3 : cX7_lay.data.toList.drop 69 = dktX7_lay_3 := dk_seg dksX7_lay_2 23 rfl rfl
theorem dksX7_lay_4 : cX7_lay.data.toList.drop 92 = dktX7_lay_4 := dk_seg dksX7_lay_3 23 rfl rfl
theorem dX7_lay_0 : decode cX7_lay 0 = .ok (.iload_n 1, 1) := dk_27 (dk_at dksX7_lay_0 0 rfl rfl)
theorem dX7_lay_1 : decode cX7_lay 1 = .ok (.i2l, 1) := dk_133 (dk_at dksX7_lay_0 1 rfl rfl)
theorem dX7_lay_2 : decode cX7_lay 2 = .ok (.lconst 0, 1) := dk_9 (dk_at dksX7_lay_0 2 rfl rfl)
theorem dX7_lay_3 : decode cX7_lay 3 = .ok (.ldc2_w 160, 3) := dk_20 0 160 (dk_at dksX7_lay_0 3 rfl rfl)
theorem dX7_lay_6 : decode cX7_lay 6 = .ok (.invokestatic 46, 3) := dk_184 0 46 (dk_at dksX7_lay_0 6 rfl rfl)
theorem dX7_lay_9 : decode cX7_lay 9 = .ok (.ifCond .ne 5, 3) := dk_154 0 5 (dk_at dksX7_lay_0 9 rfl rfl)
theorem dX7_lay_12 : decode cX7_lay 12 = .ok (.iconst (-1), 1) := dk_2 (dk_at dksX7_lay_0 12 rfl rfl)
theorem dX7_lay_13 : decode cX7_lay 13 = .ok (.ireturn, 1) := dk_172 (dk_at dksX7_lay_0 13 rfl rfl)
theorem dX7_lay_14 : decode cX7_lay 14 = .ok (.aload_n 0, 1) := dk_42 (dk_at dksX7_lay_0 14 rfl rfl)
theorem dX7_lay_15 : decode cX7_lay 15 = .ok (.getfield 35, 3) := dk_180 0 35 (dk_at dksX7_lay_0 15 rfl rfl)
theorem dX7_lay_18 : decode cX7_lay 18 = .ok (.iload_n 1, 1) := dk_27 (dk_at dksX7_lay_0 18 rfl rfl)
theorem dX7_lay_19 : decode cX7_lay 19 = .ok (.iaload, 1) := dk_46 (dk_at dksX7_lay_0 19 rfl rfl)
theorem dX7_lay_20 : decode cX7_lay 20 = .ok (.bipush (-4), 2) := dk_16 252 (dk_at dksX7_lay_0 20 rfl rfl)
theorem dX7_lay_22 : decode cX7_lay 22 = .ok (.if_icmp .ne 6, 3) := dk_160 0 6 (dk_at dksX7_lay_1 0 rfl rfl)
theorem dX7_lay_25 : decode cX7_lay 25 = .ok (.bipush (-11), 2) := dk_16 245 (dk_at dksX7_lay_1 3 rfl rfl)
theorem dX7_lay_27 : decode cX7_lay 27 = .ok (.ireturn, 1) := dk_172 (dk_at dksX7_lay_1 5 rfl rfl)
theorem dX7_lay_28 : decode cX7_lay 28 = .ok (.iload_n 2, 1) := dk_28 (dk_at dksX7_lay_1 6 rfl rfl)
theorem dX7_lay_29 : decode cX7_lay 29 = .ok (.i2l, 1) := dk_133 (dk_at dksX7_lay_1 7 rfl rfl)
theorem dX7_lay_30 : decode cX7_lay 30 = .ok (.lconst 0, 1) := dk_9 (dk_at dksX7_lay_1 8 rfl rfl)
theorem dX7_lay_31 : decode cX7_lay 31 = .ok (.aload_n 0, 1) := dk_42 (dk_at dksX7_lay_1 9 rfl rfl)
theorem dX7_lay_32 : decode cX7_lay 32 = .ok (.getfield 38, 3) := dk_180 0 38 (dk_at dksX7_lay_1 10 rfl rfl)
theorem dX7_lay_35 : decode cX7_lay 35 = .ok (.iload_n 1, 1) := dk_27 (dk_at dksX7_lay_1 13 rfl rfl)
theorem dX7_lay_36 : decode cX7_lay 36 = .ok (.iaload, 1) := dk_46 (dk_at dksX7_lay_1 14 rfl rfl)
theorem dX7_lay_37 : decode cX7_lay 37 = .ok (.iconst 1, 1) := dk_4 (dk_at dksX7_lay_1 15 rfl rfl)
theorem dX7_lay_38 : decode cX7_lay 38 = .ok (.isub, 1) := dk_100 (dk_at dksX7_lay_1 16 rfl rfl)
theorem dX7_lay_39 : decode cX7_lay 39 = .ok (.i2l, 1) := dk_133 (dk_at dksX7_lay_1 17 rfl rfl)
theorem dX7_lay_40 : decode cX7_lay 40 = .ok (.invokestatic 46, 3) := dk_184 0 46 (dk_at dksX7_lay_1 18 rfl rfl)
theorem dX7_lay_43 : decode cX7_lay 43 = .ok (.ifCond .ne 6, 3) := dk_154 0 6 (dk_at dksX7_lay_1 21 rfl rfl)
theorem dX7_lay_46 : decode cX7_lay 46 = .ok (.bipush (-12), 2) := dk_16 244 (dk_at dksX7_lay_2 0 rfl rfl)
theorem dX7_lay_48 : decode cX7_lay 48 = .ok (.ireturn, 1) := dk_172 (dk_at dksX7_lay_2 2 rfl rfl)
theorem dX7_lay_49 : decode cX7_lay 49 = .ok (.aload_n 0, 1) := dk_42 (dk_at dksX7_lay_2 3 rfl rfl)
theorem dX7_lay_50 : decode cX7_lay 50 = .ok (.getfield 41, 3) := dk_180 0 41 (dk_at dksX7_lay_2 4 rfl rfl)
theorem dX7_lay_53 : decode cX7_lay 53 = .ok (.bipush 40, 2) := dk_16 40 (dk_at dksX7_lay_2 7 rfl rfl)
theorem dX7_lay_55 : decode cX7_lay 55 = .ok (.iload_n 1, 1) := dk_27 (dk_at dksX7_lay_2 9 rfl rfl)
theorem dX7_lay_56 : decode cX7_lay 56 = .ok (.imul, 1) := dk_104 (dk_at dksX7_lay_2 10 rfl rfl)
theorem dX7_lay_57 : decode cX7_lay 57 = .ok (.iload_n 2, 1) := dk_28 (dk_at dksX7_lay_2 11 rfl rfl)
theorem dX7_lay_58 : decode cX7_lay 58 = .ok (.iadd, 1) := dk_96 (dk_at dksX7_lay_2 12 rfl rfl)
theorem dX7_lay_59 : decode cX7_lay 59 = .ok (.aload_n 0, 1) := dk_42 (dk_at dksX7_lay_2 13 rfl rfl)
theorem dX7_lay_60 : decode cX7_lay 60 = .ok (.getfield 35, 3) := dk_180 0 35 (dk_at dksX7_lay_2 14 rfl rfl)
theorem dX7_lay_63 : decode cX7_lay 63 = .ok (.iload_n 1, 1) := dk_27 (dk_at dksX7_lay_2 17 rfl rfl)
theorem dX7_lay_64 : decode cX7_lay 64 = .ok (.iaload, 1) := dk_46 (dk_at dksX7_lay_2 18 rfl rfl)
theorem dX7_lay_65 : decode cX7_lay 65 = .ok (.ifCond .ne 13, 3) := dk_154 0 13 (dk_at dksX7_lay_2 19 rfl rfl)
theorem dX7_lay_68 : decode cX7_lay 68 = .ok (.iload_n 3, 1) := dk_29 (dk_at dksX7_lay_2 22 rfl rfl)
theorem dX7_lay_69 : decode cX7_lay 69 = .ok (.bipush 24, 2) := dk_16 24 (dk_at dksX7_lay_3 0 rfl rfl)
theorem dX7_lay_71 : decode cX7_lay 71 = .ok (.ishl, 1) := dk_120 (dk_at dksX7_lay_3 2 rfl rfl)
theorem dX7_lay_72 : decode cX7_lay 72 = .ok (.bipush 24, 2) := dk_16 24 (dk_at dksX7_lay_3 3 rfl rfl)
theorem dX7_lay_74 : decode cX7_lay 74 = .ok (.ishr, 1) := dk_122 (dk_at dksX7_lay_3 5 rfl rfl)
theorem dX7_lay_75 : decode cX7_lay 75 = .ok (.goto 24, 3) := dk_167 0 24 (dk_at dksX7_lay_3 6 rfl rfl)
theorem dX7_lay_78 : decode cX7_lay 78 = .ok (.aload_n 0, 1) := dk_42 (dk_at dksX7_lay_3 9 rfl rfl)
theorem dX7_lay_79 : decode cX7_lay 79 = .ok (.getfield 35, 3) := dk_180 0 35 (dk_at dksX7_lay_3 10 rfl rfl)
theorem dX7_lay_82 : decode cX7_lay 82 = .ok (.iload_n 1, 1) := dk_27 (dk_at dksX7_lay_3 13 rfl rfl)
theorem dX7_lay_83 : decode cX7_lay 83 = .ok (.iaload, 1) := dk_46 (dk_at dksX7_lay_3 14 rfl rfl)
theorem dX7_lay_84 : decode cX7_lay 84 = .ok (.iconst 1, 1) := dk_4 (dk_at dksX7_lay_3 15 rfl rfl)
theorem dX7_lay_85 : decode cX7_lay 85 = .ok (.if_icmp .ne 13, 3) := dk_160 0 13 (dk_at dksX7_lay_3 16 rfl rfl)
theorem dX7_lay_88 : decode cX7_lay 88 = .ok (.iload_n 3, 1) := dk_29 (dk_at dksX7_lay_3 19 rfl rfl)
theorem dX7_lay_89 : decode cX7_lay 89 = .ok (.bipush 16, 2) := dk_16 16 (dk_at dksX7_lay_3 20 rfl rfl)
theorem dX7_lay_91 : decode cX7_lay 91 = .ok (.ishl, 1) := dk_120 (dk_at dksX7_lay_3 22 rfl rfl)
theorem dX7_lay_92 : decode cX7_lay 92 = .ok (.bipush 16, 2) := dk_16 16 (dk_at dksX7_lay_4 0 rfl rfl)
theorem dX7_lay_94 : decode cX7_lay 94 = .ok (.ishr, 1) := dk_122 (dk_at dksX7_lay_4 2 rfl rfl)
theorem dX7_lay_95 : decode cX7_lay 95 = .ok (.goto 4, 3) := dk_167 0 4 (dk_at dksX7_lay_4 3 rfl rfl)
theorem dX7_lay_98 : decode cX7_lay 98 = .ok (.iload_n 3, 1) := dk_29 (dk_at dksX7_lay_4 6 rfl rfl)
theorem dX7_lay_99 : decode cX7_lay 99 = .ok (.iastore, 1) := dk_79 (dk_at dksX7_lay_4 7 rfl rfl)
theorem dX7_lay_100 : decode cX7_lay 100 = .ok (.iconst 1, 1) := dk_4 (dk_at dksX7_lay_4 8 rfl rfl)
theorem dX7_lay_101 : decode cX7_lay 101 = .ok (.ireturn, 1) := dk_172 (dk_at dksX7_lay_4 9 rfl rfl)
abbrev cX7_read : ByteArray := prog_11_method_73_code
def yX7_read : MethodName := ⟨RX7, "read", "(IIII)I"⟩
def dkwX7_read_9 : List UInt8 := [21, 5, 181, 1, 6, 21, 6, 172]
abbrev dktX7_read_9 : List UInt8 := dkwX7_read_9 ++ []
def dkwX7_read_8 : List UInt8 := [17, 0, 201, 3, 182, 0, 189, 16, 236, 21, 6, 100, 172, 132, 6, 1, 132, 7, 1, 167, 255, 108, 42]
abbrev dktX7_read_8 : List UInt8 := dkwX7_read_8 ++ dktX7_read_9
def dkwX7_read_7 : List UInt8 := [180, 0, 41, 21, 8, 4, 100, 46, 42, 180, 0, 41, 21, 8, 46, 182, 0, 181, 156, 0, 17, 42]
abbrev dktX7_read_7 : List UInt8 := dkwX7_read_7 ++ dktX7_read_8
def dkwX7_read_6 : List UInt8 := [16, 40, 27, 104, 29, 96, 21, 7, 96, 54, 8, 42, 42, 180, 0, 41, 21, 8, 5, 100, 46, 42]
abbrev dktX7_read_6 : List UInt8 := dkwX7_read_6 ++ dktX7_read_7
def dkwX7_read_5 : List UInt8 := [154, 0, 7, 5, 167, 0, 4, 3, 54, 5, 21, 5, 154, 0, 71, 21, 7, 6, 112, 5, 160, 0, 63]
abbrev dktX7_read_5 : List UInt8 := dkwX7_read_5 ++ dktX7_read_6
def dkwX7_read_4 : List UInt8 := [6, 167, 0, 30, 29, 133, 21, 7, 133, 97, 9, 42, 180, 0, 38, 27, 46, 4, 100, 133, 184, 0, 46]
abbrev dktX7_read_4 : List UInt8 := dkwX7_read_4 ++ dktX7_read_5
def dkwX7_read_3 : List UInt8 := [180, 0, 35, 27, 46, 16, 252, 160, 0, 7, 4, 167, 0, 44, 42, 180, 0, 35, 27, 46, 28, 159, 0, 7]
abbrev dktX7_read_3 : List UInt8 := dkwX7_read_3 ++ dktX7_read_4
def dkwX7_read_2 : List UInt8 := [54, 5, 3, 54, 6, 3, 54, 7, 21, 7, 6, 21, 4, 104, 162, 0, 145, 21, 5, 154, 0, 140, 42]
abbrev dktX7_read_2 : List UInt8 := dkwX7_read_2 ++ dktX7_read_3
def dkwX7_read_1 : List UInt8 := [21, 4, 133, 9, 20, 1, 4, 184, 0, 46, 154, 0, 5, 2, 172, 42, 3, 17, 0, 201, 182, 0, 189, 3]
abbrev dktX7_read_1 : List UInt8 := dkwX7_read_1 ++ dktX7_read_2
def dkwX7_read_0 : List UInt8 := [27, 133, 9, 20, 0, 160, 184, 0, 46, 153, 0, 28, 28, 133, 9, 20, 0, 158, 184, 0, 46, 153, 0, 16]
abbrev dktX7_read_0 : List UInt8 := dkwX7_read_0 ++ dktX7_read_1
theorem dksX7_read_0 : cX7_read.data.toList.drop 0 = dktX7_read_0 := by decide +kernel
theorem dksX7_read_1 : cX7_read.data.toList.drop 24 = dktX7_read_1 := dk_seg dksX7_read_0 24 rfl rfl
theorem dksX7_read_2 : cX7_read.data.toList.drop 48 = dktX7_read_2 := dk_seg dksX7_read_1 24 rfl rfl
theorem dksX7_read_3 : cX7_read.data.toList.drop 71 = dktX7_read_3 := dk_seg dksX7_read_2 23 rfl rfl
theorem dksX7_read_4 : cX7_read.data.toList.drop 95 = dktX7_read_4 := dk_seg dksX7_read_3 24 rfl rfl
theorem dksX7_read_5 : cX7_read.data.toList.drop 118 = dktX7_read_5 := dk_seg dksX7_read_4 23 rfl rfl
theorem dksX7_read_6 : cX7_read.data.toList.drop 141 = dktX7_read_6 := dk_seg dksX7_read_5 23 rfl rfl
theorem dksX7_read_7 : cX7_read.data.toList.drop 163 = dktX7_read_7 := dk_seg dksX7_read_6 22 rfl rfl
theorem dksX7_read_8 : cX7_read.data.toList.drop 185 = dktX7_read_8 := dk_seg dksX7_read_7 22 rfl rfl
theorem dksX7_read_9 : cX7_read.data.toList.drop 208 = dktX7_read_9 := dk_seg dksX7_read_8 23 rfl rfl
theorem dX7_read_0 : decode cX7_read 0 = .ok (.iload_n 1, 1) := dk_27 (dk_at dksX7_read_0 0 rfl rfl)
theorem dX7_read_1 : decode cX7_read 1 = .ok (.i2l, 1) := dk_133 (dk_at dksX7_read_0 1 rfl rfl)
theorem dX7_read_2 : decode cX7_read 2 = .ok (.lconst 0, 1) := dk_9 (dk_at dksX7_read_0 2 rfl rfl)
theorem dX7_read_3 : decode cX7_read 3 = .ok (.ldc2_w 160, 3) := dk_20 0 160 (dk_at dksX7_read_0 3 rfl rfl)
theorem dX7_read_6 : decode cX7_read 6 = .ok (.invokestatic 46, 3) := dk_184 0 46 (dk_at dksX7_read_0 6 rfl rfl)
theorem dX7_read_9 : decode cX7_read 9 = .ok (.ifCond .eq 28, 3) := dk_153 0 28 (dk_at dksX7_read_0 9 rfl rfl)
theorem dX7_read_12 : decode cX7_read 12 = .ok (.iload_n 2, 1) := dk_28 (dk_at dksX7_read_0 12 rfl rfl)
theorem dX7_read_13 : decode cX7_read 13 = .ok (.i2l, 1) := dk_133 (dk_at dksX7_read_0 13 rfl rfl)
theorem dX7_read_14 : decode cX7_read 14 = .ok (.lconst 0, 1) := dk_9 (dk_at dksX7_read_0 14 rfl rfl)
theorem dX7_read_15 : decode cX7_read 15 = .ok (.ldc2_w 158, 3) := dk_20 0 158 (dk_at dksX7_read_0 15 rfl rfl)
theorem dX7_read_18 : decode cX7_read 18 = .ok (.invokestatic 46, 3) := dk_184 0 46 (dk_at dksX7_read_0 18 rfl rfl)
theorem dX7_read_21 : decode cX7_read 21 = .ok (.ifCond .eq 16, 3) := dk_153 0 16 (dk_at dksX7_read_0 21 rfl rfl)
theorem dX7_read_24 : decode cX7_read 24 = .ok (.iload 4, 2) := dk_21 4 (dk_at dksX7_read_1 0 rfl rfl)
theorem dX7_read_26 : decode cX7_read 26 = .ok (.i2l, 1) := dk_133 (dk_at dksX7_read_1 2 rfl rfl)
theorem dX7_read_27 : decode cX7_read 27 = .ok (.lconst 0, 1) := dk_9 (dk_at dksX7_read_1 3 rfl rfl)
theorem dX7_read_28 : decode cX7_read 28 = .ok (.ldc2_w 260, 3) := dk_20 1 4 (dk_at dksX7_read_1 4 rfl rfl)
theorem dX7_read_31 : decode cX7_read 31 = .ok (.invokestatic 46, 3) := dk_184 0 46 (dk_at dksX7_read_1 7 rfl rfl)
theorem dX7_read_34 : decode cX7_read 34 = .ok (.ifCond .ne 5, 3) := dk_154 0 5 (dk_at dksX7_read_1 10 rfl rfl)
theorem dX7_read_37 : decode cX7_read 37 = .ok (.iconst (-1), 1) := dk_2 (dk_at dksX7_read_1 13 rfl rfl)
theorem dX7_read_38 : decode cX7_read 38 = .ok (.ireturn, 1) := dk_172 (dk_at dksX7_read_1 14 rfl rfl)
theorem dX7_read_39 : decode cX7_read 39 = .ok (.aload_n 0, 1) := dk_42 (dk_at dksX7_read_1 15 rfl rfl)
theorem dX7_read_40 : decode cX7_read 40 = .ok (.iconst 0, 1) := dk_3 (dk_at dksX7_read_1 16 rfl rfl)
theorem dX7_read_41 : decode cX7_read 41 = .ok (.sipush 201, 3) := dk_17 0 201 (dk_at dksX7_read_1 17 rfl rfl)
theorem dX7_read_44 : decode cX7_read 44 = .ok (.invokevirtual 189, 3) := dk_182 0 189 (dk_at dksX7_read_1 20 rfl rfl)
theorem dX7_read_47 : decode cX7_read 47 = .ok (.iconst 0, 1) := dk_3 (dk_at dksX7_read_1 23 rfl rfl)
theorem dX7_read_48 : decode cX7_read 48 = .ok (.istore 5, 2) := dk_54 5 (dk_at dksX7_read_2 0 rfl rfl)
theorem dX7_read_50 : decode cX7_read 50 = .ok (.iconst 0, 1) := dk_3 (dk_at dksX7_read_2 2 rfl rfl)
theorem dX7_read_51 : decode cX7_read 51 = .ok (.istore 6, 2) := dk_54 6 (dk_at dksX7_read_2 3 rfl rfl)
theorem dX7_read_53 : decode cX7_read 53 = .ok (.iconst 0, 1) := dk_3 (dk_at dksX7_read_2 5 rfl rfl)
theorem dX7_read_54 : decode cX7_read 54 = .ok (.istore 7, 2) := dk_54 7 (dk_at dksX7_read_2 6 rfl rfl)
theorem dX7_read_56 : decode cX7_read 56 = .ok (.iload 7, 2) := dk_21 7 (dk_at dksX7_read_2 8 rfl rfl)
theorem dX7_read_58 : decode cX7_read 58 = .ok (.iconst 3, 1) := dk_6 (dk_at dksX7_read_2 10 rfl rfl)
theorem dX7_read_59 : decode cX7_read 59 = .ok (.iload 4, 2) := dk_21 4 (dk_at dksX7_read_2 11 rfl rfl)
theorem dX7_read_61 : decode cX7_read 61 = .ok (.imul, 1) := dk_104 (dk_at dksX7_read_2 13 rfl rfl)
theorem dX7_read_62 : decode cX7_read 62 = .ok (.if_icmp .ge 145, 3) := dk_162 0 145 (dk_at dksX7_read_2 14 rfl rfl)
theorem dX7_read_65 : decode cX7_read 65 = .ok (.iload 5, 2) := dk_21 5 (dk_at dksX7_read_2 17 rfl rfl)
theorem dX7_read_67 : decode cX7_read 67 = .ok (.ifCond .ne 140, 3) := dk_154 0 140 (dk_at dksX7_read_2 19 rfl rfl)
theorem dX7_read_70 : decode cX7_read 70 = .ok (.aload_n 0, 1) := dk_42 (dk_at dksX7_read_2 22 rfl rfl)
theorem dX7_read_71 : decode cX7_read 71 = .ok (.getfield 35, 3) := dk_180 0 35 (dk_at dksX7_read_3 0 rfl rfl)
theorem dX7_read_74 : decode cX7_read 74 = .ok (.iload_n 1, 1) := dk_27 (dk_at dksX7_read_3 3 rfl rfl)
theorem dX7_read_75 : decode cX7_read 75 = .ok (.iaload, 1) := dk_46 (dk_at dksX7_read_3 4 rfl rfl)
theorem dX7_read_76 : decode cX7_read 76 = .ok (.bipush (-4), 2) := dk_16 252 (dk_at dksX7_read_3 5 rfl rfl)
theorem dX7_read_78 : decode cX7_read 78 = .ok (.if_icmp .ne 7, 3) := dk_160 0 7 (dk_at dksX7_read_3 7 rfl rfl)
theorem dX7_read_81 : decode cX7_read 81 = .ok (.iconst 1, 1) := dk_4 (dk_at dksX7_read_3 10 rfl rfl)
theorem dX7_read_82 : decode cX7_read 82 = .ok (.goto 44, 3) := dk_167 0 44 (dk_at dksX7_read_3 11 rfl rfl)
theorem dX7_read_85 : decode cX7_read 85 = .ok (.aload_n 0, 1) := dk_42 (dk_at dksX7_read_3 14 rfl rfl)
theorem dX7_read_86 : decode cX7_read 86 = .ok (.getfield 35, 3) := dk_180 0 35 (dk_at dksX7_read_3 15 rfl rfl)
theorem dX7_read_89 : decode cX7_read 89 = .ok (.iload_n 1, 1) := dk_27 (dk_at dksX7_read_3 18 rfl rfl)
theorem dX7_read_90 : decode cX7_read 90 = .ok (.iaload, 1) := dk_46 (dk_at dksX7_read_3 19 rfl rfl)
theorem dX7_read_91 : decode cX7_read 91 = .ok (.iload_n 2, 1) := dk_28 (dk_at dksX7_read_3 20 rfl rfl)
theorem dX7_read_92 : decode cX7_read 92 = .ok (.if_icmp .eq 7, 3) := dk_159 0 7 (dk_at dksX7_read_3 21 rfl rfl)
theorem dX7_read_95 : decode cX7_read 95 = .ok (.iconst 3, 1) := dk_6 (dk_at dksX7_read_4 0 rfl rfl)
theorem dX7_read_96 : decode cX7_read 96 = .ok (.goto 30, 3) := dk_167 0 30 (dk_at dksX7_read_4 1 rfl rfl)
theorem dX7_read_99 : decode cX7_read 99 = .ok (.iload_n 3, 1) := dk_29 (dk_at dksX7_read_4 4 rfl rfl)
theorem dX7_read_100 : decode cX7_read 100 = .ok (.i2l, 1) := dk_133 (dk_at dksX7_read_4 5 rfl rfl)
theorem dX7_read_101 : decode cX7_read 101 = .ok (.iload 7, 2) := dk_21 7 (dk_at dksX7_read_4 6 rfl rfl)
theorem dX7_read_103 : decode cX7_read 103 = .ok (.i2l, 1) := dk_133 (dk_at dksX7_read_4 8 rfl rfl)
theorem dX7_read_104 : decode cX7_read 104 = .ok (.ladd, 1) := dk_97 (dk_at dksX7_read_4 9 rfl rfl)
theorem dX7_read_105 : decode cX7_read 105 = .ok (.lconst 0, 1) := dk_9 (dk_at dksX7_read_4 10 rfl rfl)
theorem dX7_read_106 : decode cX7_read 106 = .ok (.aload_n 0, 1) := dk_42 (dk_at dksX7_read_4 11 rfl rfl)
theorem dX7_read_107 : decode cX7_read 107 = .ok (.getfield 38, 3) := dk_180 0 38 (dk_at dksX7_read_4 12 rfl rfl)
theorem dX7_read_110 : decode cX7_read 110 = .ok (.iload_n 1, 1) := dk_27 (dk_at dksX7_read_4 15 rfl rfl)
theorem dX7_read_111 : decode cX7_read 111 = .ok (.iaload, 1) := dk_46 (dk_at dksX7_read_4 16 rfl rfl)
theorem dX7_read_112 : decode cX7_read 112 = .ok (.iconst 1, 1) := dk_4 (dk_at dksX7_read_4 17 rfl rfl)
theorem dX7_read_113 : decode cX7_read 113 = .ok (.isub, 1) := dk_100 (dk_at dksX7_read_4 18 rfl rfl)
theorem dX7_read_114 : decode cX7_read 114 = .ok (.i2l, 1) := dk_133 (dk_at dksX7_read_4 19 rfl rfl)
theorem dX7_read_115 : decode cX7_read 115 = .ok (.invokestatic 46, 3) := dk_184 0 46 (dk_at dksX7_read_4 20 rfl rfl)
theorem dX7_read_118 : decode cX7_read 118 = .ok (.ifCond .ne 7, 3) := dk_154 0 7 (dk_at dksX7_read_5 0 rfl rfl)
theorem dX7_read_121 : decode cX7_read 121 = .ok (.iconst 2, 1) := dk_5 (dk_at dksX7_read_5 3 rfl rfl)
theorem dX7_read_122 : decode cX7_read 122 = .ok (.goto 4, 3) := dk_167 0 4 (dk_at dksX7_read_5 4 rfl rfl)
theorem dX7_read_125 : decode cX7_read 125 = .ok (.iconst 0, 1) := dk_3 (dk_at dksX7_read_5 7 rfl rfl)
theorem dX7_read_126 : decode cX7_read 126 = .ok (.istore 5, 2) := dk_54 5 (dk_at dksX7_read_5 8 rfl rfl)
theorem dX7_read_128 : decode cX7_read 128 = .ok (.iload 5, 2) := dk_21 5 (dk_at dksX7_read_5 10 rfl rfl)
theorem dX7_read_130 : decode cX7_read 130 = .ok (.ifCond .ne 71, 3) := dk_154 0 71 (dk_at dksX7_read_5 12 rfl rfl)
theorem dX7_read_133 : decode cX7_read 133 = .ok (.iload 7, 2) := dk_21 7 (dk_at dksX7_read_5 15 rfl rfl)
theorem dX7_read_135 : decode cX7_read 135 = .ok (.iconst 3, 1) := dk_6 (dk_at dksX7_read_5 17 rfl rfl)
theorem dX7_read_136 : decode cX7_read 136 = .ok (.irem, 1) := dk_112 (dk_at dksX7_read_5 18 rfl rfl)
theorem dX7_read_137 : decode cX7_read 137 = .ok (.iconst 2, 1) := dk_5 (dk_at dksX7_read_5 19 rfl rfl)
theorem dX7_read_138 : decode cX7_read 138 = .ok (.if_icmp .ne 63, 3) := dk_160 0 63 (dk_at dksX7_read_5 20 rfl rfl)
theorem dX7_read_141 : decode cX7_read 141 = .ok (.bipush 40, 2) := dk_16 40 (dk_at dksX7_read_6 0 rfl rfl)
theorem dX7_read_143 : decode cX7_read 143 = .ok (.iload_n 1, 1) := dk_27 (dk_at dksX7_read_6 2 rfl rfl)
theorem dX7_read_144 : decode cX7_read 144 = .ok (.imul, 1) := dk_104 (dk_at dksX7_read_6 3 rfl rfl)
theorem dX7_read_145 : decode cX7_read 145 = .ok (.iload_n 3, 1) := dk_29 (dk_at dksX7_read_6 4 rfl rfl)
theorem dX7_read_146 : decode cX7_read 146 = .ok (.iadd, 1) := dk_96 (dk_at dksX7_read_6 5 rfl rfl)
theorem dX7_read_147 : decode cX7_read 147 = .ok (.iload 7, 2) := dk_21 7 (dk_at dksX7_read_6 6 rfl rfl)
theorem dX7_read_149 : decode cX7_read 149 = .ok (.iadd, 1) := dk_96 (dk_at dksX7_read_6 8 rfl rfl)
theorem dX7_read_150 : decode cX7_read 150 = .ok (.istore 8, 2) := dk_54 8 (dk_at dksX7_read_6 9 rfl rfl)
theorem dX7_read_152 : decode cX7_read 152 = .ok (.aload_n 0, 1) := dk_42 (dk_at dksX7_read_6 11 rfl rfl)
theorem dX7_read_153 : decode cX7_read 153 = .ok (.aload_n 0, 1) := dk_42 (dk_at dksX7_read_6 12 rfl rfl)
theorem dX7_read_154 : decode cX7_read 154 = .ok (.getfield 41, 3) := dk_180 0 41 (dk_at dksX7_read_6 13 rfl rfl)
theorem dX7_read_157 : decode cX7_read 157 = .ok (.iload 8, 2) := dk_21 8 (dk_at dksX7_read_6 16 rfl rfl)
theorem dX7_read_159 : decode cX7_read 159 = .ok (.iconst 2, 1) := dk_5 (dk_at dksX7_read_6 18 rfl rfl)
theorem dX7_read_160 : decode cX7_read 160 = .ok (.isub, 1) := dk_100 (dk_at dksX7_read_6 19 rfl rfl)
theorem dX7_read_161 : decode cX7_read 161 = .ok (.iaload, 1) := dk_46 (dk_at dksX7_read_6 20 rfl rfl)
theorem dX7_read_162 : decode cX7_read 162 = .ok (.aload_n 0, 1) := dk_42 (dk_at dksX7_read_6 21 rfl rfl)
theorem dX7_read_163 : decode cX7_read 163 = .ok (.getfield 41, 3) := dk_180 0 41 (dk_at dksX7_read_7 0 rfl rfl)
theorem dX7_read_166 : decode cX7_read 166 = .ok (.iload 8, 2) := dk_21 8 (dk_at dksX7_read_7 3 rfl rfl)
theorem dX7_read_168 : decode cX7_read 168 = .ok (.iconst 1, 1) := dk_4 (dk_at dksX7_read_7 5 rfl rfl)
theorem dX7_read_169 : decode cX7_read 169 = .ok (.isub, 1) := dk_100 (dk_at dksX7_read_7 6 rfl rfl)
theorem dX7_read_170 : decode cX7_read 170 = .ok (.iaload, 1) := dk_46 (dk_at dksX7_read_7 7 rfl rfl)
theorem dX7_read_171 : decode cX7_read 171 = .ok (.aload_n 0, 1) := dk_42 (dk_at dksX7_read_7 8 rfl rfl)
theorem dX7_read_172 : decode cX7_read 172 = .ok (.getfield 41, 3) := dk_180 0 41 (dk_at dksX7_read_7 9 rfl rfl)
theorem dX7_read_175 : decode cX7_read 175 = .ok (.iload 8, 2) := dk_21 8 (dk_at dksX7_read_7 12 rfl rfl)
theorem dX7_read_177 : decode cX7_read 177 = .ok (.iaload, 1) := dk_46 (dk_at dksX7_read_7 14 rfl rfl)
theorem dX7_read_178 : decode cX7_read 178 = .ok (.invokevirtual 181, 3) := dk_182 0 181 (dk_at dksX7_read_7 15 rfl rfl)
theorem dX7_read_181 : decode cX7_read 181 = .ok (.ifCond .ge 17, 3) := dk_156 0 17 (dk_at dksX7_read_7 18 rfl rfl)
theorem dX7_read_184 : decode cX7_read 184 = .ok (.aload_n 0, 1) := dk_42 (dk_at dksX7_read_7 21 rfl rfl)
theorem dX7_read_185 : decode cX7_read 185 = .ok (.sipush 201, 3) := dk_17 0 201 (dk_at dksX7_read_8 0 rfl rfl)
theorem dX7_read_188 : decode cX7_read 188 = .ok (.iconst 0, 1) := dk_3 (dk_at dksX7_read_8 3 rfl rfl)
theorem dX7_read_189 : decode cX7_read 189 = .ok (.invokevirtual 189, 3) := dk_182 0 189 (dk_at dksX7_read_8 4 rfl rfl)
theorem dX7_read_192 : decode cX7_read 192 = .ok (.bipush (-20), 2) := dk_16 236 (dk_at dksX7_read_8 7 rfl rfl)
theorem dX7_read_194 : decode cX7_read 194 = .ok (.iload 6, 2) := dk_21 6 (dk_at dksX7_read_8 9 rfl rfl)
theorem dX7_read_196 : decode cX7_read 196 = .ok (.isub, 1) := dk_100 (dk_at dksX7_read_8 11 rfl rfl)
theorem dX7_read_197 : decode cX7_read 197 = .ok (.ireturn, 1) := dk_172 (dk_at dksX7_read_8 12 rfl rfl)
theorem dX7_read_198 : decode cX7_read 198 = .ok (.iinc 6 1, 3) := dk_132 6 1 (dk_at dksX7_read_8 13 rfl rfl)
theorem dX7_read_201 : decode cX7_read 201 = .ok (.iinc 7 1, 3) := dk_132 7 1 (dk_at dksX7_read_8 16 rfl rfl)
theorem dX7_read_204 : decode cX7_read 204 = .ok (.goto (-148), 3) := dk_167 255 108 (dk_at dksX7_read_8 19 rfl rfl)
theorem dX7_read_207 : decode cX7_read 207 = .ok (.aload_n 0, 1) := dk_42 (dk_at dksX7_read_8 22 rfl rfl)
theorem dX7_read_208 : decode cX7_read 208 = .ok (.iload 5, 2) := dk_21 5 (dk_at dksX7_read_9 0 rfl rfl)
theorem dX7_read_210 : decode cX7_read 210 = .ok (.putfield 262, 3) := dk_181 1 6 (dk_at dksX7_read_9 2 rfl rfl)
theorem dX7_read_213 : decode cX7_read 213 = .ok (.iload 6, 2) := dk_21 6 (dk_at dksX7_read_9 5 rfl rfl)
theorem dX7_read_215 : decode cX7_read 215 = .ok (.ireturn, 1) := dk_172 (dk_at dksX7_read_9 7 rfl rfl)
abbrev cX7_torn : ByteArray := prog_11_method_74_code
def yX7_torn : MethodName := ⟨RX7, "torn", "()I"⟩
theorem dX7_torn_0 : decode cX7_torn 0 = .ok (.aload_n 0, 1) := by decide +kernel
theorem dX7_torn_1 : decode cX7_torn 1 = .ok (.getfield 262, 3) := by decide +kernel
theorem dX7_torn_4 : decode cX7_torn 4 = .ok (.ireturn, 1) := by decide +kernel
abbrev cX7_count : ByteArray := prog_11_method_75_code
def yX7_count : MethodName := ⟨RX7, "count", "(I)I"⟩
def dkwX7_count_6 : List UInt8 := [160, 0, 8, 16, 252, 167, 0, 9, 42, 180, 0, 38, 3, 46, 172, 28, 172, 29, 172, 2, 172]
abbrev dktX7_count_6 : List UInt8 := dkwX7_count_6 ++ []
def dkwX7_count_5 : List UInt8 := [51, 153, 0, 7, 4, 167, 0, 4, 3, 96, 172, 42, 180, 0, 50, 172, 42, 180, 0, 35, 3, 46, 16, 252]
abbrev dktX7_count_5 : List UInt8 := dkwX7_count_5 ++ dktX7_count_6
def dkwX7_count_4 : List UInt8 := [42, 180, 0, 129, 172, 42, 180, 0, 31, 3, 51, 153, 0, 7, 4, 167, 0, 4, 3, 42, 180, 0, 31, 4]
abbrev dktX7_count_4 : List UInt8 := dkwX7_count_4 ++ dktX7_count_5
def dkwX7_count_3 : List UInt8 := [170, 0, 0, 0, 0, 0, 0, 107, 0, 0, 0, 0, 0, 0, 0, 5, 0, 0, 0, 40, 0, 0, 0, 45, 0, 0, 0, 75, 0, 0, 0, 80, 0, 0, 0, 103, 0, 0, 0, 105]
abbrev dktX7_count_3 : List UInt8 := dkwX7_count_3 ++ dktX7_count_4
def dkwX7_count_2 : List UInt8 := [29, 42, 180, 0, 7, 16, 48, 6, 21, 4, 104, 96, 5, 96, 46, 96, 62, 132, 4, 1, 167, 255, 224, 27]
abbrev dktX7_count_2 : List UInt8 := dkwX7_count_2 ++ dktX7_count_3
def dkwX7_count_1 : List UInt8 := [46, 96, 61, 132, 4, 1, 167, 255, 233, 3, 54, 4, 21, 4, 42, 180, 0, 7, 16, 66, 46, 162, 0, 26]
abbrev dktX7_count_1 : List UInt8 := dkwX7_count_1 ++ dktX7_count_2
def dkwX7_count_0 : List UInt8 := [3, 61, 3, 62, 3, 54, 4, 21, 4, 16, 25, 162, 0, 22, 28, 42, 180, 0, 7, 16, 23, 21, 4, 96]
abbrev dktX7_count_0 : List UInt8 := dkwX7_count_0 ++ dktX7_count_1
theorem dksX7_count_0 : cX7_count.data.toList.drop 0 = dktX7_count_0 := by decide +kernel
theorem dksX7_count_1 : cX7_count.data.toList.drop 24 = dktX7_count_1 := dk_seg dksX7_count_0 24 rfl rfl
theorem dksX7_count_2 : cX7_count.data.toList.drop 48 = dktX7_count_2 := dk_seg dksX7_count_1 24 rfl rfl
theorem dksX7_count_3 : cX7_count.data.toList.drop 72 = dktX7_count_3 := dk_seg dksX7_count_2 24 rfl rfl
theorem dksX7_count_4 : cX7_count.data.toList.drop 112 = dktX7_count_4 := dk_seg dksX7_count_3 40 rfl rfl
theorem dksX7_count_5 : cX7_count.data.toList.drop 136 = dktX7_count_5 := dk_seg dksX7_count_4 24 rfl rfl
theorem dksX7_count_6 : cX7_count.data.toList.drop 160 = dktX7_count_6 := dk_seg dksX7_count_5 24 rfl rfl
theorem dX7_count_0 : decode cX7_count 0 = .ok (.iconst 0, 1) := dk_3 (dk_at dksX7_count_0 0 rfl rfl)
theorem dX7_count_1 : decode cX7_count 1 = .ok (.istore_n 2, 1) := dk_61 (dk_at dksX7_count_0 1 rfl rfl)
theorem dX7_count_2 : decode cX7_count 2 = .ok (.iconst 0, 1) := dk_3 (dk_at dksX7_count_0 2 rfl rfl)
theorem dX7_count_3 : decode cX7_count 3 = .ok (.istore_n 3, 1) := dk_62 (dk_at dksX7_count_0 3 rfl rfl)
theorem dX7_count_4 : decode cX7_count 4 = .ok (.iconst 0, 1) := dk_3 (dk_at dksX7_count_0 4 rfl rfl)
theorem dX7_count_5 : decode cX7_count 5 = .ok (.istore 4, 2) := dk_54 4 (dk_at dksX7_count_0 5 rfl rfl)
theorem dX7_count_7 : decode cX7_count 7 = .ok (.iload 4, 2) := dk_21 4 (dk_at dksX7_count_0 7 rfl rfl)
theorem dX7_count_9 : decode cX7_count 9 = .ok (.bipush 25, 2) := dk_16 25 (dk_at dksX7_count_0 9 rfl rfl)
theorem dX7_count_11 : decode cX7_count 11 = .ok (.if_icmp .ge 22, 3) := dk_162 0 22 (dk_at dksX7_count_0 11 rfl rfl)
theorem dX7_count_14 : decode cX7_count 14 = .ok (.iload_n 2, 1) := dk_28 (dk_at dksX7_count_0 14 rfl rfl)
theorem dX7_count_15 : decode cX7_count 15 = .ok (.aload_n 0, 1) := dk_42 (dk_at dksX7_count_0 15 rfl rfl)
theorem dX7_count_16 : decode cX7_count 16 = .ok (.getfield 7, 3) := dk_180 0 7 (dk_at dksX7_count_0 16 rfl rfl)
theorem dX7_count_19 : decode cX7_count 19 = .ok (.bipush 23, 2) := dk_16 23 (dk_at dksX7_count_0 19 rfl rfl)
theorem dX7_count_21 : decode cX7_count 21 = .ok (.iload 4, 2) := dk_21 4 (dk_at dksX7_count_0 21 rfl rfl)
theorem dX7_count_23 : decode cX7_count 23 = .ok (.iadd, 1) := dk_96 (dk_at dksX7_count_0 23 rfl rfl)
theorem dX7_count_24 : decode cX7_count 24 = .ok (.iaload, 1) := dk_46 (dk_at dksX7_count_1 0 rfl rfl)
theorem dX7_count_25 : decode cX7_count 25 = .ok (.iadd, 1) := dk_96 (dk_at dksX7_count_1 1 rfl rfl)
theorem dX7_count_26 : decode cX7_count 26 = .ok (.istore_n 2, 1) := dk_61 (dk_at dksX7_count_1 2 rfl rfl)
theorem dX7_count_27 : decode cX7_count 27 = .ok (.iinc 4 1, 3) := dk_132 4 1 (dk_at dksX7_count_1 3 rfl rfl)
theorem dX7_count_30 : decode cX7_count 30 = .ok (.goto (-23), 3) := dk_167 255 233 (dk_at dksX7_count_1 6 rfl rfl)
theorem dX7_count_33 : decode cX7_count 33 = .ok (.iconst 0, 1) := dk_3 (dk_at dksX7_count_1 9 rfl rfl)
theorem dX7_count_34 : decode cX7_count 34 = .ok (.istore 4, 2) := dk_54 4 (dk_at dksX7_count_1 10 rfl rfl)
theorem dX7_count_36 : decode cX7_count 36 = .ok (.iload 4, 2) := dk_21 4 (dk_at dksX7_count_1 12 rfl rfl)
theorem dX7_count_38 : decode cX7_count 38 = .ok (.aload_n 0, 1) := dk_42 (dk_at dksX7_count_1 14 rfl rfl)
theorem dX7_count_39 : decode cX7_count 39 = .ok (.getfield 7, 3) := dk_180 0 7 (dk_at dksX7_count_1 15 rfl rfl)
theorem dX7_count_42 : decode cX7_count 42 = .ok (.bipush 66, 2) := dk_16 66 (dk_at dksX7_count_1 18 rfl rfl)
theorem dX7_count_44 : decode cX7_count 44 = .ok (.iaload, 1) := dk_46 (dk_at dksX7_count_1 20 rfl rfl)
theorem dX7_count_45 : decode cX7_count 45 = .ok (.if_icmp .ge 26, 3) := dk_162 0 26 (dk_at dksX7_count_1 21 rfl rfl)
theorem dX7_count_48 : decode cX7_count 48 = .ok (.iload_n 3, 1) := dk_29 (dk_at dksX7_count_2 0 rfl rfl)
theorem dX7_count_49 : decode cX7_count 49 = .ok (.aload_n 0, 1) := dk_42 (dk_at dksX7_count_2 1 rfl rfl)
theorem dX7_count_50 : decode cX7_count 50 = .ok (.getfield 7, 3) := dk_180 0 7 (dk_at dksX7_count_2 2 rfl rfl)
theorem dX7_count_53 : decode cX7_count 53 = .ok (.bipush 48, 2) := dk_16 48 (dk_at dksX7_count_2 5 rfl rfl)
theorem dX7_count_55 : decode cX7_count 55 = .ok (.iconst 3, 1) := dk_6 (dk_at dksX7_count_2 7 rfl rfl)
theorem dX7_count_56 : decode cX7_count 56 = .ok (.iload 4, 2) := dk_21 4 (dk_at dksX7_count_2 8 rfl rfl)
theorem dX7_count_58 : decode cX7_count 58 = .ok (.imul, 1) := dk_104 (dk_at dksX7_count_2 10 rfl rfl)
theorem dX7_count_59 : decode cX7_count 59 = .ok (.iadd, 1) := dk_96 (dk_at dksX7_count_2 11 rfl rfl)
theorem dX7_count_60 : decode cX7_count 60 = .ok (.iconst 2, 1) := dk_5 (dk_at dksX7_count_2 12 rfl rfl)
theorem dX7_count_61 : decode cX7_count 61 = .ok (.iadd, 1) := dk_96 (dk_at dksX7_count_2 13 rfl rfl)
theorem dX7_count_62 : decode cX7_count 62 = .ok (.iaload, 1) := dk_46 (dk_at dksX7_count_2 14 rfl rfl)
theorem dX7_count_63 : decode cX7_count 63 = .ok (.iadd, 1) := dk_96 (dk_at dksX7_count_2 15 rfl rfl)
theorem dX7_count_64 : decode cX7_count 64 = .ok (.istore_n 3, 1) := dk_62 (dk_at dksX7_count_2 16 rfl rfl)
theorem dX7_count_65 : decode cX7_count 65 = .ok (.iinc 4 1, 3) := dk_132 4 1 (dk_at dksX7_count_2 17 rfl rfl)
theorem dX7_count_68 : decode cX7_count 68 = .ok (.goto (-32), 3) := dk_167 255 224 (dk_at dksX7_count_2 20 rfl rfl)
theorem dX7_count_71 : decode cX7_count 71 = .ok (.iload_n 1, 1) := dk_27 (dk_at dksX7_count_2 23 rfl rfl)
theorem dX7_count_72 : decode cX7_count 72 = .ok (.tableswitch 107 0 5 #[40, 45, 75, 80, 103, 105], 40) := by decide +kernel
theorem dX7_count_112 : decode cX7_count 112 = .ok (.aload_n 0, 1) := dk_42 (dk_at dksX7_count_4 0 rfl rfl)
theorem dX7_count_113 : decode cX7_count 113 = .ok (.getfield 129, 3) := dk_180 0 129 (dk_at dksX7_count_4 1 rfl rfl)
theorem dX7_count_116 : decode cX7_count 116 = .ok (.ireturn, 1) := dk_172 (dk_at dksX7_count_4 4 rfl rfl)
theorem dX7_count_117 : decode cX7_count 117 = .ok (.aload_n 0, 1) := dk_42 (dk_at dksX7_count_4 5 rfl rfl)
theorem dX7_count_118 : decode cX7_count 118 = .ok (.getfield 31, 3) := dk_180 0 31 (dk_at dksX7_count_4 6 rfl rfl)
theorem dX7_count_121 : decode cX7_count 121 = .ok (.iconst 0, 1) := dk_3 (dk_at dksX7_count_4 9 rfl rfl)
theorem dX7_count_122 : decode cX7_count 122 = .ok (.baload, 1) := dk_51 (dk_at dksX7_count_4 10 rfl rfl)
theorem dX7_count_123 : decode cX7_count 123 = .ok (.ifCond .eq 7, 3) := dk_153 0 7 (dk_at dksX7_count_4 11 rfl rfl)
theorem dX7_count_126 : decode cX7_count 126 = .ok (.iconst 1, 1) := dk_4 (dk_at dksX7_count_4 14 rfl rfl)
theorem dX7_count_127 : decode cX7_count 127 = .ok (.goto 4, 3) := dk_167 0 4 (dk_at dksX7_count_4 15 rfl rfl)
theorem dX7_count_130 : decode cX7_count 130 = .ok (.iconst 0, 1) := dk_3 (dk_at dksX7_count_4 18 rfl rfl)
theorem dX7_count_131 : decode cX7_count 131 = .ok (.aload_n 0, 1) := dk_42 (dk_at dksX7_count_4 19 rfl rfl)
theorem dX7_count_132 : decode cX7_count 132 = .ok (.getfield 31, 3) := dk_180 0 31 (dk_at dksX7_count_4 20 rfl rfl)
theorem dX7_count_135 : decode cX7_count 135 = .ok (.iconst 1, 1) := dk_4 (dk_at dksX7_count_4 23 rfl rfl)
theorem dX7_count_136 : decode cX7_count 136 = .ok (.baload, 1) := dk_51 (dk_at dksX7_count_5 0 rfl rfl)
theorem dX7_count_137 : decode cX7_count 137 = .ok (.ifCond .eq 7, 3) := dk_153 0 7 (dk_at dksX7_count_5 1 rfl rfl)
theorem dX7_count_140 : decode cX7_count 140 = .ok (.iconst 1, 1) := dk_4 (dk_at dksX7_count_5 4 rfl rfl)
theorem dX7_count_141 : decode cX7_count 141 = .ok (.goto 4, 3) := dk_167 0 4 (dk_at dksX7_count_5 5 rfl rfl)
theorem dX7_count_144 : decode cX7_count 144 = .ok (.iconst 0, 1) := dk_3 (dk_at dksX7_count_5 8 rfl rfl)
theorem dX7_count_145 : decode cX7_count 145 = .ok (.iadd, 1) := dk_96 (dk_at dksX7_count_5 9 rfl rfl)
theorem dX7_count_146 : decode cX7_count 146 = .ok (.ireturn, 1) := dk_172 (dk_at dksX7_count_5 10 rfl rfl)
theorem dX7_count_147 : decode cX7_count 147 = .ok (.aload_n 0, 1) := dk_42 (dk_at dksX7_count_5 11 rfl rfl)
theorem dX7_count_148 : decode cX7_count 148 = .ok (.getfield 50, 3) := dk_180 0 50 (dk_at dksX7_count_5 12 rfl rfl)
theorem dX7_count_151 : decode cX7_count 151 = .ok (.ireturn, 1) := dk_172 (dk_at dksX7_count_5 15 rfl rfl)
theorem dX7_count_152 : decode cX7_count 152 = .ok (.aload_n 0, 1) := dk_42 (dk_at dksX7_count_5 16 rfl rfl)
theorem dX7_count_153 : decode cX7_count 153 = .ok (.getfield 35, 3) := dk_180 0 35 (dk_at dksX7_count_5 17 rfl rfl)
theorem dX7_count_156 : decode cX7_count 156 = .ok (.iconst 0, 1) := dk_3 (dk_at dksX7_count_5 20 rfl rfl)
theorem dX7_count_157 : decode cX7_count 157 = .ok (.iaload, 1) := dk_46 (dk_at dksX7_count_5 21 rfl rfl)
theorem dX7_count_158 : decode cX7_count 158 = .ok (.bipush (-4), 2) := dk_16 252 (dk_at dksX7_count_5 22 rfl rfl)
theorem dX7_count_160 : decode cX7_count 160 = .ok (.if_icmp .ne 8, 3) := dk_160 0 8 (dk_at dksX7_count_6 0 rfl rfl)
theorem dX7_count_163 : decode cX7_count 163 = .ok (.bipush (-4), 2) := dk_16 252 (dk_at dksX7_count_6 3 rfl rfl)
theorem dX7_count_165 : decode cX7_count 165 = .ok (.goto 9, 3) := dk_167 0 9 (dk_at dksX7_count_6 5 rfl rfl)
theorem dX7_count_168 : decode cX7_count 168 = .ok (.aload_n 0, 1) := dk_42 (dk_at dksX7_count_6 8 rfl rfl)
theorem dX7_count_169 : decode cX7_count 169 = .ok (.getfield 38, 3) := dk_180 0 38 (dk_at dksX7_count_6 9 rfl rfl)
theorem dX7_count_172 : decode cX7_count 172 = .ok (.iconst 0, 1) := dk_3 (dk_at dksX7_count_6 12 rfl rfl)
theorem dX7_count_173 : decode cX7_count 173 = .ok (.iaload, 1) := dk_46 (dk_at dksX7_count_6 13 rfl rfl)
theorem dX7_count_174 : decode cX7_count 174 = .ok (.ireturn, 1) := dk_172 (dk_at dksX7_count_6 14 rfl rfl)
theorem dX7_count_175 : decode cX7_count 175 = .ok (.iload_n 2, 1) := dk_28 (dk_at dksX7_count_6 15 rfl rfl)
theorem dX7_count_176 : decode cX7_count 176 = .ok (.ireturn, 1) := dk_172 (dk_at dksX7_count_6 16 rfl rfl)
theorem dX7_count_177 : decode cX7_count 177 = .ok (.iload_n 3, 1) := dk_29 (dk_at dksX7_count_6 17 rfl rfl)
theorem dX7_count_178 : decode cX7_count 178 = .ok (.ireturn, 1) := dk_172 (dk_at dksX7_count_6 18 rfl rfl)
theorem dX7_count_179 : decode cX7_count 179 = .ok (.iconst (-1), 1) := dk_2 (dk_at dksX7_count_6 19 rfl rfl)
theorem dX7_count_180 : decode cX7_count 180 = .ok (.ireturn, 1) := dk_172 (dk_at dksX7_count_6 20 rfl rfl)
theorem q71 : (Jvm.Cond.initialized "ClockWardModel") ∈ lw_all := lw_g (lw_at lw_m1 8 rfl) rfl
theorem q924 : (Jvm.Cond.instantiable "ClockWardModel" (32 : Nat)) ∈ lw_all := lw_g (lw_at lw_m4 141 rfl) rfl
theorem q926 : (Jvm.Cond.instanceMethod ({ cls := "ClockWardModel", name := "<init>", desc := "()V" } : Jvm.MethodName)) ∈ lw_all := lw_g (lw_at lw_m4 143 rfl) rfl
theorem q927 : (Jvm.Cond.code ({ cls := "ClockWardModel", name := "<init>", desc := "()V" } : Jvm.MethodName) prog_11_method_1_code (1 : Nat) (Option.none : Option Jvm.ClassFile.FieldType)) ∈ lw_all := lw_g (lw_at lw_m4 144 rfl) rfl
theorem q928 : (Jvm.Cond.methodLink "ClockWardModel" (1 : Nat) ({ cls := "java/lang/Object", name := "<init>", desc := "()V" } : Jvm.MethodName)) ∈ lw_all := lw_g (lw_at lw_m4 145 rfl) rfl
theorem q929 : (Jvm.Cond.fieldLink "ClockWardModel" (7 : Nat) "ClockWardModel" "state" "[I") ∈ lw_all := lw_g (lw_at lw_m4 146 rfl) rfl
theorem q930 : (Jvm.Cond.fieldLink "ClockWardModel" (126 : Nat) "ClockWardModel" "clockMany" "I") ∈ lw_all := lw_g (lw_at lw_m4 147 rfl) rfl
theorem q931 : (Jvm.Cond.fieldLink "ClockWardModel" (13 : Nat) "ClockWardModel" "readPage" "[I") ∈ lw_all := lw_g (lw_at lw_m4 148 rfl) rfl
theorem q932 : (Jvm.Cond.fieldLink "ClockWardModel" (98 : Nat) "ClockWardModel" "readClocks" "I") ∈ lw_all := lw_g (lw_at lw_m4 149 rfl) rfl
theorem q933 : (Jvm.Cond.fieldLink "ClockWardModel" (110 : Nat) "ClockWardModel" "isFloorTold" "Z") ∈ lw_all := lw_g (lw_at lw_m4 150 rfl) rfl
theorem q934 : (Jvm.Cond.fieldLink "ClockWardModel" (95 : Nat) "ClockWardModel" "high" "I") ∈ lw_all := lw_g (lw_at lw_m4 151 rfl) rfl
theorem q935 : (Jvm.Cond.fieldLink "ClockWardModel" (16 : Nat) "ClockWardModel" "tape" "[I") ∈ lw_all := lw_g (lw_at lw_m4 152 rfl) rfl
theorem q936 : (Jvm.Cond.fieldLink "ClockWardModel" (50 : Nat) "ClockWardModel" "taped" "I") ∈ lw_all := lw_g (lw_at lw_m4 153 rfl) rfl
theorem q937 : (Jvm.Cond.fieldLink "ClockWardModel" (123 : Nat) "ClockWardModel" "fault" "I") ∈ lw_all := lw_g (lw_at lw_m4 154 rfl) rfl
theorem q938 : (Jvm.Cond.fieldLink "ClockWardModel" (54 : Nat) "ClockWardModel" "broken" "I") ∈ lw_all := lw_g (lw_at lw_m4 155 rfl) rfl
theorem q939 : (Jvm.Cond.fieldLink "ClockWardModel" (60 : Nat) "ClockWardModel" "brokenAt" "I") ∈ lw_all := lw_g (lw_at lw_m4 156 rfl) rfl
theorem q940 : (Jvm.Cond.fieldLink "ClockWardModel" (66 : Nat) "ClockWardModel" "spot" "I") ∈ lw_all := lw_g (lw_at lw_m4 157 rfl) rfl
theorem q941 : (Jvm.Cond.fieldLink "ClockWardModel" (57 : Nat) "ClockWardModel" "here" "I") ∈ lw_all := lw_g (lw_at lw_m4 158 rfl) rfl
theorem q942 : (Jvm.Cond.fieldLink "ClockWardModel" (63 : Nat) "ClockWardModel" "token" "I") ∈ lw_all := lw_g (lw_at lw_m4 159 rfl) rfl
theorem q943 : (Jvm.Cond.fieldLink "ClockWardModel" (73 : Nat) "ClockWardModel" "value" "I") ∈ lw_all := lw_g (lw_at lw_m4 160 rfl) rfl
theorem q944 : (Jvm.Cond.fieldLink "ClockWardModel" (19 : Nat) "ClockWardModel" "cuts" "[I") ∈ lw_all := lw_g (lw_at lw_m4 161 rfl) rfl
theorem q945 : (Jvm.Cond.fieldLink "ClockWardModel" (22 : Nat) "ClockWardModel" "letters" "[I") ∈ lw_all := lw_g (lw_at lw_m4 162 rfl) rfl
theorem q946 : (Jvm.Cond.fieldLink "ClockWardModel" (193 : Nat) "ClockWardModel" "cameMany" "I") ∈ lw_all := lw_g (lw_at lw_m4 163 rfl) rfl
theorem q947 : (Jvm.Cond.fieldLink "ClockWardModel" (196 : Nat) "ClockWardModel" "firstNot" "I") ∈ lw_all := lw_g (lw_at lw_m4 164 rfl) rfl
theorem q948 : (Jvm.Cond.fieldLink "ClockWardModel" (207 : Nat) "ClockWardModel" "bestRight" "I") ∈ lw_all := lw_g (lw_at lw_m4 165 rfl) rfl
theorem q949 : (Jvm.Cond.fieldLink "ClockWardModel" (213 : Nat) "ClockWardModel" "bestLost" "I") ∈ lw_all := lw_g (lw_at lw_m4 166 rfl) rfl
theorem q950 : (Jvm.Cond.fieldLink "ClockWardModel" (216 : Nat) "ClockWardModel" "bestFirst" "I") ∈ lw_all := lw_g (lw_at lw_m4 167 rfl) rfl
theorem q951 : (Jvm.Cond.fieldLink "ClockWardModel" (219 : Nat) "ClockWardModel" "bestSecond" "I") ∈ lw_all := lw_g (lw_at lw_m4 168 rfl) rfl
theorem q952 : (Jvm.Cond.fieldLink "ClockWardModel" (210 : Nat) "ClockWardModel" "bestMany" "I") ∈ lw_all := lw_g (lw_at lw_m4 169 rfl) rfl
theorem q953 : (Jvm.Cond.fieldLink "ClockWardModel" (25 : Nat) "ClockWardModel" "seen" "[I") ∈ lw_all := lw_g (lw_at lw_m4 170 rfl) rfl
theorem q954 : (Jvm.Cond.fieldLink "ClockWardModel" (129 : Nat) "ClockWardModel" "seenMany" "I") ∈ lw_all := lw_g (lw_at lw_m4 171 rfl) rfl
theorem q955 : (Jvm.Cond.fieldLink "ClockWardModel" (28 : Nat) "ClockWardModel" "timeBy" "[I") ∈ lw_all := lw_g (lw_at lw_m4 172 rfl) rfl
theorem q956 : (Jvm.Cond.fieldLink "ClockWardModel" (31 : Nat) "ClockWardModel" "isKept" "[Z") ∈ lw_all := lw_g (lw_at lw_m4 173 rfl) rfl
theorem q957 : (Jvm.Cond.fieldLink "ClockWardModel" (35 : Nat) "ClockWardModel" "lanes" "[I") ∈ lw_all := lw_g (lw_at lw_m4 174 rfl) rfl
theorem q958 : (Jvm.Cond.fieldLink "ClockWardModel" (38 : Nat) "ClockWardModel" "lengths" "[I") ∈ lw_all := lw_g (lw_at lw_m4 175 rfl) rfl
theorem q959 : (Jvm.Cond.fieldLink "ClockWardModel" (41 : Nat) "ClockWardModel" "cells" "[I") ∈ lw_all := lw_g (lw_at lw_m4 176 rfl) rfl
theorem q960 : (Jvm.Cond.fieldLink "ClockWardModel" (262 : Nat) "ClockWardModel" "torn" "I") ∈ lw_all := lw_g (lw_at lw_m4 177 rfl) rfl
theorem q961 : (Jvm.Cond.laysFinal "ClockWardModel" "ClockWardModel" "state" "[I") ∈ lw_all := lw_g (lw_at lw_m4 178 rfl) rfl
theorem q962 : (Jvm.Cond.soleField "ClockWardModel" "state") ∈ lw_all := lw_g (lw_at lw_m4 179 rfl) rfl
theorem q963 : (Jvm.Cond.lays "ClockWardModel" "ClockWardModel" "clockMany" "I") ∈ lw_all := lw_g (lw_at lw_m4 180 rfl) rfl
theorem q964 : (Jvm.Cond.soleField "ClockWardModel" "clockMany") ∈ lw_all := lw_g (lw_at lw_m4 181 rfl) rfl
theorem q965 : (Jvm.Cond.laysFinal "ClockWardModel" "ClockWardModel" "readPage" "[I") ∈ lw_all := lw_g (lw_at lw_m4 182 rfl) rfl
theorem q966 : (Jvm.Cond.soleField "ClockWardModel" "readPage") ∈ lw_all := lw_g (lw_at lw_m4 183 rfl) rfl
theorem q967 : (Jvm.Cond.lays "ClockWardModel" "ClockWardModel" "readClocks" "I") ∈ lw_all := lw_g (lw_at lw_m4 184 rfl) rfl
theorem q968 : (Jvm.Cond.soleField "ClockWardModel" "readClocks") ∈ lw_all := lw_g (lw_at lw_m4 185 rfl) rfl
theorem q969 : (Jvm.Cond.lays "ClockWardModel" "ClockWardModel" "isFloorTold" "Z") ∈ lw_all := lw_g (lw_at lw_m4 186 rfl) rfl
theorem q970 : (Jvm.Cond.soleField "ClockWardModel" "isFloorTold") ∈ lw_all := lw_g (lw_at lw_m4 187 rfl) rfl
theorem q971 : (Jvm.Cond.lays "ClockWardModel" "ClockWardModel" "high" "I") ∈ lw_all := lw_g (lw_at lw_m4 188 rfl) rfl
theorem q972 : (Jvm.Cond.soleField "ClockWardModel" "high") ∈ lw_all := lw_g (lw_at lw_m4 189 rfl) rfl
theorem q973 : (Jvm.Cond.laysFinal "ClockWardModel" "ClockWardModel" "tape" "[I") ∈ lw_all := lw_g (lw_at lw_m4 190 rfl) rfl
theorem q974 : (Jvm.Cond.soleField "ClockWardModel" "tape") ∈ lw_all := lw_g (lw_at lw_m4 191 rfl) rfl
theorem q975 : (Jvm.Cond.lays "ClockWardModel" "ClockWardModel" "taped" "I") ∈ lw_all := lw_g (lw_at lw_m4 192 rfl) rfl
theorem q976 : (Jvm.Cond.soleField "ClockWardModel" "taped") ∈ lw_all := lw_g (lw_at lw_m4 193 rfl) rfl
theorem q977 : (Jvm.Cond.lays "ClockWardModel" "ClockWardModel" "fault" "I") ∈ lw_all := lw_g (lw_at lw_m4 194 rfl) rfl
theorem q978 : (Jvm.Cond.soleField "ClockWardModel" "fault") ∈ lw_all := lw_g (lw_at lw_m4 195 rfl) rfl
theorem q979 : (Jvm.Cond.lays "ClockWardModel" "ClockWardModel" "broken" "I") ∈ lw_all := lw_g (lw_at lw_m4 196 rfl) rfl
theorem q980 : (Jvm.Cond.soleField "ClockWardModel" "broken") ∈ lw_all := lw_g (lw_at lw_m4 197 rfl) rfl
theorem q981 : (Jvm.Cond.lays "ClockWardModel" "ClockWardModel" "brokenAt" "I") ∈ lw_all := lw_g (lw_at lw_m4 198 rfl) rfl
theorem q982 : (Jvm.Cond.soleField "ClockWardModel" "brokenAt") ∈ lw_all := lw_g (lw_at lw_m4 199 rfl) rfl
theorem q983 : (Jvm.Cond.lays "ClockWardModel" "ClockWardModel" "spot" "I") ∈ lw_all := lw_g (lw_at lw_m4 200 rfl) rfl
theorem q984 : (Jvm.Cond.soleField "ClockWardModel" "spot") ∈ lw_all := lw_g (lw_at lw_m4 201 rfl) rfl
theorem q985 : (Jvm.Cond.lays "ClockWardModel" "ClockWardModel" "here" "I") ∈ lw_all := lw_g (lw_at lw_m4 202 rfl) rfl
theorem q986 : (Jvm.Cond.soleField "ClockWardModel" "here") ∈ lw_all := lw_g (lw_at lw_m4 203 rfl) rfl
theorem q987 : (Jvm.Cond.lays "ClockWardModel" "ClockWardModel" "token" "I") ∈ lw_all := lw_g (lw_at lw_m4 204 rfl) rfl
theorem q988 : (Jvm.Cond.soleField "ClockWardModel" "token") ∈ lw_all := lw_g (lw_at lw_m4 205 rfl) rfl
theorem q989 : (Jvm.Cond.lays "ClockWardModel" "ClockWardModel" "value" "I") ∈ lw_all := lw_g (lw_at lw_m4 206 rfl) rfl
theorem q990 : (Jvm.Cond.soleField "ClockWardModel" "value") ∈ lw_all := lw_g (lw_at lw_m4 207 rfl) rfl
theorem q991 : (Jvm.Cond.laysFinal "ClockWardModel" "ClockWardModel" "cuts" "[I") ∈ lw_all := lw_g (lw_at lw_m4 208 rfl) rfl
theorem q992 : (Jvm.Cond.soleField "ClockWardModel" "cuts") ∈ lw_all := lw_g (lw_at lw_m4 209 rfl) rfl
theorem q993 : (Jvm.Cond.laysFinal "ClockWardModel" "ClockWardModel" "letters" "[I") ∈ lw_all := lw_g (lw_at lw_m4 210 rfl) rfl
theorem q994 : (Jvm.Cond.soleField "ClockWardModel" "letters") ∈ lw_all := lw_g (lw_at lw_m4 211 rfl) rfl
theorem q995 : (Jvm.Cond.lays "ClockWardModel" "ClockWardModel" "cameMany" "I") ∈ lw_all := lw_g (lw_at lw_m4 212 rfl) rfl
theorem q996 : (Jvm.Cond.soleField "ClockWardModel" "cameMany") ∈ lw_all := lw_g (lw_at lw_m4 213 rfl) rfl
theorem q997 : (Jvm.Cond.lays "ClockWardModel" "ClockWardModel" "firstNot" "I") ∈ lw_all := lw_g (lw_at lw_m4 214 rfl) rfl
theorem q998 : (Jvm.Cond.soleField "ClockWardModel" "firstNot") ∈ lw_all := lw_g (lw_at lw_m4 215 rfl) rfl
theorem q999 : (Jvm.Cond.lays "ClockWardModel" "ClockWardModel" "bestRight" "I") ∈ lw_all := lw_g (lw_at lw_m4 216 rfl) rfl
theorem q1000 : (Jvm.Cond.soleField "ClockWardModel" "bestRight") ∈ lw_all := lw_g (lw_at lw_m4 217 rfl) rfl
theorem q1001 : (Jvm.Cond.lays "ClockWardModel" "ClockWardModel" "bestLost" "I") ∈ lw_all := lw_g (lw_at lw_m4 218 rfl) rfl
theorem q1002 : (Jvm.Cond.soleField "ClockWardModel" "bestLost") ∈ lw_all := lw_g (lw_at lw_m4 219 rfl) rfl
theorem q1003 : (Jvm.Cond.lays "ClockWardModel" "ClockWardModel" "bestFirst" "I") ∈ lw_all := lw_g (lw_at lw_m4 220 rfl) rfl
theorem q1004 : (Jvm.Cond.soleField "ClockWardModel" "bestFirst") ∈ lw_all := lw_g (lw_at lw_m4 221 rfl) rfl
theorem q1005 : (Jvm.Cond.lays "ClockWardModel" "ClockWardModel" "bestSecond" "I") ∈ lw_all := lw_g (lw_at lw_m4 222 rfl) rfl
theorem q1006 : (Jvm.Cond.soleField "ClockWardModel" "bestSecond") ∈ lw_all := lw_g (lw_at lw_m4 223 rfl) rfl
theorem q1007 : (Jvm.Cond.lays "ClockWardModel" "ClockWardModel" "bestMany" "I") ∈ lw_all := lw_g (lw_at lw_m4 224 rfl) rfl
theorem q1008 : (Jvm.Cond.soleField "ClockWardModel" "bestMany") ∈ lw_all := lw_g (lw_at lw_m4 225 rfl) rfl
theorem q1009 : (Jvm.Cond.laysFinal "ClockWardModel" "ClockWardModel" "seen" "[I") ∈ lw_all := lw_g (lw_at lw_m4 226 rfl) rfl
theorem q1010 : (Jvm.Cond.soleField "ClockWardModel" "seen") ∈ lw_all := lw_g (lw_at lw_m4 227 rfl) rfl
theorem q1011 : (Jvm.Cond.lays "ClockWardModel" "ClockWardModel" "seenMany" "I") ∈ lw_all := lw_g (lw_at lw_m4 228 rfl) rfl
theorem q1012 : (Jvm.Cond.soleField "ClockWardModel" "seenMany") ∈ lw_all := lw_g (lw_at lw_m4 229 rfl) rfl
theorem q1013 : (Jvm.Cond.laysFinal "ClockWardModel" "ClockWardModel" "timeBy" "[I") ∈ lw_all := lw_g (lw_at lw_m4 230 rfl) rfl
theorem q1014 : (Jvm.Cond.soleField "ClockWardModel" "timeBy") ∈ lw_all := lw_g (lw_at lw_m4 231 rfl) rfl
theorem q1015 : (Jvm.Cond.laysFinal "ClockWardModel" "ClockWardModel" "isKept" "[Z") ∈ lw_all := lw_g (lw_at lw_m4 232 rfl) rfl
theorem q1016 : (Jvm.Cond.soleField "ClockWardModel" "isKept") ∈ lw_all := lw_g (lw_at lw_m4 233 rfl) rfl
theorem q1017 : (Jvm.Cond.laysFinal "ClockWardModel" "ClockWardModel" "lanes" "[I") ∈ lw_all := lw_g (lw_at lw_m4 234 rfl) rfl
theorem q1018 : (Jvm.Cond.soleField "ClockWardModel" "lanes") ∈ lw_all := lw_g (lw_at lw_m4 235 rfl) rfl
theorem q1019 : (Jvm.Cond.laysFinal "ClockWardModel" "ClockWardModel" "lengths" "[I") ∈ lw_all := lw_g (lw_at lw_m4 236 rfl) rfl
theorem q1020 : (Jvm.Cond.soleField "ClockWardModel" "lengths") ∈ lw_all := lw_g (lw_at lw_m4 237 rfl) rfl
theorem q1021 : (Jvm.Cond.laysFinal "ClockWardModel" "ClockWardModel" "cells" "[I") ∈ lw_all := lw_g (lw_at lw_m4 238 rfl) rfl
theorem q1022 : (Jvm.Cond.soleField "ClockWardModel" "cells") ∈ lw_all := lw_g (lw_at lw_m4 239 rfl) rfl
theorem q1023 : (Jvm.Cond.lays "ClockWardModel" "ClockWardModel" "torn" "I") ∈ lw_all := lw_g (lw_at lw_m5 0 rfl) rfl
theorem q1024 : (Jvm.Cond.soleField "ClockWardModel" "torn") ∈ lw_all := lw_g (lw_at lw_m5 1 rfl) rfl
theorem q1025 : (Jvm.Cond.superclass "ClockWardModel" "java/lang/Object") ∈ lw_all := lw_g (lw_at lw_m5 2 rfl) rfl
theorem q1028 : (Jvm.Cond.instanceMethod ({ cls := "ClockWardModel", name := "feed", desc := "(I)I" } : Jvm.MethodName)) ∈ lw_all := lw_g (lw_at lw_m5 5 rfl) rfl
theorem q1029 : (Jvm.Cond.selects "ClockWardModel" ({ cls := "ClockWardModel", name := "feed", desc := "(I)I" } : Jvm.MethodName) ({ cls := "ClockWardModel", name := "feed", desc := "(I)I" } : Jvm.MethodName)) ∈ lw_all := lw_g (lw_at lw_m5 6 rfl) rfl
theorem q1030 : (Jvm.Cond.code ({ cls := "ClockWardModel", name := "feed", desc := "(I)I" } : Jvm.MethodName) prog_11_method_4_code (2 : Nat) (Option.some Jvm.ClassFile.FieldType.int)) ∈ lw_all := lw_g (lw_at lw_m5 7 rfl) rfl
theorem q1031 : (Jvm.Cond.constantLong "ClockWardModel" (44 : Nat) (127 : Int64)) ∈ lw_all := lw_g (lw_at lw_m5 8 rfl) rfl
theorem q1032 : (Jvm.Cond.methodLink "ClockWardModel" (46 : Nat) ({ cls := "ClockWardModel", name := "in", desc := "(JJJ)Z" } : Jvm.MethodName)) ∈ lw_all := lw_g (lw_at lw_m5 9 rfl) rfl
theorem q1033 : (Jvm.Cond.static ({ cls := "ClockWardModel", name := "in", desc := "(JJJ)Z" } : Jvm.MethodName)) ∈ lw_all := lw_g (lw_at lw_m5 10 rfl) rfl
theorem q1034 : (Jvm.Cond.code ({ cls := "ClockWardModel", name := "in", desc := "(JJJ)Z" } : Jvm.MethodName) prog_11_method_3_code (6 : Nat) (Option.some Jvm.ClassFile.FieldType.boolean)) ∈ lw_all := lw_g (lw_at lw_m5 11 rfl) rfl
theorem q1036 : (Jvm.Cond.instanceMethod ({ cls := "ClockWardModel", name := "end", desc := "(I)I" } : Jvm.MethodName)) ∈ lw_all := lw_g (lw_at lw_m5 13 rfl) rfl
theorem q1037 : (Jvm.Cond.selects "ClockWardModel" ({ cls := "ClockWardModel", name := "end", desc := "(I)I" } : Jvm.MethodName) ({ cls := "ClockWardModel", name := "end", desc := "(I)I" } : Jvm.MethodName)) ∈ lw_all := lw_g (lw_at lw_m5 14 rfl) rfl
theorem q1038 : (Jvm.Cond.code ({ cls := "ClockWardModel", name := "end", desc := "(I)I" } : Jvm.MethodName) prog_11_method_5_code (3 : Nat) (Option.some Jvm.ClassFile.FieldType.int)) ∈ lw_all := lw_g (lw_at lw_m5 15 rfl) rfl
theorem q1040 : (Jvm.Cond.instanceMethod ({ cls := "ClockWardModel", name := "text", desc := "()I" } : Jvm.MethodName)) ∈ lw_all := lw_g (lw_at lw_m5 17 rfl) rfl
theorem q1041 : (Jvm.Cond.selects "ClockWardModel" ({ cls := "ClockWardModel", name := "text", desc := "()I" } : Jvm.MethodName) ({ cls := "ClockWardModel", name := "text", desc := "()I" } : Jvm.MethodName)) ∈ lw_all := lw_g (lw_at lw_m5 18 rfl) rfl
theorem q1042 : (Jvm.Cond.code ({ cls := "ClockWardModel", name := "text", desc := "()I" } : Jvm.MethodName) prog_11_method_15_code (3 : Nat) (Option.some Jvm.ClassFile.FieldType.int)) ∈ lw_all := lw_g (lw_at lw_m5 19 rfl) rfl
theorem q1043 : (Jvm.Cond.methodLink "ClockWardModel" (88 : Nat) ({ cls := "ClockWardModel", name := "step", desc := "()V" } : Jvm.MethodName)) ∈ lw_all := lw_g (lw_at lw_m5 20 rfl) rfl
theorem q1044 : (Jvm.Cond.privateMethod ({ cls := "ClockWardModel", name := "step", desc := "()V" } : Jvm.MethodName)) ∈ lw_tbl := lw_at lw_m5 21 rfl
theorem q1045 : (Jvm.Cond.instanceMethod ({ cls := "ClockWardModel", name := "step", desc := "()V" } : Jvm.MethodName)) ∈ lw_all := lw_g (lw_at lw_m5 22 rfl) rfl
theorem q1046 : (Jvm.Cond.code ({ cls := "ClockWardModel", name := "step", desc := "()V" } : Jvm.MethodName) prog_11_method_9_code (2 : Nat) (Option.none : Option Jvm.ClassFile.FieldType)) ∈ lw_all := lw_g (lw_at lw_m5 23 rfl) rfl
theorem q1047 : (Jvm.Cond.methodLink "ClockWardModel" (69 : Nat) ({ cls := "ClockWardModel", name := "byteAt", desc := "(I)I" } : Jvm.MethodName)) ∈ lw_all := lw_g (lw_at lw_m5 24 rfl) rfl
theorem q1048 : (Jvm.Cond.privateMethod ({ cls := "ClockWardModel", name := "byteAt", desc := "(I)I" } : Jvm.MethodName)) ∈ lw_tbl := lw_at lw_m5 25 rfl
theorem q1049 : (Jvm.Cond.instanceMethod ({ cls := "ClockWardModel", name := "byteAt", desc := "(I)I" } : Jvm.MethodName)) ∈ lw_all := lw_g (lw_at lw_m5 26 rfl) rfl
theorem q1050 : (Jvm.Cond.code ({ cls := "ClockWardModel", name := "byteAt", desc := "(I)I" } : Jvm.MethodName) prog_11_method_6_code (2 : Nat) (Option.some Jvm.ClassFile.FieldType.int)) ∈ lw_all := lw_g (lw_at lw_m5 27 rfl) rfl
theorem q1051 : (Jvm.Cond.constantLong "ClockWardModel" (76 : Nat) (97 : Int64)) ∈ lw_all := lw_g (lw_at lw_m5 28 rfl) rfl
theorem q1052 : (Jvm.Cond.constantLong "ClockWardModel" (78 : Nat) (122 : Int64)) ∈ lw_all := lw_g (lw_at lw_m5 29 rfl) rfl
theorem q1053 : (Jvm.Cond.constantLong "ClockWardModel" (80 : Nat) (48 : Int64)) ∈ lw_all := lw_g (lw_at lw_m5 30 rfl) rfl
theorem q1054 : (Jvm.Cond.constantLong "ClockWardModel" (82 : Nat) (57 : Int64)) ∈ lw_all := lw_g (lw_at lw_m5 31 rfl) rfl
theorem q1055 : (Jvm.Cond.methodLink "ClockWardModel" (84 : Nat) ({ cls := "ClockWardModel", name := "fails", desc := "(I)V" } : Jvm.MethodName)) ∈ lw_all := lw_g (lw_at lw_m5 32 rfl) rfl
theorem q1056 : (Jvm.Cond.privateMethod ({ cls := "ClockWardModel", name := "fails", desc := "(I)V" } : Jvm.MethodName)) ∈ lw_tbl := lw_at lw_m5 33 rfl
theorem q1057 : (Jvm.Cond.instanceMethod ({ cls := "ClockWardModel", name := "fails", desc := "(I)V" } : Jvm.MethodName)) ∈ lw_all := lw_g (lw_at lw_m5 34 rfl) rfl
theorem q1058 : (Jvm.Cond.code ({ cls := "ClockWardModel", name := "fails", desc := "(I)V" } : Jvm.MethodName) prog_11_method_7_code (2 : Nat) (Option.none : Option Jvm.ClassFile.FieldType)) ∈ lw_all := lw_g (lw_at lw_m5 35 rfl) rfl
theorem q1059 : (Jvm.Cond.methodLink "ClockWardModel" (120 : Nat) ({ cls := "ClockWardModel", name := "readLine", desc := "()V" } : Jvm.MethodName)) ∈ lw_all := lw_g (lw_at lw_m5 36 rfl) rfl
theorem q1060 : (Jvm.Cond.privateMethod ({ cls := "ClockWardModel", name := "readLine", desc := "()V" } : Jvm.MethodName)) ∈ lw_tbl := lw_at lw_m5 37 rfl
theorem q1061 : (Jvm.Cond.instanceMethod ({ cls := "ClockWardModel", name := "readLine", desc := "()V" } : Jvm.MethodName)) ∈ lw_all := lw_g (lw_at lw_m5 38 rfl) rfl
theorem q1062 : (Jvm.Cond.code ({ cls := "ClockWardModel", name := "readLine", desc := "()V" } : Jvm.MethodName) prog_11_method_14_code (2 : Nat) (Option.none : Option Jvm.ClassFile.FieldType)) ∈ lw_all := lw_g (lw_at lw_m5 39 rfl) rfl
theorem q1063 : (Jvm.Cond.methodLink "ClockWardModel" (105 : Nat) ({ cls := "ClockWardModel", name := "nameHere", desc := "()I" } : Jvm.MethodName)) ∈ lw_all := lw_g (lw_at lw_m5 40 rfl) rfl
theorem q1064 : (Jvm.Cond.privateMethod ({ cls := "ClockWardModel", name := "nameHere", desc := "()I" } : Jvm.MethodName)) ∈ lw_tbl := lw_at lw_m5 41 rfl
theorem q1065 : (Jvm.Cond.instanceMethod ({ cls := "ClockWardModel", name := "nameHere", desc := "()I" } : Jvm.MethodName)) ∈ lw_all := lw_g (lw_at lw_m5 42 rfl) rfl
theorem q1066 : (Jvm.Cond.code ({ cls := "ClockWardModel", name := "nameHere", desc := "()I" } : Jvm.MethodName) prog_11_method_8_code (4 : Nat) (Option.some Jvm.ClassFile.FieldType.int)) ∈ lw_all := lw_g (lw_at lw_m5 43 rfl) rfl
theorem q1067 : (Jvm.Cond.constantLong "ClockWardModel" (108 : Nat) (5 : Int64)) ∈ lw_all := lw_g (lw_at lw_m5 44 rfl) rfl
theorem q1068 : (Jvm.Cond.methodLink "ClockWardModel" (114 : Nat) ({ cls := "ClockWardModel", name := "readClock", desc := "(I)V" } : Jvm.MethodName)) ∈ lw_all := lw_g (lw_at lw_m5 45 rfl) rfl
theorem q1069 : (Jvm.Cond.privateMethod ({ cls := "ClockWardModel", name := "readClock", desc := "(I)V" } : Jvm.MethodName)) ∈ lw_tbl := lw_at lw_m5 46 rfl
theorem q1070 : (Jvm.Cond.instanceMethod ({ cls := "ClockWardModel", name := "readClock", desc := "(I)V" } : Jvm.MethodName)) ∈ lw_all := lw_g (lw_at lw_m5 47 rfl) rfl
theorem q1071 : (Jvm.Cond.code ({ cls := "ClockWardModel", name := "readClock", desc := "(I)V" } : Jvm.MethodName) prog_11_method_12_code (2 : Nat) (Option.none : Option Jvm.ClassFile.FieldType)) ∈ lw_all := lw_g (lw_at lw_m5 48 rfl) rfl
theorem q1072 : (Jvm.Cond.methodLink "ClockWardModel" (91 : Nat) ({ cls := "ClockWardModel", name := "number", desc := "(II)I" } : Jvm.MethodName)) ∈ lw_all := lw_g (lw_at lw_m5 49 rfl) rfl
theorem q1073 : (Jvm.Cond.privateMethod ({ cls := "ClockWardModel", name := "number", desc := "(II)I" } : Jvm.MethodName)) ∈ lw_tbl := lw_at lw_m5 50 rfl
theorem q1074 : (Jvm.Cond.instanceMethod ({ cls := "ClockWardModel", name := "number", desc := "(II)I" } : Jvm.MethodName)) ∈ lw_all := lw_g (lw_at lw_m5 51 rfl) rfl
theorem q1075 : (Jvm.Cond.code ({ cls := "ClockWardModel", name := "number", desc := "(II)I" } : Jvm.MethodName) prog_11_method_10_code (4 : Nat) (Option.some Jvm.ClassFile.FieldType.int)) ∈ lw_all := lw_g (lw_at lw_m5 52 rfl) rfl
theorem q1076 : (Jvm.Cond.methodLink "ClockWardModel" (117 : Nat) ({ cls := "ClockWardModel", name := "readGift", desc := "()V" } : Jvm.MethodName)) ∈ lw_all := lw_g (lw_at lw_m5 53 rfl) rfl
theorem q1077 : (Jvm.Cond.privateMethod ({ cls := "ClockWardModel", name := "readGift", desc := "()V" } : Jvm.MethodName)) ∈ lw_tbl := lw_at lw_m5 54 rfl
theorem q1078 : (Jvm.Cond.instanceMethod ({ cls := "ClockWardModel", name := "readGift", desc := "()V" } : Jvm.MethodName)) ∈ lw_all := lw_g (lw_at lw_m5 55 rfl) rfl
theorem q1079 : (Jvm.Cond.code ({ cls := "ClockWardModel", name := "readGift", desc := "()V" } : Jvm.MethodName) prog_11_method_13_code (2 : Nat) (Option.none : Option Jvm.ClassFile.FieldType)) ∈ lw_all := lw_g (lw_at lw_m5 56 rfl) rfl
theorem q1080 : (Jvm.Cond.methodLink "ClockWardModel" (101 : Nat) ({ cls := "ClockWardModel", name := "clockHere", desc := "()I" } : Jvm.MethodName)) ∈ lw_all := lw_g (lw_at lw_m5 57 rfl) rfl
theorem q1081 : (Jvm.Cond.privateMethod ({ cls := "ClockWardModel", name := "clockHere", desc := "()I" } : Jvm.MethodName)) ∈ lw_tbl := lw_at lw_m5 58 rfl
theorem q1082 : (Jvm.Cond.instanceMethod ({ cls := "ClockWardModel", name := "clockHere", desc := "()I" } : Jvm.MethodName)) ∈ lw_all := lw_g (lw_at lw_m5 59 rfl) rfl
theorem q1083 : (Jvm.Cond.code ({ cls := "ClockWardModel", name := "clockHere", desc := "()I" } : Jvm.MethodName) prog_11_method_11_code (2 : Nat) (Option.some Jvm.ClassFile.FieldType.int)) ∈ lw_all := lw_g (lw_at lw_m5 60 rfl) rfl
theorem q1085 : (Jvm.Cond.instanceMethod ({ cls := "ClockWardModel", name := "fault", desc := "()I" } : Jvm.MethodName)) ∈ lw_all := lw_g (lw_at lw_m5 62 rfl) rfl
theorem q1086 : (Jvm.Cond.selects "ClockWardModel" ({ cls := "ClockWardModel", name := "fault", desc := "()I" } : Jvm.MethodName) ({ cls := "ClockWardModel", name := "fault", desc := "()I" } : Jvm.MethodName)) ∈ lw_all := lw_g (lw_at lw_m5 63 rfl) rfl
theorem q1087 : (Jvm.Cond.code ({ cls := "ClockWardModel", name := "fault", desc := "()I" } : Jvm.MethodName) prog_11_method_16_code (1 : Nat) (Option.some Jvm.ClassFile.FieldType.int)) ∈ lw_all := lw_g (lw_at lw_m5 64 rfl) rfl
theorem q1089 : (Jvm.Cond.instanceMethod ({ cls := "ClockWardModel", name := "rule", desc := "(I)I" } : Jvm.MethodName)) ∈ lw_all := lw_g (lw_at lw_m5 66 rfl) rfl
theorem q1090 : (Jvm.Cond.selects "ClockWardModel" ({ cls := "ClockWardModel", name := "rule", desc := "(I)I" } : Jvm.MethodName) ({ cls := "ClockWardModel", name := "rule", desc := "(I)I" } : Jvm.MethodName)) ∈ lw_all := lw_g (lw_at lw_m5 67 rfl) rfl
theorem q1091 : (Jvm.Cond.code ({ cls := "ClockWardModel", name := "rule", desc := "(I)I" } : Jvm.MethodName) prog_11_method_28_code (4 : Nat) (Option.some Jvm.ClassFile.FieldType.int)) ∈ lw_all := lw_g (lw_at lw_m5 68 rfl) rfl
theorem q1092 : (Jvm.Cond.methodLink "ClockWardModel" (150 : Nat) ({ cls := "ClockWardModel", name := "rightOn", desc := "(I)I" } : Jvm.MethodName)) ∈ lw_all := lw_g (lw_at lw_m5 69 rfl) rfl
theorem q1093 : (Jvm.Cond.privateMethod ({ cls := "ClockWardModel", name := "rightOn", desc := "(I)I" } : Jvm.MethodName)) ∈ lw_tbl := lw_at lw_m5 70 rfl
theorem q1094 : (Jvm.Cond.instanceMethod ({ cls := "ClockWardModel", name := "rightOn", desc := "(I)I" } : Jvm.MethodName)) ∈ lw_all := lw_g (lw_at lw_m5 71 rfl) rfl
theorem q1095 : (Jvm.Cond.code ({ cls := "ClockWardModel", name := "rightOn", desc := "(I)I" } : Jvm.MethodName) prog_11_method_22_code (4 : Nat) (Option.some Jvm.ClassFile.FieldType.int)) ∈ lw_all := lw_g (lw_at lw_m5 72 rfl) rfl
theorem q1097 : (Jvm.Cond.instanceMethod ({ cls := "ClockWardModel", name := "clock", desc := "(II)I" } : Jvm.MethodName)) ∈ lw_all := lw_g (lw_at lw_m5 74 rfl) rfl
theorem q1098 : (Jvm.Cond.selects "ClockWardModel" ({ cls := "ClockWardModel", name := "clock", desc := "(II)I" } : Jvm.MethodName) ({ cls := "ClockWardModel", name := "clock", desc := "(II)I" } : Jvm.MethodName)) ∈ lw_all := lw_g (lw_at lw_m5 75 rfl) rfl
theorem q1099 : (Jvm.Cond.code ({ cls := "ClockWardModel", name := "clock", desc := "(II)I" } : Jvm.MethodName) prog_11_method_29_code (3 : Nat) (Option.some Jvm.ClassFile.FieldType.int)) ∈ lw_all := lw_g (lw_at lw_m5 76 rfl) rfl
theorem q1100 : (Jvm.Cond.methodLink "ClockWardModel" (132 : Nat) ({ cls := "ClockWardModel", name := "isClock", desc := "(I)Z" } : Jvm.MethodName)) ∈ lw_all := lw_g (lw_at lw_m5 77 rfl) rfl
theorem q1101 : (Jvm.Cond.privateMethod ({ cls := "ClockWardModel", name := "isClock", desc := "(I)Z" } : Jvm.MethodName)) ∈ lw_tbl := lw_at lw_m5 78 rfl
theorem q1102 : (Jvm.Cond.instanceMethod ({ cls := "ClockWardModel", name := "isClock", desc := "(I)Z" } : Jvm.MethodName)) ∈ lw_all := lw_g (lw_at lw_m5 79 rfl) rfl
theorem q1103 : (Jvm.Cond.code ({ cls := "ClockWardModel", name := "isClock", desc := "(I)Z" } : Jvm.MethodName) prog_11_method_17_code (2 : Nat) (Option.some Jvm.ClassFile.FieldType.boolean)) ∈ lw_all := lw_g (lw_at lw_m5 80 rfl) rfl
theorem q1104 : (Jvm.Cond.constantLong "ClockWardModel" (153 : Nat) (4 : Int64)) ∈ lw_all := lw_g (lw_at lw_m5 81 rfl) rfl
theorem q1105 : (Jvm.Cond.methodLink "ClockWardModel" (139 : Nat) ({ cls := "ClockWardModel", name := "laterOn", desc := "(II)I" } : Jvm.MethodName)) ∈ lw_all := lw_g (lw_at lw_m5 82 rfl) rfl
theorem q1106 : (Jvm.Cond.privateMethod ({ cls := "ClockWardModel", name := "laterOn", desc := "(II)I" } : Jvm.MethodName)) ∈ lw_tbl := lw_at lw_m5 83 rfl
theorem q1107 : (Jvm.Cond.instanceMethod ({ cls := "ClockWardModel", name := "laterOn", desc := "(II)I" } : Jvm.MethodName)) ∈ lw_all := lw_g (lw_at lw_m5 84 rfl) rfl
theorem q1108 : (Jvm.Cond.code ({ cls := "ClockWardModel", name := "laterOn", desc := "(II)I" } : Jvm.MethodName) prog_11_method_20_code (4 : Nat) (Option.some Jvm.ClassFile.FieldType.int)) ∈ lw_all := lw_g (lw_at lw_m5 85 rfl) rfl
theorem q1109 : (Jvm.Cond.methodLink "ClockWardModel" (136 : Nat) ({ cls := "ClockWardModel", name := "gainsOf", desc := "(II)I" } : Jvm.MethodName)) ∈ lw_all := lw_g (lw_at lw_m5 86 rfl) rfl
theorem q1110 : (Jvm.Cond.static ({ cls := "ClockWardModel", name := "gainsOf", desc := "(II)I" } : Jvm.MethodName)) ∈ lw_all := lw_g (lw_at lw_m5 87 rfl) rfl
theorem q1111 : (Jvm.Cond.code ({ cls := "ClockWardModel", name := "gainsOf", desc := "(II)I" } : Jvm.MethodName) prog_11_method_19_code (3 : Nat) (Option.some Jvm.ClassFile.FieldType.int)) ∈ lw_all := lw_g (lw_at lw_m5 88 rfl) rfl
theorem q1113 : (Jvm.Cond.instanceMethod ({ cls := "ClockWardModel", name := "got", desc := "(II)I" } : Jvm.MethodName)) ∈ lw_all := lw_g (lw_at lw_m5 90 rfl) rfl
theorem q1114 : (Jvm.Cond.selects "ClockWardModel" ({ cls := "ClockWardModel", name := "got", desc := "(II)I" } : Jvm.MethodName) ({ cls := "ClockWardModel", name := "got", desc := "(II)I" } : Jvm.MethodName)) ∈ lw_all := lw_g (lw_at lw_m5 91 rfl) rfl
theorem q1115 : (Jvm.Cond.code ({ cls := "ClockWardModel", name := "got", desc := "(II)I" } : Jvm.MethodName) prog_11_method_30_code (3 : Nat) (Option.some Jvm.ClassFile.FieldType.int)) ∈ lw_all := lw_g (lw_at lw_m5 92 rfl) rfl
theorem q1116 : (Jvm.Cond.methodLink "ClockWardModel" (155 : Nat) ({ cls := "ClockWardModel", name := "areTwo", desc := "(II)Z" } : Jvm.MethodName)) ∈ lw_all := lw_g (lw_at lw_m5 93 rfl) rfl
theorem q1117 : (Jvm.Cond.privateMethod ({ cls := "ClockWardModel", name := "areTwo", desc := "(II)Z" } : Jvm.MethodName)) ∈ lw_tbl := lw_at lw_m5 94 rfl
theorem q1118 : (Jvm.Cond.instanceMethod ({ cls := "ClockWardModel", name := "areTwo", desc := "(II)Z" } : Jvm.MethodName)) ∈ lw_all := lw_g (lw_at lw_m5 95 rfl) rfl
theorem q1119 : (Jvm.Cond.code ({ cls := "ClockWardModel", name := "areTwo", desc := "(II)Z" } : Jvm.MethodName) prog_11_method_18_code (3 : Nat) (Option.some Jvm.ClassFile.FieldType.boolean)) ∈ lw_all := lw_g (lw_at lw_m5 96 rfl) rfl
theorem q1121 : (Jvm.Cond.instanceMethod ({ cls := "ClockWardModel", name := "gift", desc := "(II)I" } : Jvm.MethodName)) ∈ lw_all := lw_g (lw_at lw_m5 98 rfl) rfl
theorem q1122 : (Jvm.Cond.selects "ClockWardModel" ({ cls := "ClockWardModel", name := "gift", desc := "(II)I" } : Jvm.MethodName) ({ cls := "ClockWardModel", name := "gift", desc := "(II)I" } : Jvm.MethodName)) ∈ lw_all := lw_g (lw_at lw_m5 99 rfl) rfl
theorem q1123 : (Jvm.Cond.code ({ cls := "ClockWardModel", name := "gift", desc := "(II)I" } : Jvm.MethodName) prog_11_method_31_code (3 : Nat) (Option.some Jvm.ClassFile.FieldType.int)) ∈ lw_all := lw_g (lw_at lw_m5 100 rfl) rfl
theorem q1124 : (Jvm.Cond.constantLong "ClockWardModel" (158 : Nat) (2 : Int64)) ∈ lw_all := lw_g (lw_at lw_m5 101 rfl) rfl
theorem q1126 : (Jvm.Cond.instanceMethod ({ cls := "ClockWardModel", name := "alter", desc := "(III)I" } : Jvm.MethodName)) ∈ lw_all := lw_g (lw_at lw_m5 103 rfl) rfl
theorem q1127 : (Jvm.Cond.selects "ClockWardModel" ({ cls := "ClockWardModel", name := "alter", desc := "(III)I" } : Jvm.MethodName) ({ cls := "ClockWardModel", name := "alter", desc := "(III)I" } : Jvm.MethodName)) ∈ lw_all := lw_g (lw_at lw_m5 104 rfl) rfl
theorem q1128 : (Jvm.Cond.code ({ cls := "ClockWardModel", name := "alter", desc := "(III)I" } : Jvm.MethodName) prog_11_method_33_code (5 : Nat) (Option.some Jvm.ClassFile.FieldType.int)) ∈ lw_all := lw_g (lw_at lw_m5 105 rfl) rfl
theorem q1129 : (Jvm.Cond.constantLong "ClockWardModel" (160 : Nat) (3 : Int64)) ∈ lw_all := lw_g (lw_at lw_m5 106 rfl) rfl
theorem q1130 : (Jvm.Cond.methodLink "ClockWardModel" (162 : Nat) ({ cls := "ClockWardModel", name := "puts", desc := "(ZIII)I" } : Jvm.MethodName)) ∈ lw_all := lw_g (lw_at lw_m5 107 rfl) rfl
theorem q1131 : (Jvm.Cond.privateMethod ({ cls := "ClockWardModel", name := "puts", desc := "(ZIII)I" } : Jvm.MethodName)) ∈ lw_tbl := lw_at lw_m5 108 rfl
theorem q1132 : (Jvm.Cond.instanceMethod ({ cls := "ClockWardModel", name := "puts", desc := "(ZIII)I" } : Jvm.MethodName)) ∈ lw_all := lw_g (lw_at lw_m5 109 rfl) rfl
theorem q1133 : (Jvm.Cond.code ({ cls := "ClockWardModel", name := "puts", desc := "(ZIII)I" } : Jvm.MethodName) prog_11_method_32_code (6 : Nat) (Option.some Jvm.ClassFile.FieldType.int)) ∈ lw_all := lw_g (lw_at lw_m5 110 rfl) rfl
theorem q1135 : (Jvm.Cond.instanceMethod ({ cls := "ClockWardModel", name := "floor", desc := "(I)I" } : Jvm.MethodName)) ∈ lw_all := lw_g (lw_at lw_m5 112 rfl) rfl
theorem q1136 : (Jvm.Cond.selects "ClockWardModel" ({ cls := "ClockWardModel", name := "floor", desc := "(I)I" } : Jvm.MethodName) ({ cls := "ClockWardModel", name := "floor", desc := "(I)I" } : Jvm.MethodName)) ∈ lw_all := lw_g (lw_at lw_m5 113 rfl) rfl
theorem q1137 : (Jvm.Cond.code ({ cls := "ClockWardModel", name := "floor", desc := "(I)I" } : Jvm.MethodName) prog_11_method_34_code (2 : Nat) (Option.some Jvm.ClassFile.FieldType.int)) ∈ lw_all := lw_g (lw_at lw_m5 114 rfl) rfl
theorem q1138 : (Jvm.Cond.constantLong "ClockWardModel" (166 : Nat) (50 : Int64)) ∈ lw_all := lw_g (lw_at lw_m5 115 rfl) rfl
theorem q1140 : (Jvm.Cond.instanceMethod ({ cls := "ClockWardModel", name := "plan", desc := "(III)I" } : Jvm.MethodName)) ∈ lw_all := lw_g (lw_at lw_m5 117 rfl) rfl
theorem q1141 : (Jvm.Cond.selects "ClockWardModel" ({ cls := "ClockWardModel", name := "plan", desc := "(III)I" } : Jvm.MethodName) ({ cls := "ClockWardModel", name := "plan", desc := "(III)I" } : Jvm.MethodName)) ∈ lw_all := lw_g (lw_at lw_m5 118 rfl) rfl
theorem q1142 : (Jvm.Cond.code ({ cls := "ClockWardModel", name := "plan", desc := "(III)I" } : Jvm.MethodName) prog_11_method_35_code (5 : Nat) (Option.some Jvm.ClassFile.FieldType.int)) ∈ lw_all := lw_g (lw_at lw_m5 119 rfl) rfl
theorem q1143 : (Jvm.Cond.constantLong "ClockWardModel" (168 : Nat) (9 : Int64)) ∈ lw_all := lw_g (lw_at lw_m5 120 rfl) rfl
theorem q1145 : (Jvm.Cond.instanceMethod ({ cls := "ClockWardModel", name := "cut", desc := "(I)I" } : Jvm.MethodName)) ∈ lw_all := lw_g (lw_at lw_m5 122 rfl) rfl
theorem q1146 : (Jvm.Cond.selects "ClockWardModel" ({ cls := "ClockWardModel", name := "cut", desc := "(I)I" } : Jvm.MethodName) ({ cls := "ClockWardModel", name := "cut", desc := "(I)I" } : Jvm.MethodName)) ∈ lw_all := lw_g (lw_at lw_m5 123 rfl) rfl
theorem q1147 : (Jvm.Cond.code ({ cls := "ClockWardModel", name := "cut", desc := "(I)I" } : Jvm.MethodName) prog_11_method_36_code (2 : Nat) (Option.some Jvm.ClassFile.FieldType.int)) ∈ lw_all := lw_g (lw_at lw_m5 124 rfl) rfl
theorem q1149 : (Jvm.Cond.instanceMethod ({ cls := "ClockWardModel", name := "most", desc := "(II)I" } : Jvm.MethodName)) ∈ lw_all := lw_g (lw_at lw_m5 126 rfl) rfl
theorem q1150 : (Jvm.Cond.selects "ClockWardModel" ({ cls := "ClockWardModel", name := "most", desc := "(II)I" } : Jvm.MethodName) ({ cls := "ClockWardModel", name := "most", desc := "(II)I" } : Jvm.MethodName)) ∈ lw_all := lw_g (lw_at lw_m5 127 rfl) rfl
theorem q1151 : (Jvm.Cond.code ({ cls := "ClockWardModel", name := "most", desc := "(II)I" } : Jvm.MethodName) prog_11_method_38_code (3 : Nat) (Option.some Jvm.ClassFile.FieldType.int)) ∈ lw_all := lw_g (lw_at lw_m5 128 rfl) rfl
theorem q1152 : (Jvm.Cond.methodLink "ClockWardModel" (174 : Nat) ({ cls := "ClockWardModel", name := "mostOf", desc := "(II)I" } : Jvm.MethodName)) ∈ lw_all := lw_g (lw_at lw_m5 129 rfl) rfl
theorem q1153 : (Jvm.Cond.privateMethod ({ cls := "ClockWardModel", name := "mostOf", desc := "(II)I" } : Jvm.MethodName)) ∈ lw_tbl := lw_at lw_m5 130 rfl
theorem q1154 : (Jvm.Cond.instanceMethod ({ cls := "ClockWardModel", name := "mostOf", desc := "(II)I" } : Jvm.MethodName)) ∈ lw_all := lw_g (lw_at lw_m5 131 rfl) rfl
theorem q1155 : (Jvm.Cond.code ({ cls := "ClockWardModel", name := "mostOf", desc := "(II)I" } : Jvm.MethodName) prog_11_method_37_code (5 : Nat) (Option.some Jvm.ClassFile.FieldType.int)) ∈ lw_all := lw_g (lw_at lw_m5 132 rfl) rfl
theorem q1156 : (Jvm.Cond.methodLink "ClockWardModel" (170 : Nat) ({ cls := "ClockWardModel", name := "mayBe", desc := "(IIII)Z" } : Jvm.MethodName)) ∈ lw_all := lw_g (lw_at lw_m5 133 rfl) rfl
theorem q1157 : (Jvm.Cond.privateMethod ({ cls := "ClockWardModel", name := "mayBe", desc := "(IIII)Z" } : Jvm.MethodName)) ∈ lw_tbl := lw_at lw_m5 134 rfl
theorem q1158 : (Jvm.Cond.instanceMethod ({ cls := "ClockWardModel", name := "mayBe", desc := "(IIII)Z" } : Jvm.MethodName)) ∈ lw_all := lw_g (lw_at lw_m5 135 rfl) rfl
theorem q1159 : (Jvm.Cond.code ({ cls := "ClockWardModel", name := "mayBe", desc := "(IIII)Z" } : Jvm.MethodName) prog_11_method_25_code (6 : Nat) (Option.some Jvm.ClassFile.FieldType.boolean)) ∈ lw_all := lw_g (lw_at lw_m5 136 rfl) rfl
theorem q1160 : (Jvm.Cond.methodLink "ClockWardModel" (142 : Nat) ({ cls := "ClockWardModel", name := "isOneMaker", desc := "(II)Z" } : Jvm.MethodName)) ∈ lw_all := lw_g (lw_at lw_m5 137 rfl) rfl
theorem q1161 : (Jvm.Cond.privateMethod ({ cls := "ClockWardModel", name := "isOneMaker", desc := "(II)Z" } : Jvm.MethodName)) ∈ lw_tbl := lw_at lw_m5 138 rfl
theorem q1162 : (Jvm.Cond.instanceMethod ({ cls := "ClockWardModel", name := "isOneMaker", desc := "(II)Z" } : Jvm.MethodName)) ∈ lw_all := lw_g (lw_at lw_m5 139 rfl) rfl
theorem q1163 : (Jvm.Cond.code ({ cls := "ClockWardModel", name := "isOneMaker", desc := "(II)Z" } : Jvm.MethodName) prog_11_method_23_code (3 : Nat) (Option.some Jvm.ClassFile.FieldType.boolean)) ∈ lw_all := lw_g (lw_at lw_m5 140 rfl) rfl
theorem q1164 : (Jvm.Cond.methodLink "ClockWardModel" (146 : Nat) ({ cls := "ClockWardModel", name := "getsBy", desc := "(III)I" } : Jvm.MethodName)) ∈ lw_all := lw_g (lw_at lw_m5 141 rfl) rfl
theorem q1165 : (Jvm.Cond.privateMethod ({ cls := "ClockWardModel", name := "getsBy", desc := "(III)I" } : Jvm.MethodName)) ∈ lw_tbl := lw_at lw_m5 142 rfl
theorem q1166 : (Jvm.Cond.instanceMethod ({ cls := "ClockWardModel", name := "getsBy", desc := "(III)I" } : Jvm.MethodName)) ∈ lw_all := lw_g (lw_at lw_m5 143 rfl) rfl
theorem q1167 : (Jvm.Cond.code ({ cls := "ClockWardModel", name := "getsBy", desc := "(III)I" } : Jvm.MethodName) prog_11_method_24_code (4 : Nat) (Option.some Jvm.ClassFile.FieldType.int)) ∈ lw_all := lw_g (lw_at lw_m5 144 rfl) rfl
theorem q1169 : (Jvm.Cond.instanceMethod ({ cls := "ClockWardModel", name := "give", desc := "(III)I" } : Jvm.MethodName)) ∈ lw_all := lw_g (lw_at lw_m5 146 rfl) rfl
theorem q1170 : (Jvm.Cond.selects "ClockWardModel" ({ cls := "ClockWardModel", name := "give", desc := "(III)I" } : Jvm.MethodName) ({ cls := "ClockWardModel", name := "give", desc := "(III)I" } : Jvm.MethodName)) ∈ lw_all := lw_g (lw_at lw_m5 147 rfl) rfl
theorem q1171 : (Jvm.Cond.code ({ cls := "ClockWardModel", name := "give", desc := "(III)I" } : Jvm.MethodName) prog_11_method_40_code (4 : Nat) (Option.some Jvm.ClassFile.FieldType.int)) ∈ lw_all := lw_g (lw_at lw_m5 148 rfl) rfl
theorem q1172 : (Jvm.Cond.methodLink "ClockWardModel" (181 : Nat) ({ cls := "ClockWardModel", name := "gives", desc := "(III)I" } : Jvm.MethodName)) ∈ lw_all := lw_g (lw_at lw_m5 149 rfl) rfl
theorem q1173 : (Jvm.Cond.privateMethod ({ cls := "ClockWardModel", name := "gives", desc := "(III)I" } : Jvm.MethodName)) ∈ lw_tbl := lw_at lw_m5 150 rfl
theorem q1174 : (Jvm.Cond.instanceMethod ({ cls := "ClockWardModel", name := "gives", desc := "(III)I" } : Jvm.MethodName)) ∈ lw_all := lw_g (lw_at lw_m5 151 rfl) rfl
theorem q1175 : (Jvm.Cond.code ({ cls := "ClockWardModel", name := "gives", desc := "(III)I" } : Jvm.MethodName) prog_11_method_39_code (4 : Nat) (Option.some Jvm.ClassFile.FieldType.int)) ∈ lw_all := lw_g (lw_at lw_m5 152 rfl) rfl
theorem q1176 : (Jvm.Cond.methodLink "ClockWardModel" (177 : Nat) ({ cls := "ClockWardModel", name := "givesOn", desc := "(IIII)V" } : Jvm.MethodName)) ∈ lw_all := lw_g (lw_at lw_m5 153 rfl) rfl
theorem q1177 : (Jvm.Cond.privateMethod ({ cls := "ClockWardModel", name := "givesOn", desc := "(IIII)V" } : Jvm.MethodName)) ∈ lw_tbl := lw_at lw_m5 154 rfl
theorem q1178 : (Jvm.Cond.instanceMethod ({ cls := "ClockWardModel", name := "givesOn", desc := "(IIII)V" } : Jvm.MethodName)) ∈ lw_all := lw_g (lw_at lw_m5 155 rfl) rfl
theorem q1179 : (Jvm.Cond.code ({ cls := "ClockWardModel", name := "givesOn", desc := "(IIII)V" } : Jvm.MethodName) prog_11_method_26_code (6 : Nat) (Option.none : Option Jvm.ClassFile.FieldType)) ∈ lw_all := lw_g (lw_at lw_m5 156 rfl) rfl
theorem q1181 : (Jvm.Cond.instanceMethod ({ cls := "ClockWardModel", name := "nights", desc := "(I)I" } : Jvm.MethodName)) ∈ lw_all := lw_g (lw_at lw_m5 158 rfl) rfl
theorem q1182 : (Jvm.Cond.selects "ClockWardModel" ({ cls := "ClockWardModel", name := "nights", desc := "(I)I" } : Jvm.MethodName) ({ cls := "ClockWardModel", name := "nights", desc := "(I)I" } : Jvm.MethodName)) ∈ lw_all := lw_g (lw_at lw_m5 159 rfl) rfl
theorem q1183 : (Jvm.Cond.code ({ cls := "ClockWardModel", name := "nights", desc := "(I)I" } : Jvm.MethodName) prog_11_method_41_code (3 : Nat) (Option.some Jvm.ClassFile.FieldType.int)) ∈ lw_all := lw_g (lw_at lw_m5 160 rfl) rfl
theorem q1184 : (Jvm.Cond.constantLong "ClockWardModel" (184 : Nat) (30 : Int64)) ∈ lw_all := lw_g (lw_at lw_m5 161 rfl) rfl
theorem q1185 : (Jvm.Cond.methodLink "ClockWardModel" (186 : Nat) ({ cls := "ClockWardModel", name := "nightOn", desc := "(I)V" } : Jvm.MethodName)) ∈ lw_all := lw_g (lw_at lw_m5 162 rfl) rfl
theorem q1186 : (Jvm.Cond.privateMethod ({ cls := "ClockWardModel", name := "nightOn", desc := "(I)V" } : Jvm.MethodName)) ∈ lw_tbl := lw_at lw_m5 163 rfl
theorem q1187 : (Jvm.Cond.instanceMethod ({ cls := "ClockWardModel", name := "nightOn", desc := "(I)V" } : Jvm.MethodName)) ∈ lw_all := lw_g (lw_at lw_m5 164 rfl) rfl
theorem q1188 : (Jvm.Cond.code ({ cls := "ClockWardModel", name := "nightOn", desc := "(I)V" } : Jvm.MethodName) prog_11_method_21_code (3 : Nat) (Option.none : Option Jvm.ClassFile.FieldType)) ∈ lw_all := lw_g (lw_at lw_m5 165 rfl) rfl
theorem q1190 : (Jvm.Cond.instanceMethod ({ cls := "ClockWardModel", name := "runs", desc := "(I)I" } : Jvm.MethodName)) ∈ lw_all := lw_g (lw_at lw_m5 167 rfl) rfl
theorem q1191 : (Jvm.Cond.selects "ClockWardModel" ({ cls := "ClockWardModel", name := "runs", desc := "(I)I" } : Jvm.MethodName) ({ cls := "ClockWardModel", name := "runs", desc := "(I)I" } : Jvm.MethodName)) ∈ lw_all := lw_g (lw_at lw_m5 168 rfl) rfl
theorem q1192 : (Jvm.Cond.code ({ cls := "ClockWardModel", name := "runs", desc := "(I)I" } : Jvm.MethodName) prog_11_method_44_code (2 : Nat) (Option.some Jvm.ClassFile.FieldType.int)) ∈ lw_all := lw_g (lw_at lw_m5 169 rfl) rfl
theorem q1193 : (Jvm.Cond.methodLink "ClockWardModel" (199 : Nat) ({ cls := "ClockWardModel", name := "planGoes", desc := "(I)V" } : Jvm.MethodName)) ∈ lw_all := lw_g (lw_at lw_m5 170 rfl) rfl
theorem q1194 : (Jvm.Cond.privateMethod ({ cls := "ClockWardModel", name := "planGoes", desc := "(I)V" } : Jvm.MethodName)) ∈ lw_tbl := lw_at lw_m5 171 rfl
theorem q1195 : (Jvm.Cond.instanceMethod ({ cls := "ClockWardModel", name := "planGoes", desc := "(I)V" } : Jvm.MethodName)) ∈ lw_all := lw_g (lw_at lw_m5 172 rfl) rfl
theorem q1196 : (Jvm.Cond.code ({ cls := "ClockWardModel", name := "planGoes", desc := "(I)V" } : Jvm.MethodName) prog_11_method_43_code (4 : Nat) (Option.none : Option Jvm.ClassFile.FieldType)) ∈ lw_all := lw_g (lw_at lw_m5 173 rfl) rfl
theorem q1197 : (Jvm.Cond.methodLink "ClockWardModel" (189 : Nat) ({ cls := "ClockWardModel", name := "copies", desc := "(II)V" } : Jvm.MethodName)) ∈ lw_all := lw_g (lw_at lw_m5 174 rfl) rfl
theorem q1198 : (Jvm.Cond.privateMethod ({ cls := "ClockWardModel", name := "copies", desc := "(II)V" } : Jvm.MethodName)) ∈ lw_tbl := lw_at lw_m5 175 rfl
theorem q1199 : (Jvm.Cond.instanceMethod ({ cls := "ClockWardModel", name := "copies", desc := "(II)V" } : Jvm.MethodName)) ∈ lw_all := lw_g (lw_at lw_m5 176 rfl) rfl
theorem q1200 : (Jvm.Cond.code ({ cls := "ClockWardModel", name := "copies", desc := "(II)V" } : Jvm.MethodName) prog_11_method_42_code (4 : Nat) (Option.none : Option Jvm.ClassFile.FieldType)) ∈ lw_all := lw_g (lw_at lw_m5 177 rfl) rfl
theorem q1202 : (Jvm.Cond.instanceMethod ({ cls := "ClockWardModel", name := "ahead", desc := "(I)I" } : Jvm.MethodName)) ∈ lw_all := lw_g (lw_at lw_m5 179 rfl) rfl
theorem q1203 : (Jvm.Cond.selects "ClockWardModel" ({ cls := "ClockWardModel", name := "ahead", desc := "(I)I" } : Jvm.MethodName) ({ cls := "ClockWardModel", name := "ahead", desc := "(I)I" } : Jvm.MethodName)) ∈ lw_all := lw_g (lw_at lw_m5 180 rfl) rfl
theorem q1204 : (Jvm.Cond.code ({ cls := "ClockWardModel", name := "ahead", desc := "(I)I" } : Jvm.MethodName) prog_11_method_45_code (2 : Nat) (Option.some Jvm.ClassFile.FieldType.int)) ∈ lw_all := lw_g (lw_at lw_m5 181 rfl) rfl
theorem q1206 : (Jvm.Cond.instanceMethod ({ cls := "ClockWardModel", name := "later", desc := "(II)I" } : Jvm.MethodName)) ∈ lw_all := lw_g (lw_at lw_m5 183 rfl) rfl
theorem q1207 : (Jvm.Cond.selects "ClockWardModel" ({ cls := "ClockWardModel", name := "later", desc := "(II)I" } : Jvm.MethodName) ({ cls := "ClockWardModel", name := "later", desc := "(II)I" } : Jvm.MethodName)) ∈ lw_all := lw_g (lw_at lw_m5 184 rfl) rfl
theorem q1208 : (Jvm.Cond.code ({ cls := "ClockWardModel", name := "later", desc := "(II)I" } : Jvm.MethodName) prog_11_method_46_code (4 : Nat) (Option.some Jvm.ClassFile.FieldType.int)) ∈ lw_all := lw_g (lw_at lw_m5 185 rfl) rfl
theorem q1209 : (Jvm.Cond.constantLong "ClockWardModel" (202 : Nat) (60 : Int64)) ∈ lw_all := lw_g (lw_at lw_m5 186 rfl) rfl
theorem q1211 : (Jvm.Cond.instanceMethod ({ cls := "ClockWardModel", name := "when", desc := "(I)I" } : Jvm.MethodName)) ∈ lw_all := lw_g (lw_at lw_m5 188 rfl) rfl
theorem q1212 : (Jvm.Cond.selects "ClockWardModel" ({ cls := "ClockWardModel", name := "when", desc := "(I)I" } : Jvm.MethodName) ({ cls := "ClockWardModel", name := "when", desc := "(I)I" } : Jvm.MethodName)) ∈ lw_all := lw_g (lw_at lw_m5 189 rfl) rfl
theorem q1213 : (Jvm.Cond.code ({ cls := "ClockWardModel", name := "when", desc := "(I)I" } : Jvm.MethodName) prog_11_method_47_code (3 : Nat) (Option.some Jvm.ClassFile.FieldType.int)) ∈ lw_all := lw_g (lw_at lw_m5 190 rfl) rfl
theorem q1215 : (Jvm.Cond.instanceMethod ({ cls := "ClockWardModel", name := "together", desc := "(I)I" } : Jvm.MethodName)) ∈ lw_all := lw_g (lw_at lw_m5 192 rfl) rfl
theorem q1216 : (Jvm.Cond.selects "ClockWardModel" ({ cls := "ClockWardModel", name := "together", desc := "(I)I" } : Jvm.MethodName) ({ cls := "ClockWardModel", name := "together", desc := "(I)I" } : Jvm.MethodName)) ∈ lw_all := lw_g (lw_at lw_m5 193 rfl) rfl
theorem q1217 : (Jvm.Cond.code ({ cls := "ClockWardModel", name := "together", desc := "(I)I" } : Jvm.MethodName) prog_11_method_48_code (6 : Nat) (Option.some Jvm.ClassFile.FieldType.int)) ∈ lw_all := lw_g (lw_at lw_m5 194 rfl) rfl
theorem q1218 : (Jvm.Cond.methodLink "ClockWardModel" (204 : Nat) ({ cls := "ClockWardModel", name := "bitsOf", desc := "(I)I" } : Jvm.MethodName)) ∈ lw_all := lw_g (lw_at lw_m5 195 rfl) rfl
theorem q1219 : (Jvm.Cond.static ({ cls := "ClockWardModel", name := "bitsOf", desc := "(I)I" } : Jvm.MethodName)) ∈ lw_all := lw_g (lw_at lw_m5 196 rfl) rfl
theorem q1220 : (Jvm.Cond.code ({ cls := "ClockWardModel", name := "bitsOf", desc := "(I)I" } : Jvm.MethodName) prog_11_method_27_code (3 : Nat) (Option.some Jvm.ClassFile.FieldType.int)) ∈ lw_all := lw_g (lw_at lw_m5 197 rfl) rfl
theorem q1222 : (Jvm.Cond.instanceMethod ({ cls := "ClockWardModel", name := "donor", desc := "(II)I" } : Jvm.MethodName)) ∈ lw_all := lw_g (lw_at lw_m5 199 rfl) rfl
theorem q1223 : (Jvm.Cond.selects "ClockWardModel" ({ cls := "ClockWardModel", name := "donor", desc := "(II)I" } : Jvm.MethodName) ({ cls := "ClockWardModel", name := "donor", desc := "(II)I" } : Jvm.MethodName)) ∈ lw_all := lw_g (lw_at lw_m5 200 rfl) rfl
theorem q1224 : (Jvm.Cond.code ({ cls := "ClockWardModel", name := "donor", desc := "(II)I" } : Jvm.MethodName) prog_11_method_49_code (7 : Nat) (Option.some Jvm.ClassFile.FieldType.int)) ∈ lw_all := lw_g (lw_at lw_m5 201 rfl) rfl
theorem q1226 : (Jvm.Cond.instanceMethod ({ cls := "ClockWardModel", name := "best", desc := "(II)I" } : Jvm.MethodName)) ∈ lw_all := lw_g (lw_at lw_m5 203 rfl) rfl
theorem q1227 : (Jvm.Cond.selects "ClockWardModel" ({ cls := "ClockWardModel", name := "best", desc := "(II)I" } : Jvm.MethodName) ({ cls := "ClockWardModel", name := "best", desc := "(II)I" } : Jvm.MethodName)) ∈ lw_all := lw_g (lw_at lw_m5 204 rfl) rfl
theorem q1228 : (Jvm.Cond.code ({ cls := "ClockWardModel", name := "best", desc := "(II)I" } : Jvm.MethodName) prog_11_method_53_code (4 : Nat) (Option.some Jvm.ClassFile.FieldType.int)) ∈ lw_all := lw_g (lw_at lw_m5 205 rfl) rfl
theorem q1229 : (Jvm.Cond.constantLong "ClockWardModel" (229 : Nat) (10 : Int64)) ∈ lw_all := lw_g (lw_at lw_m5 206 rfl) rfl
theorem q1230 : (Jvm.Cond.constantLong "ClockWardModel" (231 : Nat) (11 : Int64)) ∈ lw_all := lw_g (lw_at lw_m5 207 rfl) rfl
theorem q1231 : (Jvm.Cond.methodLink "ClockWardModel" (225 : Nat) ({ cls := "ClockWardModel", name := "compares", desc := "(III)V" } : Jvm.MethodName)) ∈ lw_all := lw_g (lw_at lw_m5 208 rfl) rfl
theorem q1232 : (Jvm.Cond.privateMethod ({ cls := "ClockWardModel", name := "compares", desc := "(III)V" } : Jvm.MethodName)) ∈ lw_tbl := lw_at lw_m5 209 rfl
theorem q1233 : (Jvm.Cond.instanceMethod ({ cls := "ClockWardModel", name := "compares", desc := "(III)V" } : Jvm.MethodName)) ∈ lw_all := lw_g (lw_at lw_m5 210 rfl) rfl
theorem q1234 : (Jvm.Cond.code ({ cls := "ClockWardModel", name := "compares", desc := "(III)V" } : Jvm.MethodName) prog_11_method_51_code (7 : Nat) (Option.none : Option Jvm.ClassFile.FieldType)) ∈ lw_all := lw_g (lw_at lw_m5 211 rfl) rfl
theorem q1235 : (Jvm.Cond.methodLink "ClockWardModel" (233 : Nat) ({ cls := "ClockWardModel", name := "rowsOf", desc := "(I)V" } : Jvm.MethodName)) ∈ lw_all := lw_g (lw_at lw_m5 212 rfl) rfl
theorem q1236 : (Jvm.Cond.privateMethod ({ cls := "ClockWardModel", name := "rowsOf", desc := "(I)V" } : Jvm.MethodName)) ∈ lw_tbl := lw_at lw_m5 213 rfl
theorem q1237 : (Jvm.Cond.instanceMethod ({ cls := "ClockWardModel", name := "rowsOf", desc := "(I)V" } : Jvm.MethodName)) ∈ lw_all := lw_g (lw_at lw_m5 214 rfl) rfl
theorem q1238 : (Jvm.Cond.code ({ cls := "ClockWardModel", name := "rowsOf", desc := "(I)V" } : Jvm.MethodName) prog_11_method_52_code (4 : Nat) (Option.none : Option Jvm.ClassFile.FieldType)) ∈ lw_all := lw_g (lw_at lw_m5 215 rfl) rfl
theorem q1239 : (Jvm.Cond.methodLink "ClockWardModel" (222 : Nat) ({ cls := "ClockWardModel", name := "givesBy", desc := "(II)Z" } : Jvm.MethodName)) ∈ lw_all := lw_g (lw_at lw_m5 216 rfl) rfl
theorem q1240 : (Jvm.Cond.privateMethod ({ cls := "ClockWardModel", name := "givesBy", desc := "(II)Z" } : Jvm.MethodName)) ∈ lw_tbl := lw_at lw_m5 217 rfl
theorem q1241 : (Jvm.Cond.instanceMethod ({ cls := "ClockWardModel", name := "givesBy", desc := "(II)Z" } : Jvm.MethodName)) ∈ lw_all := lw_g (lw_at lw_m5 218 rfl) rfl
theorem q1242 : (Jvm.Cond.code ({ cls := "ClockWardModel", name := "givesBy", desc := "(II)Z" } : Jvm.MethodName) prog_11_method_50_code (7 : Nat) (Option.some Jvm.ClassFile.FieldType.boolean)) ∈ lw_all := lw_g (lw_at lw_m5 219 rfl) rfl
theorem q1244 : (Jvm.Cond.instanceMethod ({ cls := "ClockWardModel", name := "cure", desc := "(II)I" } : Jvm.MethodName)) ∈ lw_all := lw_g (lw_at lw_m5 221 rfl) rfl
theorem q1245 : (Jvm.Cond.selects "ClockWardModel" ({ cls := "ClockWardModel", name := "cure", desc := "(II)I" } : Jvm.MethodName) ({ cls := "ClockWardModel", name := "cure", desc := "(II)I" } : Jvm.MethodName)) ∈ lw_all := lw_g (lw_at lw_m5 222 rfl) rfl
theorem q1246 : (Jvm.Cond.code ({ cls := "ClockWardModel", name := "cure", desc := "(II)I" } : Jvm.MethodName) prog_11_method_55_code (4 : Nat) (Option.some Jvm.ClassFile.FieldType.int)) ∈ lw_all := lw_g (lw_at lw_m5 223 rfl) rfl
theorem q1247 : (Jvm.Cond.methodLink "ClockWardModel" (236 : Nat) ({ cls := "ClockWardModel", name := "isCured", desc := "(II)Z" } : Jvm.MethodName)) ∈ lw_all := lw_g (lw_at lw_m5 224 rfl) rfl
theorem q1248 : (Jvm.Cond.privateMethod ({ cls := "ClockWardModel", name := "isCured", desc := "(II)Z" } : Jvm.MethodName)) ∈ lw_tbl := lw_at lw_m5 225 rfl
theorem q1249 : (Jvm.Cond.instanceMethod ({ cls := "ClockWardModel", name := "isCured", desc := "(II)Z" } : Jvm.MethodName)) ∈ lw_all := lw_g (lw_at lw_m5 226 rfl) rfl
theorem q1250 : (Jvm.Cond.code ({ cls := "ClockWardModel", name := "isCured", desc := "(II)Z" } : Jvm.MethodName) prog_11_method_54_code (5 : Nat) (Option.some Jvm.ClassFile.FieldType.boolean)) ∈ lw_all := lw_g (lw_at lw_m5 227 rfl) rfl
theorem q1252 : (Jvm.Cond.instanceMethod ({ cls := "ClockWardModel", name := "leave", desc := "(I)I" } : Jvm.MethodName)) ∈ lw_all := lw_g (lw_at lw_m5 229 rfl) rfl
theorem q1253 : (Jvm.Cond.selects "ClockWardModel" ({ cls := "ClockWardModel", name := "leave", desc := "(I)I" } : Jvm.MethodName) ({ cls := "ClockWardModel", name := "leave", desc := "(I)I" } : Jvm.MethodName)) ∈ lw_all := lw_g (lw_at lw_m5 230 rfl) rfl
theorem q1254 : (Jvm.Cond.code ({ cls := "ClockWardModel", name := "leave", desc := "(I)I" } : Jvm.MethodName) prog_11_method_56_code (6 : Nat) (Option.some Jvm.ClassFile.FieldType.int)) ∈ lw_all := lw_g (lw_at lw_m5 231 rfl) rfl
theorem q1256 : (Jvm.Cond.instanceMethod ({ cls := "ClockWardModel", name := "luck", desc := "(III)J" } : Jvm.MethodName)) ∈ lw_all := lw_g (lw_at lw_m5 233 rfl) rfl
theorem q1257 : (Jvm.Cond.selects "ClockWardModel" ({ cls := "ClockWardModel", name := "luck", desc := "(III)J" } : Jvm.MethodName) ({ cls := "ClockWardModel", name := "luck", desc := "(III)J" } : Jvm.MethodName)) ∈ lw_all := lw_g (lw_at lw_m5 234 rfl) rfl
theorem q1258 : (Jvm.Cond.code ({ cls := "ClockWardModel", name := "luck", desc := "(III)J" } : Jvm.MethodName) prog_11_method_59_code (4 : Nat) (Option.some Jvm.ClassFile.FieldType.long)) ∈ lw_all := lw_g (lw_at lw_m5 235 rfl) rfl
theorem q1259 : (Jvm.Cond.methodLink "ClockWardModel" (243 : Nat) ({ cls := "ClockWardModel", name := "byRejected", desc := "(III)J" } : Jvm.MethodName)) ∈ lw_all := lw_g (lw_at lw_m5 236 rfl) rfl
theorem q1260 : (Jvm.Cond.privateMethod ({ cls := "ClockWardModel", name := "byRejected", desc := "(III)J" } : Jvm.MethodName)) ∈ lw_tbl := lw_at lw_m5 237 rfl
theorem q1261 : (Jvm.Cond.instanceMethod ({ cls := "ClockWardModel", name := "byRejected", desc := "(III)J" } : Jvm.MethodName)) ∈ lw_all := lw_g (lw_at lw_m5 238 rfl) rfl
theorem q1262 : (Jvm.Cond.code ({ cls := "ClockWardModel", name := "byRejected", desc := "(III)J" } : Jvm.MethodName) prog_11_method_58_code (13 : Nat) (Option.some Jvm.ClassFile.FieldType.long)) ∈ lw_all := lw_g (lw_at lw_m5 239 rfl) rfl
theorem q1263 : (Jvm.Cond.methodLink "ClockWardModel" (239 : Nat) ({ cls := "ClockWardModel", name := "lowest", desc := "(JJI)J" } : Jvm.MethodName)) ∈ lw_all := lw_g (lw_at lw_m6 0 rfl) rfl
theorem q1264 : (Jvm.Cond.static ({ cls := "ClockWardModel", name := "lowest", desc := "(JJI)J" } : Jvm.MethodName)) ∈ lw_all := lw_g (lw_at lw_m6 1 rfl) rfl
theorem q1265 : (Jvm.Cond.code ({ cls := "ClockWardModel", name := "lowest", desc := "(JJI)J" } : Jvm.MethodName) prog_11_method_57_code (11 : Nat) (Option.some Jvm.ClassFile.FieldType.long)) ∈ lw_all := lw_g (lw_at lw_m6 2 rfl) rfl
theorem q1266 : (Jvm.Cond.constantLong "ClockWardModel" (247 : Nat) (-1 : Int64)) ∈ lw_all := lw_g (lw_at lw_m6 3 rfl) rfl
theorem q1268 : (Jvm.Cond.instanceMethod ({ cls := "ClockWardModel", name := "mean", desc := "(II)J" } : Jvm.MethodName)) ∈ lw_all := lw_g (lw_at lw_m6 5 rfl) rfl
theorem q1269 : (Jvm.Cond.selects "ClockWardModel" ({ cls := "ClockWardModel", name := "mean", desc := "(II)J" } : Jvm.MethodName) ({ cls := "ClockWardModel", name := "mean", desc := "(II)J" } : Jvm.MethodName)) ∈ lw_all := lw_g (lw_at lw_m6 6 rfl) rfl
theorem q1270 : (Jvm.Cond.code ({ cls := "ClockWardModel", name := "mean", desc := "(II)J" } : Jvm.MethodName) prog_11_method_60_code (3 : Nat) (Option.some Jvm.ClassFile.FieldType.long)) ∈ lw_all := lw_g (lw_at lw_m6 7 rfl) rfl
theorem q1272 : (Jvm.Cond.instanceMethod ({ cls := "ClockWardModel", name := "see", desc := "(III)I" } : Jvm.MethodName)) ∈ lw_all := lw_g (lw_at lw_m6 9 rfl) rfl
theorem q1273 : (Jvm.Cond.selects "ClockWardModel" ({ cls := "ClockWardModel", name := "see", desc := "(III)I" } : Jvm.MethodName) ({ cls := "ClockWardModel", name := "see", desc := "(III)I" } : Jvm.MethodName)) ∈ lw_all := lw_g (lw_at lw_m6 10 rfl) rfl
theorem q1274 : (Jvm.Cond.code ({ cls := "ClockWardModel", name := "see", desc := "(III)I" } : Jvm.MethodName) prog_11_method_61_code (4 : Nat) (Option.some Jvm.ClassFile.FieldType.int)) ∈ lw_all := lw_g (lw_at lw_m6 11 rfl) rfl
theorem q1275 : (Jvm.Cond.constantLong "ClockWardModel" (249 : Nat) (20 : Int64)) ∈ lw_all := lw_g (lw_at lw_m6 12 rfl) rfl
theorem q1276 : (Jvm.Cond.constantLong "ClockWardModel" (251 : Nat) (99 : Int64)) ∈ lw_all := lw_g (lw_at lw_m6 13 rfl) rfl
theorem q1278 : (Jvm.Cond.instanceMethod ({ cls := "ClockWardModel", name := "forget", desc := "(I)I" } : Jvm.MethodName)) ∈ lw_all := lw_g (lw_at lw_m6 15 rfl) rfl
theorem q1279 : (Jvm.Cond.selects "ClockWardModel" ({ cls := "ClockWardModel", name := "forget", desc := "(I)I" } : Jvm.MethodName) ({ cls := "ClockWardModel", name := "forget", desc := "(I)I" } : Jvm.MethodName)) ∈ lw_all := lw_g (lw_at lw_m6 16 rfl) rfl
theorem q1280 : (Jvm.Cond.code ({ cls := "ClockWardModel", name := "forget", desc := "(I)I" } : Jvm.MethodName) prog_11_method_62_code (3 : Nat) (Option.some Jvm.ClassFile.FieldType.int)) ∈ lw_all := lw_g (lw_at lw_m6 17 rfl) rfl
theorem q1282 : (Jvm.Cond.instanceMethod ({ cls := "ClockWardModel", name := "kinds", desc := "(I)I" } : Jvm.MethodName)) ∈ lw_all := lw_g (lw_at lw_m6 19 rfl) rfl
theorem q1283 : (Jvm.Cond.selects "ClockWardModel" ({ cls := "ClockWardModel", name := "kinds", desc := "(I)I" } : Jvm.MethodName) ({ cls := "ClockWardModel", name := "kinds", desc := "(I)I" } : Jvm.MethodName)) ∈ lw_all := lw_g (lw_at lw_m6 20 rfl) rfl
theorem q1284 : (Jvm.Cond.code ({ cls := "ClockWardModel", name := "kinds", desc := "(I)I" } : Jvm.MethodName) prog_11_method_64_code (5 : Nat) (Option.some Jvm.ClassFile.FieldType.int)) ∈ lw_all := lw_g (lw_at lw_m6 21 rfl) rfl
theorem q1285 : (Jvm.Cond.methodLink "ClockWardModel" (253 : Nat) ({ cls := "ClockWardModel", name := "isAsSeen", desc := "(II)Z" } : Jvm.MethodName)) ∈ lw_all := lw_g (lw_at lw_m6 22 rfl) rfl
theorem q1286 : (Jvm.Cond.privateMethod ({ cls := "ClockWardModel", name := "isAsSeen", desc := "(II)Z" } : Jvm.MethodName)) ∈ lw_tbl := lw_at lw_m6 23 rfl
theorem q1287 : (Jvm.Cond.instanceMethod ({ cls := "ClockWardModel", name := "isAsSeen", desc := "(II)Z" } : Jvm.MethodName)) ∈ lw_all := lw_g (lw_at lw_m6 24 rfl) rfl
theorem q1288 : (Jvm.Cond.code ({ cls := "ClockWardModel", name := "isAsSeen", desc := "(II)Z" } : Jvm.MethodName) prog_11_method_63_code (6 : Nat) (Option.some Jvm.ClassFile.FieldType.boolean)) ∈ lw_all := lw_g (lw_at lw_m6 25 rfl) rfl
theorem q1290 : (Jvm.Cond.instanceMethod ({ cls := "ClockWardModel", name := "rates", desc := "(I)I" } : Jvm.MethodName)) ∈ lw_all := lw_g (lw_at lw_m6 27 rfl) rfl
theorem q1291 : (Jvm.Cond.selects "ClockWardModel" ({ cls := "ClockWardModel", name := "rates", desc := "(I)I" } : Jvm.MethodName) ({ cls := "ClockWardModel", name := "rates", desc := "(I)I" } : Jvm.MethodName)) ∈ lw_all := lw_g (lw_at lw_m6 28 rfl) rfl
theorem q1292 : (Jvm.Cond.code ({ cls := "ClockWardModel", name := "rates", desc := "(I)I" } : Jvm.MethodName) prog_11_method_66_code (2 : Nat) (Option.some Jvm.ClassFile.FieldType.int)) ∈ lw_all := lw_g (lw_at lw_m6 29 rfl) rfl
theorem q1293 : (Jvm.Cond.methodLink "ClockWardModel" (256 : Nat) ({ cls := "ClockWardModel", name := "ratesOf", desc := "(I)I" } : Jvm.MethodName)) ∈ lw_all := lw_g (lw_at lw_m6 30 rfl) rfl
theorem q1294 : (Jvm.Cond.privateMethod ({ cls := "ClockWardModel", name := "ratesOf", desc := "(I)I" } : Jvm.MethodName)) ∈ lw_tbl := lw_at lw_m6 31 rfl
theorem q1295 : (Jvm.Cond.instanceMethod ({ cls := "ClockWardModel", name := "ratesOf", desc := "(I)I" } : Jvm.MethodName)) ∈ lw_all := lw_g (lw_at lw_m6 32 rfl) rfl
theorem q1296 : (Jvm.Cond.code ({ cls := "ClockWardModel", name := "ratesOf", desc := "(I)I" } : Jvm.MethodName) prog_11_method_65_code (5 : Nat) (Option.some Jvm.ClassFile.FieldType.int)) ∈ lw_all := lw_g (lw_at lw_m6 33 rfl) rfl
theorem q1298 : (Jvm.Cond.instanceMethod ({ cls := "ClockWardModel", name := "look", desc := "(II)I" } : Jvm.MethodName)) ∈ lw_all := lw_g (lw_at lw_m6 35 rfl) rfl
theorem q1299 : (Jvm.Cond.selects "ClockWardModel" ({ cls := "ClockWardModel", name := "look", desc := "(II)I" } : Jvm.MethodName) ({ cls := "ClockWardModel", name := "look", desc := "(II)I" } : Jvm.MethodName)) ∈ lw_all := lw_g (lw_at lw_m6 36 rfl) rfl
theorem q1300 : (Jvm.Cond.code ({ cls := "ClockWardModel", name := "look", desc := "(II)I" } : Jvm.MethodName) prog_11_method_67_code (11 : Nat) (Option.some Jvm.ClassFile.FieldType.int)) ∈ lw_all := lw_g (lw_at lw_m6 37 rfl) rfl
theorem q1302 : (Jvm.Cond.instanceMethod ({ cls := "ClockWardModel", name := "drift", desc := "(III)I" } : Jvm.MethodName)) ∈ lw_all := lw_g (lw_at lw_m6 39 rfl) rfl
theorem q1303 : (Jvm.Cond.selects "ClockWardModel" ({ cls := "ClockWardModel", name := "drift", desc := "(III)I" } : Jvm.MethodName) ({ cls := "ClockWardModel", name := "drift", desc := "(III)I" } : Jvm.MethodName)) ∈ lw_all := lw_g (lw_at lw_m6 40 rfl) rfl
theorem q1304 : (Jvm.Cond.code ({ cls := "ClockWardModel", name := "drift", desc := "(III)I" } : Jvm.MethodName) prog_11_method_68_code (8 : Nat) (Option.some Jvm.ClassFile.FieldType.int)) ∈ lw_all := lw_g (lw_at lw_m6 41 rfl) rfl
theorem q1305 : (Jvm.Cond.constant "ClockWardModel" (259 : Nat) (1103515245 : Int32)) ∈ lw_all := lw_g (lw_at lw_m6 42 rfl) rfl
theorem q1307 : (Jvm.Cond.instanceMethod ({ cls := "ClockWardModel", name := "keep", desc := "(I)I" } : Jvm.MethodName)) ∈ lw_all := lw_g (lw_at lw_m6 44 rfl) rfl
theorem q1308 : (Jvm.Cond.selects "ClockWardModel" ({ cls := "ClockWardModel", name := "keep", desc := "(I)I" } : Jvm.MethodName) ({ cls := "ClockWardModel", name := "keep", desc := "(I)I" } : Jvm.MethodName)) ∈ lw_all := lw_g (lw_at lw_m6 45 rfl) rfl
theorem q1309 : (Jvm.Cond.code ({ cls := "ClockWardModel", name := "keep", desc := "(I)I" } : Jvm.MethodName) prog_11_method_69_code (3 : Nat) (Option.some Jvm.ClassFile.FieldType.int)) ∈ lw_all := lw_g (lw_at lw_m6 46 rfl) rfl
theorem q1311 : (Jvm.Cond.instanceMethod ({ cls := "ClockWardModel", name := "back", desc := "(I)I" } : Jvm.MethodName)) ∈ lw_all := lw_g (lw_at lw_m6 48 rfl) rfl
theorem q1312 : (Jvm.Cond.selects "ClockWardModel" ({ cls := "ClockWardModel", name := "back", desc := "(I)I" } : Jvm.MethodName) ({ cls := "ClockWardModel", name := "back", desc := "(I)I" } : Jvm.MethodName)) ∈ lw_all := lw_g (lw_at lw_m6 49 rfl) rfl
theorem q1313 : (Jvm.Cond.code ({ cls := "ClockWardModel", name := "back", desc := "(I)I" } : Jvm.MethodName) prog_11_method_70_code (2 : Nat) (Option.some Jvm.ClassFile.FieldType.int)) ∈ lw_all := lw_g (lw_at lw_m6 50 rfl) rfl
theorem q1315 : (Jvm.Cond.instanceMethod ({ cls := "ClockWardModel", name := "sheet", desc := "(III)I" } : Jvm.MethodName)) ∈ lw_all := lw_g (lw_at lw_m6 52 rfl) rfl
theorem q1316 : (Jvm.Cond.selects "ClockWardModel" ({ cls := "ClockWardModel", name := "sheet", desc := "(III)I" } : Jvm.MethodName) ({ cls := "ClockWardModel", name := "sheet", desc := "(III)I" } : Jvm.MethodName)) ∈ lw_all := lw_g (lw_at lw_m6 53 rfl) rfl
theorem q1317 : (Jvm.Cond.code ({ cls := "ClockWardModel", name := "sheet", desc := "(III)I" } : Jvm.MethodName) prog_11_method_71_code (5 : Nat) (Option.some Jvm.ClassFile.FieldType.int)) ∈ lw_all := lw_g (lw_at lw_m6 54 rfl) rfl
theorem q1319 : (Jvm.Cond.instanceMethod ({ cls := "ClockWardModel", name := "lay", desc := "(III)I" } : Jvm.MethodName)) ∈ lw_all := lw_g (lw_at lw_m6 56 rfl) rfl
theorem q1320 : (Jvm.Cond.selects "ClockWardModel" ({ cls := "ClockWardModel", name := "lay", desc := "(III)I" } : Jvm.MethodName) ({ cls := "ClockWardModel", name := "lay", desc := "(III)I" } : Jvm.MethodName)) ∈ lw_all := lw_g (lw_at lw_m6 57 rfl) rfl
theorem q1321 : (Jvm.Cond.code ({ cls := "ClockWardModel", name := "lay", desc := "(III)I" } : Jvm.MethodName) prog_11_method_72_code (4 : Nat) (Option.some Jvm.ClassFile.FieldType.int)) ∈ lw_all := lw_g (lw_at lw_m6 58 rfl) rfl
theorem q1323 : (Jvm.Cond.instanceMethod ({ cls := "ClockWardModel", name := "read", desc := "(IIII)I" } : Jvm.MethodName)) ∈ lw_all := lw_g (lw_at lw_m6 60 rfl) rfl
theorem q1324 : (Jvm.Cond.selects "ClockWardModel" ({ cls := "ClockWardModel", name := "read", desc := "(IIII)I" } : Jvm.MethodName) ({ cls := "ClockWardModel", name := "read", desc := "(IIII)I" } : Jvm.MethodName)) ∈ lw_all := lw_g (lw_at lw_m6 61 rfl) rfl
theorem q1325 : (Jvm.Cond.code ({ cls := "ClockWardModel", name := "read", desc := "(IIII)I" } : Jvm.MethodName) prog_11_method_73_code (9 : Nat) (Option.some Jvm.ClassFile.FieldType.int)) ∈ lw_all := lw_g (lw_at lw_m6 62 rfl) rfl
theorem q1326 : (Jvm.Cond.constantLong "ClockWardModel" (260 : Nat) (13 : Int64)) ∈ lw_all := lw_g (lw_at lw_m6 63 rfl) rfl
theorem q1328 : (Jvm.Cond.instanceMethod ({ cls := "ClockWardModel", name := "torn", desc := "()I" } : Jvm.MethodName)) ∈ lw_all := lw_g (lw_at lw_m6 65 rfl) rfl
theorem q1329 : (Jvm.Cond.selects "ClockWardModel" ({ cls := "ClockWardModel", name := "torn", desc := "()I" } : Jvm.MethodName) ({ cls := "ClockWardModel", name := "torn", desc := "()I" } : Jvm.MethodName)) ∈ lw_all := lw_g (lw_at lw_m6 66 rfl) rfl
theorem q1330 : (Jvm.Cond.code ({ cls := "ClockWardModel", name := "torn", desc := "()I" } : Jvm.MethodName) prog_11_method_74_code (1 : Nat) (Option.some Jvm.ClassFile.FieldType.int)) ∈ lw_all := lw_g (lw_at lw_m6 67 rfl) rfl
theorem q1332 : (Jvm.Cond.instanceMethod ({ cls := "ClockWardModel", name := "count", desc := "(I)I" } : Jvm.MethodName)) ∈ lw_all := lw_g (lw_at lw_m6 69 rfl) rfl
theorem q1333 : (Jvm.Cond.selects "ClockWardModel" ({ cls := "ClockWardModel", name := "count", desc := "(I)I" } : Jvm.MethodName) ({ cls := "ClockWardModel", name := "count", desc := "(I)I" } : Jvm.MethodName)) ∈ lw_all := lw_g (lw_at lw_m6 70 rfl) rfl
theorem q1334 : (Jvm.Cond.code ({ cls := "ClockWardModel", name := "count", desc := "(I)I" } : Jvm.MethodName) prog_11_method_75_code (5 : Nat) (Option.some Jvm.ClassFile.FieldType.int)) ∈ lw_all := lw_g (lw_at lw_m6 71 rfl) rfl
theorem in_X7 : ∀ w ∈ wsX70, w ∈ lw_all := lw_in wsX70 [961, 963, 965, 967, 969, 971, 973, 975, 977, 979, 981, 983, 985, 987, 989, 991, 993, 995, 997, 999, 1001, 1003, 1005, 1007, 1009, 1011, 1013, 1015, 1017, 1019, 1021, 1023] (by decide +kernel) (by decide +kernel)
