theorem q63 : (Jvm.Cond.initialized "ClockWardLaw") ∈ lw_all := lw_g (lw_at lw_m1 0 rfl) rfl
set_option maxRecDepth 100000
theorem q89 : (Jvm.Cond.classLink "ClockWardLaw" (7 : Nat) "ClockWard") ∈ lw_all := lw_g (lw_at lw_m1 26 rfl) rfl
theorem q91 : (Jvm.Cond.methodLink "ClockWardLaw" (9 : Nat) ({ cls := "ClockWard", name := "<init>", desc := "()V" } : Jvm.MethodName)) ∈ lw_all := lw_g (lw_at lw_m1 28 rfl) rfl
theorem q256 : (Jvm.Cond.methodLink "ClockWardLaw" (13 : Nat) ({ cls := "ClockWard", name := "feed", desc := "(I)I" } : Jvm.MethodName)) ∈ lw_all := lw_g (lw_at lw_m1 193 rfl) rfl
theorem q264 : (Jvm.Cond.methodLink "ClockWardLaw" (18 : Nat) ({ cls := "ClockWard", name := "end", desc := "(I)I" } : Jvm.MethodName)) ∈ lw_all := lw_g (lw_at lw_m1 201 rfl) rfl
theorem q268 : (Jvm.Cond.methodLink "ClockWardLaw" (22 : Nat) ({ cls := "ClockWard", name := "text", desc := "()I" } : Jvm.MethodName)) ∈ lw_all := lw_g (lw_at lw_m1 205 rfl) rfl
theorem q511 : (Jvm.Cond.methodLink "ClockWardLaw" (27 : Nat) ({ cls := "ClockWard", name := "fault", desc := "()I" } : Jvm.MethodName)) ∈ lw_all := lw_g (lw_at lw_m2 208 rfl) rfl
theorem q515 : (Jvm.Cond.methodLink "ClockWardLaw" (31 : Nat) ({ cls := "ClockWard", name := "rule", desc := "(I)I" } : Jvm.MethodName)) ∈ lw_all := lw_g (lw_at lw_m2 212 rfl) rfl
theorem q531 : (Jvm.Cond.methodLink "ClockWardLaw" (35 : Nat) ({ cls := "ClockWard", name := "clock", desc := "(II)I" } : Jvm.MethodName)) ∈ lw_all := lw_g (lw_at lw_m2 228 rfl) rfl
theorem q566 : (Jvm.Cond.methodLink "ClockWardLaw" (40 : Nat) ({ cls := "ClockWard", name := "got", desc := "(II)I" } : Jvm.MethodName)) ∈ lw_all := lw_g (lw_at lw_m3 23 rfl) rfl
theorem q574 : (Jvm.Cond.methodLink "ClockWardLaw" (44 : Nat) ({ cls := "ClockWard", name := "gift", desc := "(II)I" } : Jvm.MethodName)) ∈ lw_all := lw_g (lw_at lw_m3 31 rfl) rfl
theorem q579 : (Jvm.Cond.methodLink "ClockWardLaw" (48 : Nat) ({ cls := "ClockWard", name := "alter", desc := "(III)I" } : Jvm.MethodName)) ∈ lw_all := lw_g (lw_at lw_m3 36 rfl) rfl
theorem q588 : (Jvm.Cond.methodLink "ClockWardLaw" (53 : Nat) ({ cls := "ClockWard", name := "floor", desc := "(I)I" } : Jvm.MethodName)) ∈ lw_all := lw_g (lw_at lw_m3 45 rfl) rfl
theorem q593 : (Jvm.Cond.methodLink "ClockWardLaw" (57 : Nat) ({ cls := "ClockWard", name := "plan", desc := "(III)I" } : Jvm.MethodName)) ∈ lw_all := lw_g (lw_at lw_m3 50 rfl) rfl
theorem q598 : (Jvm.Cond.methodLink "ClockWardLaw" (61 : Nat) ({ cls := "ClockWard", name := "cut", desc := "(I)I" } : Jvm.MethodName)) ∈ lw_all := lw_g (lw_at lw_m3 55 rfl) rfl
theorem q602 : (Jvm.Cond.methodLink "ClockWardLaw" (65 : Nat) ({ cls := "ClockWard", name := "most", desc := "(II)I" } : Jvm.MethodName)) ∈ lw_all := lw_g (lw_at lw_m3 59 rfl) rfl
theorem q622 : (Jvm.Cond.methodLink "ClockWardLaw" (69 : Nat) ({ cls := "ClockWard", name := "give", desc := "(III)I" } : Jvm.MethodName)) ∈ lw_all := lw_g (lw_at lw_m3 79 rfl) rfl
theorem q631 : (Jvm.Cond.methodLink "ClockWardLaw" (73 : Nat) ({ cls := "ClockWard", name := "nights", desc := "(I)I" } : Jvm.MethodName)) ∈ lw_all := lw_g (lw_at lw_m3 88 rfl) rfl
theorem q640 : (Jvm.Cond.methodLink "ClockWardLaw" (77 : Nat) ({ cls := "ClockWard", name := "runs", desc := "(I)I" } : Jvm.MethodName)) ∈ lw_all := lw_g (lw_at lw_m3 97 rfl) rfl
theorem q651 : (Jvm.Cond.methodLink "ClockWardLaw" (81 : Nat) ({ cls := "ClockWard", name := "ahead", desc := "(I)I" } : Jvm.MethodName)) ∈ lw_all := lw_g (lw_at lw_m3 108 rfl) rfl
theorem q655 : (Jvm.Cond.methodLink "ClockWardLaw" (85 : Nat) ({ cls := "ClockWard", name := "later", desc := "(II)I" } : Jvm.MethodName)) ∈ lw_all := lw_g (lw_at lw_m3 112 rfl) rfl
theorem q660 : (Jvm.Cond.methodLink "ClockWardLaw" (89 : Nat) ({ cls := "ClockWard", name := "when", desc := "(I)I" } : Jvm.MethodName)) ∈ lw_all := lw_g (lw_at lw_m3 117 rfl) rfl
theorem q664 : (Jvm.Cond.methodLink "ClockWardLaw" (93 : Nat) ({ cls := "ClockWard", name := "together", desc := "(I)I" } : Jvm.MethodName)) ∈ lw_all := lw_g (lw_at lw_m3 121 rfl) rfl
theorem q677 : (Jvm.Cond.methodLink "ClockWardLaw" (97 : Nat) ({ cls := "ClockWard", name := "donor", desc := "(II)I" } : Jvm.MethodName)) ∈ lw_all := lw_g (lw_at lw_m3 134 rfl) rfl
theorem q682 : (Jvm.Cond.methodLink "ClockWardLaw" (101 : Nat) ({ cls := "ClockWard", name := "best", desc := "(II)I" } : Jvm.MethodName)) ∈ lw_all := lw_g (lw_at lw_m3 139 rfl) rfl
theorem q722 : (Jvm.Cond.methodLink "ClockWardLaw" (105 : Nat) ({ cls := "ClockWard", name := "cure", desc := "(II)I" } : Jvm.MethodName)) ∈ lw_all := lw_g (lw_at lw_m3 179 rfl) rfl
theorem q734 : (Jvm.Cond.methodLink "ClockWardLaw" (109 : Nat) ({ cls := "ClockWard", name := "leave", desc := "(I)I" } : Jvm.MethodName)) ∈ lw_all := lw_g (lw_at lw_m3 191 rfl) rfl
theorem q739 : (Jvm.Cond.methodLink "ClockWardLaw" (113 : Nat) ({ cls := "ClockWard", name := "luck", desc := "(III)J" } : Jvm.MethodName)) ∈ lw_all := lw_g (lw_at lw_m3 196 rfl) rfl
theorem q751 : (Jvm.Cond.methodLink "ClockWardLaw" (118 : Nat) ({ cls := "ClockWard", name := "mean", desc := "(II)J" } : Jvm.MethodName)) ∈ lw_all := lw_g (lw_at lw_m3 208 rfl) rfl
theorem q755 : (Jvm.Cond.methodLink "ClockWardLaw" (123 : Nat) ({ cls := "ClockWard", name := "see", desc := "(III)I" } : Jvm.MethodName)) ∈ lw_all := lw_g (lw_at lw_m3 212 rfl) rfl
theorem q761 : (Jvm.Cond.methodLink "ClockWardLaw" (127 : Nat) ({ cls := "ClockWard", name := "forget", desc := "(I)I" } : Jvm.MethodName)) ∈ lw_all := lw_g (lw_at lw_m3 218 rfl) rfl
theorem q765 : (Jvm.Cond.methodLink "ClockWardLaw" (131 : Nat) ({ cls := "ClockWard", name := "kinds", desc := "(I)I" } : Jvm.MethodName)) ∈ lw_all := lw_g (lw_at lw_m3 222 rfl) rfl
theorem q777 : (Jvm.Cond.methodLink "ClockWardLaw" (135 : Nat) ({ cls := "ClockWard", name := "rates", desc := "(I)I" } : Jvm.MethodName)) ∈ lw_all := lw_g (lw_at lw_m3 234 rfl) rfl
theorem q781 : (Jvm.Cond.methodLink "ClockWardLaw" (139 : Nat) ({ cls := "ClockWard", name := "look", desc := "(II)I" } : Jvm.MethodName)) ∈ lw_all := lw_g (lw_at lw_m3 238 rfl) rfl
theorem q790 : (Jvm.Cond.methodLink "ClockWardLaw" (143 : Nat) ({ cls := "ClockWard", name := "drift", desc := "(III)I" } : Jvm.MethodName)) ∈ lw_all := lw_g (lw_at lw_m4 7 rfl) rfl
theorem q795 : (Jvm.Cond.methodLink "ClockWardLaw" (147 : Nat) ({ cls := "ClockWard", name := "keep", desc := "(I)I" } : Jvm.MethodName)) ∈ lw_all := lw_g (lw_at lw_m4 12 rfl) rfl
theorem q799 : (Jvm.Cond.methodLink "ClockWardLaw" (151 : Nat) ({ cls := "ClockWard", name := "back", desc := "(I)I" } : Jvm.MethodName)) ∈ lw_all := lw_g (lw_at lw_m4 16 rfl) rfl
theorem q803 : (Jvm.Cond.methodLink "ClockWardLaw" (155 : Nat) ({ cls := "ClockWard", name := "sheet", desc := "(III)I" } : Jvm.MethodName)) ∈ lw_all := lw_g (lw_at lw_m4 20 rfl) rfl
theorem q840 : (Jvm.Cond.methodLink "ClockWardLaw" (159 : Nat) ({ cls := "ClockWard", name := "lay", desc := "(III)I" } : Jvm.MethodName)) ∈ lw_all := lw_g (lw_at lw_m4 57 rfl) rfl
theorem q891 : (Jvm.Cond.methodLink "ClockWardLaw" (163 : Nat) ({ cls := "ClockWard", name := "read", desc := "(IIII)I" } : Jvm.MethodName)) ∈ lw_all := lw_g (lw_at lw_m4 108 rfl) rfl
theorem q915 : (Jvm.Cond.methodLink "ClockWardLaw" (168 : Nat) ({ cls := "ClockWard", name := "torn", desc := "()I" } : Jvm.MethodName)) ∈ lw_all := lw_g (lw_at lw_m4 132 rfl) rfl
theorem q919 : (Jvm.Cond.methodLink "ClockWardLaw" (172 : Nat) ({ cls := "ClockWard", name := "count", desc := "(I)I" } : Jvm.MethodName)) ∈ lw_all := lw_g (lw_at lw_m4 136 rfl) rfl
theorem q923 : (Jvm.Cond.classLink "ClockWardLaw" (10 : Nat) "ClockWardModel") ∈ lw_all := lw_g (lw_at lw_m4 140 rfl) rfl
theorem q925 : (Jvm.Cond.methodLink "ClockWardLaw" (12 : Nat) ({ cls := "ClockWardModel", name := "<init>", desc := "()V" } : Jvm.MethodName)) ∈ lw_all := lw_g (lw_at lw_m4 142 rfl) rfl
theorem q1027 : (Jvm.Cond.methodLink "ClockWardLaw" (17 : Nat) ({ cls := "ClockWardModel", name := "feed", desc := "(I)I" } : Jvm.MethodName)) ∈ lw_all := lw_g (lw_at lw_m5 4 rfl) rfl
theorem q1035 : (Jvm.Cond.methodLink "ClockWardLaw" (21 : Nat) ({ cls := "ClockWardModel", name := "end", desc := "(I)I" } : Jvm.MethodName)) ∈ lw_all := lw_g (lw_at lw_m5 12 rfl) rfl
theorem q1039 : (Jvm.Cond.methodLink "ClockWardLaw" (26 : Nat) ({ cls := "ClockWardModel", name := "text", desc := "()I" } : Jvm.MethodName)) ∈ lw_all := lw_g (lw_at lw_m5 16 rfl) rfl
theorem q1084 : (Jvm.Cond.methodLink "ClockWardLaw" (30 : Nat) ({ cls := "ClockWardModel", name := "fault", desc := "()I" } : Jvm.MethodName)) ∈ lw_all := lw_g (lw_at lw_m5 61 rfl) rfl
theorem q1088 : (Jvm.Cond.methodLink "ClockWardLaw" (34 : Nat) ({ cls := "ClockWardModel", name := "rule", desc := "(I)I" } : Jvm.MethodName)) ∈ lw_all := lw_g (lw_at lw_m5 65 rfl) rfl
theorem q1096 : (Jvm.Cond.methodLink "ClockWardLaw" (39 : Nat) ({ cls := "ClockWardModel", name := "clock", desc := "(II)I" } : Jvm.MethodName)) ∈ lw_all := lw_g (lw_at lw_m5 73 rfl) rfl
theorem q1112 : (Jvm.Cond.methodLink "ClockWardLaw" (43 : Nat) ({ cls := "ClockWardModel", name := "got", desc := "(II)I" } : Jvm.MethodName)) ∈ lw_all := lw_g (lw_at lw_m5 89 rfl) rfl
theorem q1120 : (Jvm.Cond.methodLink "ClockWardLaw" (47 : Nat) ({ cls := "ClockWardModel", name := "gift", desc := "(II)I" } : Jvm.MethodName)) ∈ lw_all := lw_g (lw_at lw_m5 97 rfl) rfl
theorem q1125 : (Jvm.Cond.methodLink "ClockWardLaw" (52 : Nat) ({ cls := "ClockWardModel", name := "alter", desc := "(III)I" } : Jvm.MethodName)) ∈ lw_all := lw_g (lw_at lw_m5 102 rfl) rfl
theorem q1134 : (Jvm.Cond.methodLink "ClockWardLaw" (56 : Nat) ({ cls := "ClockWardModel", name := "floor", desc := "(I)I" } : Jvm.MethodName)) ∈ lw_all := lw_g (lw_at lw_m5 111 rfl) rfl
theorem q1139 : (Jvm.Cond.methodLink "ClockWardLaw" (60 : Nat) ({ cls := "ClockWardModel", name := "plan", desc := "(III)I" } : Jvm.MethodName)) ∈ lw_all := lw_g (lw_at lw_m5 116 rfl) rfl
theorem q1144 : (Jvm.Cond.methodLink "ClockWardLaw" (64 : Nat) ({ cls := "ClockWardModel", name := "cut", desc := "(I)I" } : Jvm.MethodName)) ∈ lw_all := lw_g (lw_at lw_m5 121 rfl) rfl
theorem q1148 : (Jvm.Cond.methodLink "ClockWardLaw" (68 : Nat) ({ cls := "ClockWardModel", name := "most", desc := "(II)I" } : Jvm.MethodName)) ∈ lw_all := lw_g (lw_at lw_m5 125 rfl) rfl
theorem q1168 : (Jvm.Cond.methodLink "ClockWardLaw" (72 : Nat) ({ cls := "ClockWardModel", name := "give", desc := "(III)I" } : Jvm.MethodName)) ∈ lw_all := lw_g (lw_at lw_m5 145 rfl) rfl
theorem q1180 : (Jvm.Cond.methodLink "ClockWardLaw" (76 : Nat) ({ cls := "ClockWardModel", name := "nights", desc := "(I)I" } : Jvm.MethodName)) ∈ lw_all := lw_g (lw_at lw_m5 157 rfl) rfl
theorem q1189 : (Jvm.Cond.methodLink "ClockWardLaw" (80 : Nat) ({ cls := "ClockWardModel", name := "runs", desc := "(I)I" } : Jvm.MethodName)) ∈ lw_all := lw_g (lw_at lw_m5 166 rfl) rfl
theorem q1201 : (Jvm.Cond.methodLink "ClockWardLaw" (84 : Nat) ({ cls := "ClockWardModel", name := "ahead", desc := "(I)I" } : Jvm.MethodName)) ∈ lw_all := lw_g (lw_at lw_m5 178 rfl) rfl
theorem q1205 : (Jvm.Cond.methodLink "ClockWardLaw" (88 : Nat) ({ cls := "ClockWardModel", name := "later", desc := "(II)I" } : Jvm.MethodName)) ∈ lw_all := lw_g (lw_at lw_m5 182 rfl) rfl
theorem q1210 : (Jvm.Cond.methodLink "ClockWardLaw" (92 : Nat) ({ cls := "ClockWardModel", name := "when", desc := "(I)I" } : Jvm.MethodName)) ∈ lw_all := lw_g (lw_at lw_m5 187 rfl) rfl
theorem q1214 : (Jvm.Cond.methodLink "ClockWardLaw" (96 : Nat) ({ cls := "ClockWardModel", name := "together", desc := "(I)I" } : Jvm.MethodName)) ∈ lw_all := lw_g (lw_at lw_m5 191 rfl) rfl
theorem q1221 : (Jvm.Cond.methodLink "ClockWardLaw" (100 : Nat) ({ cls := "ClockWardModel", name := "donor", desc := "(II)I" } : Jvm.MethodName)) ∈ lw_all := lw_g (lw_at lw_m5 198 rfl) rfl
theorem q1225 : (Jvm.Cond.methodLink "ClockWardLaw" (104 : Nat) ({ cls := "ClockWardModel", name := "best", desc := "(II)I" } : Jvm.MethodName)) ∈ lw_all := lw_g (lw_at lw_m5 202 rfl) rfl
theorem q1243 : (Jvm.Cond.methodLink "ClockWardLaw" (108 : Nat) ({ cls := "ClockWardModel", name := "cure", desc := "(II)I" } : Jvm.MethodName)) ∈ lw_all := lw_g (lw_at lw_m5 220 rfl) rfl
theorem q1251 : (Jvm.Cond.methodLink "ClockWardLaw" (112 : Nat) ({ cls := "ClockWardModel", name := "leave", desc := "(I)I" } : Jvm.MethodName)) ∈ lw_all := lw_g (lw_at lw_m5 228 rfl) rfl
theorem q1255 : (Jvm.Cond.methodLink "ClockWardLaw" (117 : Nat) ({ cls := "ClockWardModel", name := "luck", desc := "(III)J" } : Jvm.MethodName)) ∈ lw_all := lw_g (lw_at lw_m5 232 rfl) rfl
theorem q1267 : (Jvm.Cond.methodLink "ClockWardLaw" (122 : Nat) ({ cls := "ClockWardModel", name := "mean", desc := "(II)J" } : Jvm.MethodName)) ∈ lw_all := lw_g (lw_at lw_m6 4 rfl) rfl
theorem q1271 : (Jvm.Cond.methodLink "ClockWardLaw" (126 : Nat) ({ cls := "ClockWardModel", name := "see", desc := "(III)I" } : Jvm.MethodName)) ∈ lw_all := lw_g (lw_at lw_m6 8 rfl) rfl
theorem q1277 : (Jvm.Cond.methodLink "ClockWardLaw" (130 : Nat) ({ cls := "ClockWardModel", name := "forget", desc := "(I)I" } : Jvm.MethodName)) ∈ lw_all := lw_g (lw_at lw_m6 14 rfl) rfl
theorem q1281 : (Jvm.Cond.methodLink "ClockWardLaw" (134 : Nat) ({ cls := "ClockWardModel", name := "kinds", desc := "(I)I" } : Jvm.MethodName)) ∈ lw_all := lw_g (lw_at lw_m6 18 rfl) rfl
theorem q1289 : (Jvm.Cond.methodLink "ClockWardLaw" (138 : Nat) ({ cls := "ClockWardModel", name := "rates", desc := "(I)I" } : Jvm.MethodName)) ∈ lw_all := lw_g (lw_at lw_m6 26 rfl) rfl
theorem q1297 : (Jvm.Cond.methodLink "ClockWardLaw" (142 : Nat) ({ cls := "ClockWardModel", name := "look", desc := "(II)I" } : Jvm.MethodName)) ∈ lw_all := lw_g (lw_at lw_m6 34 rfl) rfl
theorem q1301 : (Jvm.Cond.methodLink "ClockWardLaw" (146 : Nat) ({ cls := "ClockWardModel", name := "drift", desc := "(III)I" } : Jvm.MethodName)) ∈ lw_all := lw_g (lw_at lw_m6 38 rfl) rfl
theorem q1306 : (Jvm.Cond.methodLink "ClockWardLaw" (150 : Nat) ({ cls := "ClockWardModel", name := "keep", desc := "(I)I" } : Jvm.MethodName)) ∈ lw_all := lw_g (lw_at lw_m6 43 rfl) rfl
theorem q1310 : (Jvm.Cond.methodLink "ClockWardLaw" (154 : Nat) ({ cls := "ClockWardModel", name := "back", desc := "(I)I" } : Jvm.MethodName)) ∈ lw_all := lw_g (lw_at lw_m6 47 rfl) rfl
theorem q1314 : (Jvm.Cond.methodLink "ClockWardLaw" (158 : Nat) ({ cls := "ClockWardModel", name := "sheet", desc := "(III)I" } : Jvm.MethodName)) ∈ lw_all := lw_g (lw_at lw_m6 51 rfl) rfl
theorem q1318 : (Jvm.Cond.methodLink "ClockWardLaw" (162 : Nat) ({ cls := "ClockWardModel", name := "lay", desc := "(III)I" } : Jvm.MethodName)) ∈ lw_all := lw_g (lw_at lw_m6 55 rfl) rfl
theorem q1322 : (Jvm.Cond.methodLink "ClockWardLaw" (167 : Nat) ({ cls := "ClockWardModel", name := "read", desc := "(IIII)I" } : Jvm.MethodName)) ∈ lw_all := lw_g (lw_at lw_m6 59 rfl) rfl
theorem q1327 : (Jvm.Cond.methodLink "ClockWardLaw" (171 : Nat) ({ cls := "ClockWardModel", name := "torn", desc := "()I" } : Jvm.MethodName)) ∈ lw_all := lw_g (lw_at lw_m6 64 rfl) rfl
theorem q1331 : (Jvm.Cond.methodLink "ClockWardLaw" (175 : Nat) ({ cls := "ClockWardModel", name := "count", desc := "(I)I" } : Jvm.MethodName)) ∈ lw_all := lw_g (lw_at lw_m6 68 rfl) rfl

/-! the law's own entry -/
set_option maxRecDepth 100000
abbrev cL_law : ByteArray := code
def dkwL_law_52 : List UInt8 := [172]
abbrev dktL_law_52 : List UInt8 := dkwL_law_52 ++ []
def dkwL_law_51 : List UInt8 := [182, 0, 172, 44, 42, 29, 4, 96, 46, 182, 0, 175, 159, 0, 5, 3, 172, 132, 3, 5, 167, 250, 188, 4]
abbrev dktL_law_51 : List UInt8 := dkwL_law_51 ++ dktL_law_52
def dkwL_law_50 : List UInt8 := [159, 0, 41, 3, 172, 43, 182, 0, 168, 44, 182, 0, 171, 159, 0, 28, 3, 172, 43, 42, 29, 4, 96, 46]
abbrev dktL_law_50 : List UInt8 := dkwL_law_50 ++ dktL_law_51
def dkwL_law_49 : List UInt8 := [44, 42, 29, 4, 96, 46, 42, 29, 5, 96, 46, 42, 29, 6, 96, 46, 42, 29, 7, 96, 46, 182, 0, 167]
abbrev dktL_law_49 : List UInt8 := dkwL_law_49 ++ dktL_law_50
def dkwL_law_48 : List UInt8 := [43, 42, 29, 4, 96, 46, 42, 29, 5, 96, 46, 42, 29, 6, 96, 46, 42, 29, 7, 96, 46, 182, 0, 163]
abbrev dktL_law_48 : List UInt8 := dkwL_law_48 ++ dktL_law_49
def dkwL_law_47 : List UInt8 := [44, 42, 29, 4, 96, 46, 42, 29, 5, 96, 46, 42, 29, 6, 96, 46, 182, 0, 162, 159, 0, 94, 3, 172]
abbrev dktL_law_47 : List UInt8 := dkwL_law_47 ++ dktL_law_48
def dkwL_law_46 : List UInt8 := [159, 0, 137, 3, 172, 43, 42, 29, 4, 96, 46, 42, 29, 5, 96, 46, 42, 29, 6, 96, 46, 182, 0, 159]
abbrev dktL_law_46 : List UInt8 := dkwL_law_46 ++ dktL_law_47
def dkwL_law_45 : List UInt8 := [96, 46, 182, 0, 155, 44, 42, 29, 4, 96, 46, 42, 29, 5, 96, 46, 42, 29, 6, 96, 46, 182, 0, 158]
abbrev dktL_law_45 : List UInt8 := dkwL_law_45 ++ dktL_law_46
def dkwL_law_44 : List UInt8 := [96, 46, 182, 0, 154, 159, 0, 180, 3, 172, 43, 42, 29, 4, 96, 46, 42, 29, 5, 96, 46, 42, 29, 6]
abbrev dktL_law_44 : List UInt8 := dkwL_law_44 ++ dktL_law_45
def dkwL_law_43 : List UInt8 := [4, 96, 46, 182, 0, 150, 159, 0, 203, 3, 172, 43, 42, 29, 4, 96, 46, 182, 0, 151, 44, 42, 29, 4]
abbrev dktL_law_43 : List UInt8 := dkwL_law_43 ++ dktL_law_44
def dkwL_law_42 : List UInt8 := [29, 6, 96, 46, 182, 0, 146, 159, 0, 226, 3, 172, 43, 42, 29, 4, 96, 46, 182, 0, 147, 44, 42, 29]
abbrev dktL_law_42 : List UInt8 := dkwL_law_42 ++ dktL_law_43
def dkwL_law_41 : List UInt8 := [29, 5, 96, 46, 42, 29, 6, 96, 46, 182, 0, 143, 44, 42, 29, 4, 96, 46, 42, 29, 5, 96, 46, 42]
abbrev dktL_law_41 : List UInt8 := dkwL_law_41 ++ dktL_law_42
def dkwL_law_40 : List UInt8 := [29, 4, 96, 46, 42, 29, 5, 96, 46, 182, 0, 142, 159, 1, 13, 3, 172, 43, 42, 29, 4, 96, 46, 42]
abbrev dktL_law_40 : List UInt8 := dkwL_law_40 ++ dktL_law_41
def dkwL_law_39 : List UInt8 := [182, 0, 138, 159, 1, 46, 3, 172, 43, 42, 29, 4, 96, 46, 42, 29, 5, 96, 46, 182, 0, 139, 44, 42]
abbrev dktL_law_39 : List UInt8 := dkwL_law_39 ++ dktL_law_40
def dkwL_law_38 : List UInt8 := [182, 0, 134, 159, 1, 69, 3, 172, 43, 42, 29, 4, 96, 46, 182, 0, 135, 44, 42, 29, 4, 96, 46]
abbrev dktL_law_38 : List UInt8 := dkwL_law_38 ++ dktL_law_39
def dkwL_law_37 : List UInt8 := [46, 182, 0, 130, 159, 1, 92, 3, 172, 43, 42, 29, 4, 96, 46, 182, 0, 131, 44, 42, 29, 4, 96, 46]
abbrev dktL_law_37 : List UInt8 := dkwL_law_37 ++ dktL_law_38
def dkwL_law_36 : List UInt8 := [96, 46, 182, 0, 126, 159, 1, 115, 3, 172, 43, 42, 29, 4, 96, 46, 182, 0, 127, 44, 42, 29, 4, 96]
abbrev dktL_law_36 : List UInt8 := dkwL_law_36 ++ dktL_law_37
def dkwL_law_35 : List UInt8 := [96, 46, 42, 29, 6, 96, 46, 182, 0, 123, 44, 42, 29, 4, 96, 46, 42, 29, 5, 96, 46, 42, 29, 6]
abbrev dktL_law_35 : List UInt8 := dkwL_law_35 ++ dktL_law_36
def dkwL_law_34 : List UInt8 := [46, 42, 29, 5, 96, 46, 182, 0, 122, 148, 153, 1, 158, 3, 172, 43, 42, 29, 4, 96, 46, 42, 29, 5]
abbrev dktL_law_34 : List UInt8 := dkwL_law_34 ++ dktL_law_35
def dkwL_law_33 : List UInt8 := [153, 1, 192, 3, 172, 43, 42, 29, 4, 96, 46, 42, 29, 5, 96, 46, 182, 0, 118, 44, 42, 29, 4, 96]
abbrev dktL_law_33 : List UInt8 := dkwL_law_33 ++ dktL_law_34
def dkwL_law_32 : List UInt8 := [182, 0, 113, 44, 42, 29, 4, 96, 46, 42, 29, 5, 96, 46, 42, 29, 6, 96, 46, 182, 0, 117, 148]
abbrev dktL_law_32 : List UInt8 := dkwL_law_32 ++ dktL_law_33
def dkwL_law_31 : List UInt8 := [182, 0, 112, 159, 1, 236, 3, 172, 43, 42, 29, 4, 96, 46, 42, 29, 5, 96, 46, 42, 29, 6, 96, 46]
abbrev dktL_law_31 : List UInt8 := dkwL_law_31 ++ dktL_law_32
def dkwL_law_30 : List UInt8 := [182, 0, 108, 159, 2, 3, 3, 172, 43, 42, 29, 4, 96, 46, 182, 0, 109, 44, 42, 29, 4, 96, 46]
abbrev dktL_law_30 : List UInt8 := dkwL_law_30 ++ dktL_law_31
def dkwL_law_29 : List UInt8 := [42, 29, 4, 96, 46, 42, 29, 5, 96, 46, 182, 0, 105, 44, 42, 29, 4, 96, 46, 42, 29, 5, 96, 46]
abbrev dktL_law_29 : List UInt8 := dkwL_law_29 ++ dktL_law_30
def dkwL_law_28 : List UInt8 := [46, 182, 0, 101, 44, 42, 29, 4, 96, 46, 42, 29, 5, 96, 46, 182, 0, 104, 159, 2, 36, 3, 172, 43]
abbrev dktL_law_28 : List UInt8 := dkwL_law_28 ++ dktL_law_29
def dkwL_law_27 : List UInt8 := [46, 42, 29, 5, 96, 46, 182, 0, 100, 159, 2, 69, 3, 172, 43, 42, 29, 4, 96, 46, 42, 29, 5, 96]
abbrev dktL_law_27 : List UInt8 := dkwL_law_27 ++ dktL_law_28
def dkwL_law_26 : List UInt8 := [159, 2, 102, 3, 172, 43, 42, 29, 4, 96, 46, 42, 29, 5, 96, 46, 182, 0, 97, 44, 42, 29, 4, 96]
abbrev dktL_law_26 : List UInt8 := dkwL_law_26 ++ dktL_law_27
def dkwL_law_25 : List UInt8 := [159, 2, 125, 3, 172, 43, 42, 29, 4, 96, 46, 182, 0, 93, 44, 42, 29, 4, 96, 46, 182, 0, 96]
abbrev dktL_law_25 : List UInt8 := dkwL_law_25 ++ dktL_law_26
def dkwL_law_24 : List UInt8 := [159, 2, 148, 3, 172, 43, 42, 29, 4, 96, 46, 182, 0, 89, 44, 42, 29, 4, 96, 46, 182, 0, 92]
abbrev dktL_law_24 : List UInt8 := dkwL_law_24 ++ dktL_law_25
def dkwL_law_23 : List UInt8 := [42, 29, 5, 96, 46, 182, 0, 85, 44, 42, 29, 4, 96, 46, 42, 29, 5, 96, 46, 182, 0, 88]
abbrev dktL_law_23 : List UInt8 := dkwL_law_23 ++ dktL_law_24
def dkwL_law_22 : List UInt8 := [46, 182, 0, 81, 44, 42, 29, 4, 96, 46, 182, 0, 84, 159, 2, 181, 3, 172, 43, 42, 29, 4, 96, 46]
abbrev dktL_law_22 : List UInt8 := dkwL_law_22 ++ dktL_law_23
def dkwL_law_21 : List UInt8 := [96, 46, 182, 0, 77, 44, 42, 29, 4, 96, 46, 182, 0, 80, 159, 2, 204, 3, 172, 43, 42, 29, 4, 96]
abbrev dktL_law_21 : List UInt8 := dkwL_law_21 ++ dktL_law_22
def dkwL_law_20 : List UInt8 := [4, 96, 46, 182, 0, 73, 44, 42, 29, 4, 96, 46, 182, 0, 76, 159, 2, 227, 3, 172, 43, 42, 29, 4]
abbrev dktL_law_20 : List UInt8 := dkwL_law_20 ++ dktL_law_21
def dkwL_law_19 : List UInt8 := [4, 96, 46, 42, 29, 5, 96, 46, 42, 29, 6, 96, 46, 182, 0, 72, 159, 2, 250, 3, 172, 43, 42, 29]
abbrev dktL_law_19 : List UInt8 := dkwL_law_19 ++ dktL_law_20
def dkwL_law_18 : List UInt8 := [3, 172, 43, 42, 29, 4, 96, 46, 42, 29, 5, 96, 46, 42, 29, 6, 96, 46, 182, 0, 69, 44, 42, 29]
abbrev dktL_law_18 : List UInt8 := dkwL_law_18 ++ dktL_law_19
def dkwL_law_17 : List UInt8 := [29, 5, 96, 46, 182, 0, 65, 44, 42, 29, 4, 96, 46, 42, 29, 5, 96, 46, 182, 0, 68, 159, 3, 37]
abbrev dktL_law_17 : List UInt8 := dkwL_law_17 ++ dktL_law_18
def dkwL_law_16 : List UInt8 := [182, 0, 61, 44, 42, 29, 4, 96, 46, 182, 0, 64, 159, 3, 70, 3, 172, 43, 42, 29, 4, 96, 46, 42]
abbrev dktL_law_16 : List UInt8 := dkwL_law_16 ++ dktL_law_17
def dkwL_law_15 : List UInt8 := [42, 29, 5, 96, 46, 42, 29, 6, 96, 46, 182, 0, 60, 159, 3, 93, 3, 172, 43, 42, 29, 4, 96, 46]
abbrev dktL_law_15 : List UInt8 := dkwL_law_15 ++ dktL_law_16
def dkwL_law_14 : List UInt8 := [42, 29, 4, 96, 46, 42, 29, 5, 96, 46, 42, 29, 6, 96, 46, 182, 0, 57, 44, 42, 29, 4, 96, 46]
abbrev dktL_law_14 : List UInt8 := dkwL_law_14 ++ dktL_law_15
def dkwL_law_13 : List UInt8 := [43, 42, 29, 4, 96, 46, 182, 0, 53, 44, 42, 29, 4, 96, 46, 182, 0, 56, 159, 3, 136, 3, 172, 43]
abbrev dktL_law_13 : List UInt8 := dkwL_law_13 ++ dktL_law_14
def dkwL_law_12 : List UInt8 := [44, 42, 29, 4, 96, 46, 42, 29, 5, 96, 46, 42, 29, 6, 96, 46, 182, 0, 52, 159, 3, 159, 3, 172]
abbrev dktL_law_12 : List UInt8 := dkwL_law_12 ++ dktL_law_13
def dkwL_law_11 : List UInt8 := [159, 3, 202, 3, 172, 43, 42, 29, 4, 96, 46, 42, 29, 5, 96, 46, 42, 29, 6, 96, 46, 182, 0, 48]
abbrev dktL_law_11 : List UInt8 := dkwL_law_11 ++ dktL_law_12
def dkwL_law_10 : List UInt8 := [42, 29, 5, 96, 46, 182, 0, 44, 44, 42, 29, 4, 96, 46, 42, 29, 5, 96, 46, 182, 0, 47]
abbrev dktL_law_10 : List UInt8 := dkwL_law_10 ++ dktL_law_11
def dkwL_law_9 : List UInt8 := [42, 29, 4, 96, 46, 42, 29, 5, 96, 46, 182, 0, 43, 159, 3, 235, 3, 172, 43, 42, 29, 4, 96, 46]
abbrev dktL_law_9 : List UInt8 := dkwL_law_9 ++ dktL_law_10
def dkwL_law_8 : List UInt8 := [46, 182, 0, 39, 159, 4, 12, 3, 172, 43, 42, 29, 4, 96, 46, 42, 29, 5, 96, 46, 182, 0, 40, 44]
abbrev dktL_law_8 : List UInt8 := dkwL_law_8 ++ dktL_law_9
def dkwL_law_7 : List UInt8 := [43, 42, 29, 4, 96, 46, 42, 29, 5, 96, 46, 182, 0, 35, 44, 42, 29, 4, 96, 46, 42, 29, 5, 96]
abbrev dktL_law_7 : List UInt8 := dkwL_law_7 ++ dktL_law_8
def dkwL_law_6 : List UInt8 := [172, 43, 42, 29, 4, 96, 46, 182, 0, 31, 44, 42, 29, 4, 96, 46, 182, 0, 34, 159, 4, 45, 3, 172]
abbrev dktL_law_6 : List UInt8 := dkwL_law_6 ++ dktL_law_7
def dkwL_law_5 : List UInt8 := [182, 0, 22, 44, 182, 0, 26, 159, 4, 81, 3, 172, 43, 182, 0, 27, 44, 182, 0, 30, 159, 4, 68, 3]
abbrev dktL_law_5 : List UInt8 := dkwL_law_5 ++ dktL_law_6
def dkwL_law_4 : List UInt8 := [42, 29, 4, 96, 46, 182, 0, 18, 44, 42, 29, 4, 96, 46, 182, 0, 21, 159, 4, 94, 3, 172, 43]
abbrev dktL_law_4 : List UInt8 := dkwL_law_4 ++ dktL_law_5
def dkwL_law_3 : List UInt8 := [43, 42, 29, 4, 96, 46, 182, 0, 13, 44, 42, 29, 4, 96, 46, 182, 0, 17, 159, 4, 117, 3, 172, 43]
abbrev dktL_law_3 : List UInt8 := dkwL_law_3 ++ dktL_law_4
def dkwL_law_2 : List UInt8 := [170, 0, 0, 0, 0, 0, 5, 51, 0, 0, 0, 0, 0, 0, 0, 38, 0, 0, 0, 172, 0, 0, 0, 195, 0, 0, 0, 218, 0, 0, 0, 231, 0, 0, 0, 244, 0, 0, 1, 11, 0, 0, 1, 44, 0, 0, 1, 77, 0, 0, 1, 110, 0, 0, 1, 153, 0, 0, 1, 176, 0, 0, 1, 219, 0, 0, 1, 242, 0, 0, 2, 19, 0, 0, 2, 62, 0, 0, 2, 85, 0, 0, 2, 108, 0, 0, 2, 131, 0, 0, 2, 164, 0, 0, 2, 187, 0, 0, 2, 210, 0, 0, 2, 243, 0, 0, 3, 20, 0, 0, 3, 53, 0, 0, 3, 76, 0, 0, 3, 120, 0, 0, 3, 154, 0, 0, 3, 197, 0, 0, 3, 220, 0, 0, 3, 243, 0, 0, 4, 10, 0, 0, 4, 43, 0, 0, 4, 86, 0, 0, 4, 109, 0, 0, 4, 132, 0, 0, 4, 175, 0, 0, 4, 218, 0, 0, 5, 15, 0, 0, 5, 28]
abbrev dktL_law_2 : List UInt8 := dkwL_law_2 ++ dktL_law_3
def dkwL_law_1 : List UInt8 := [163, 5, 66, 42, 29, 46, 16, 63, 126]
abbrev dktL_law_1 : List UInt8 := dkwL_law_1 ++ dktL_law_2
def dkwL_law_0 : List UInt8 := [187, 0, 7, 89, 183, 0, 9, 76, 187, 0, 10, 89, 183, 0, 12, 77, 3, 62, 29, 42, 190, 8, 100]
abbrev dktL_law_0 : List UInt8 := dkwL_law_0 ++ dktL_law_1
theorem dksL_law_0 : cL_law.data.toList.drop 0 = dktL_law_0 := by decide +kernel
theorem dksL_law_1 : cL_law.data.toList.drop 23 = dktL_law_1 := dk_seg dksL_law_0 23 rfl rfl
theorem dksL_law_2 : cL_law.data.toList.drop 32 = dktL_law_2 := dk_seg dksL_law_1 9 rfl rfl
theorem dksL_law_3 : cL_law.data.toList.drop 204 = dktL_law_3 := dk_seg dksL_law_2 172 rfl rfl
theorem dksL_law_4 : cL_law.data.toList.drop 228 = dktL_law_4 := dk_seg dksL_law_3 24 rfl rfl
theorem dksL_law_5 : cL_law.data.toList.drop 251 = dktL_law_5 := dk_seg dksL_law_4 23 rfl rfl
theorem dksL_law_6 : cL_law.data.toList.drop 275 = dktL_law_6 := dk_seg dksL_law_5 24 rfl rfl
theorem dksL_law_7 : cL_law.data.toList.drop 299 = dktL_law_7 := dk_seg dksL_law_6 24 rfl rfl
theorem dksL_law_8 : cL_law.data.toList.drop 323 = dktL_law_8 := dk_seg dksL_law_7 24 rfl rfl
theorem dksL_law_9 : cL_law.data.toList.drop 347 = dktL_law_9 := dk_seg dksL_law_8 24 rfl rfl
theorem dksL_law_10 : cL_law.data.toList.drop 371 = dktL_law_10 := dk_seg dksL_law_9 24 rfl rfl
theorem dksL_law_11 : cL_law.data.toList.drop 393 = dktL_law_11 := dk_seg dksL_law_10 22 rfl rfl
theorem dksL_law_12 : cL_law.data.toList.drop 417 = dktL_law_12 := dk_seg dksL_law_11 24 rfl rfl
theorem dksL_law_13 : cL_law.data.toList.drop 441 = dktL_law_13 := dk_seg dksL_law_12 24 rfl rfl
theorem dksL_law_14 : cL_law.data.toList.drop 465 = dktL_law_14 := dk_seg dksL_law_13 24 rfl rfl
theorem dksL_law_15 : cL_law.data.toList.drop 489 = dktL_law_15 := dk_seg dksL_law_14 24 rfl rfl
theorem dksL_law_16 : cL_law.data.toList.drop 513 = dktL_law_16 := dk_seg dksL_law_15 24 rfl rfl
theorem dksL_law_17 : cL_law.data.toList.drop 537 = dktL_law_17 := dk_seg dksL_law_16 24 rfl rfl
theorem dksL_law_18 : cL_law.data.toList.drop 561 = dktL_law_18 := dk_seg dksL_law_17 24 rfl rfl
theorem dksL_law_19 : cL_law.data.toList.drop 585 = dktL_law_19 := dk_seg dksL_law_18 24 rfl rfl
theorem dksL_law_20 : cL_law.data.toList.drop 609 = dktL_law_20 := dk_seg dksL_law_19 24 rfl rfl
theorem dksL_law_21 : cL_law.data.toList.drop 633 = dktL_law_21 := dk_seg dksL_law_20 24 rfl rfl
theorem dksL_law_22 : cL_law.data.toList.drop 657 = dktL_law_22 := dk_seg dksL_law_21 24 rfl rfl
theorem dksL_law_23 : cL_law.data.toList.drop 681 = dktL_law_23 := dk_seg dksL_law_22 24 rfl rfl
theorem dksL_law_24 : cL_law.data.toList.drop 703 = dktL_law_24 := dk_seg dksL_law_23 22 rfl rfl
theorem dksL_law_25 : cL_law.data.toList.drop 726 = dktL_law_25 := dk_seg dksL_law_24 23 rfl rfl
theorem dksL_law_26 : cL_law.data.toList.drop 749 = dktL_law_26 := dk_seg dksL_law_25 23 rfl rfl
theorem dksL_law_27 : cL_law.data.toList.drop 773 = dktL_law_27 := dk_seg dksL_law_26 24 rfl rfl
theorem dksL_law_28 : cL_law.data.toList.drop 797 = dktL_law_28 := dk_seg dksL_law_27 24 rfl rfl
theorem dksL_law_29 : cL_law.data.toList.drop 821 = dktL_law_29 := dk_seg dksL_law_28 24 rfl rfl
theorem dksL_law_30 : cL_law.data.toList.drop 845 = dktL_law_30 := dk_seg dksL_law_29 24 rfl rfl
theorem dksL_law_31 : cL_law.data.toList.drop 868 = dktL_law_31 := dk_seg dksL_law_30 23 rfl rfl
theorem dksL_law_32 : cL_law.data.toList.drop 892 = dktL_law_32 := dk_seg dksL_law_31 24 rfl rfl
theorem dksL_law_33 : cL_law.data.toList.drop 915 = dktL_law_33 := dk_seg dksL_law_32 23 rfl rfl
theorem dksL_law_34 : cL_law.data.toList.drop 939 = dktL_law_34 := dk_seg dksL_law_33 24 rfl rfl
theorem dksL_law_35 : cL_law.data.toList.drop 963 = dktL_law_35 := dk_seg dksL_law_34 24 rfl rfl
theorem dksL_law_36 : cL_law.data.toList.drop 987 = dktL_law_36 := dk_seg dksL_law_35 24 rfl rfl
theorem dksL_law_37 : cL_law.data.toList.drop 1011 = dktL_law_37 := dk_seg dksL_law_36 24 rfl rfl
theorem dksL_law_38 : cL_law.data.toList.drop 1035 = dktL_law_38 := dk_seg dksL_law_37 24 rfl rfl
theorem dksL_law_39 : cL_law.data.toList.drop 1058 = dktL_law_39 := dk_seg dksL_law_38 23 rfl rfl
theorem dksL_law_40 : cL_law.data.toList.drop 1082 = dktL_law_40 := dk_seg dksL_law_39 24 rfl rfl
theorem dksL_law_41 : cL_law.data.toList.drop 1106 = dktL_law_41 := dk_seg dksL_law_40 24 rfl rfl
theorem dksL_law_42 : cL_law.data.toList.drop 1130 = dktL_law_42 := dk_seg dksL_law_41 24 rfl rfl
theorem dksL_law_43 : cL_law.data.toList.drop 1154 = dktL_law_43 := dk_seg dksL_law_42 24 rfl rfl
theorem dksL_law_44 : cL_law.data.toList.drop 1178 = dktL_law_44 := dk_seg dksL_law_43 24 rfl rfl
theorem dksL_law_45 : cL_law.data.toList.drop 1202 = dktL_law_45 := dk_seg dksL_law_44 24 rfl rfl
theorem dksL_law_46 : cL_law.data.toList.drop 1226 = dktL_law_46 := dk_seg dksL_law_45 24 rfl rfl
theorem dksL_law_47 : cL_law.data.toList.drop 1250 = dktL_law_47 := dk_seg dksL_law_46 24 rfl rfl
theorem dksL_law_48 : cL_law.data.toList.drop 1274 = dktL_law_48 := dk_seg dksL_law_47 24 rfl rfl
theorem dksL_law_49 : cL_law.data.toList.drop 1298 = dktL_law_49 := dk_seg dksL_law_48 24 rfl rfl
theorem dksL_law_50 : cL_law.data.toList.drop 1322 = dktL_law_50 := dk_seg dksL_law_49 24 rfl rfl
theorem dksL_law_51 : cL_law.data.toList.drop 1346 = dktL_law_51 := dk_seg dksL_law_50 24 rfl rfl
theorem dksL_law_52 : cL_law.data.toList.drop 1370 = dktL_law_52 := dk_seg dksL_law_51 24 rfl rfl
theorem dL_law_0 : decode cL_law 0 = .ok (.new 7, 3) := dk_187 0 7 (dk_at dksL_law_0 0 rfl rfl)
theorem dL_law_3 : decode cL_law 3 = .ok (.dup, 1) := dk_89 (dk_at dksL_law_0 3 rfl rfl)
theorem dL_law_4 : decode cL_law 4 = .ok (.invokespecial 9, 3) := dk_183 0 9 (dk_at dksL_law_0 4 rfl rfl)
theorem dL_law_7 : decode cL_law 7 = .ok (.astore_n 1, 1) := dk_76 (dk_at dksL_law_0 7 rfl rfl)
theorem dL_law_8 : decode cL_law 8 = .ok (.new 10, 3) := dk_187 0 10 (dk_at dksL_law_0 8 rfl rfl)
theorem dL_law_11 : decode cL_law 11 = .ok (.dup, 1) := dk_89 (dk_at dksL_law_0 11 rfl rfl)
theorem dL_law_12 : decode cL_law 12 = .ok (.invokespecial 12, 3) := dk_183 0 12 (dk_at dksL_law_0 12 rfl rfl)
theorem dL_law_15 : decode cL_law 15 = .ok (.astore_n 2, 1) := dk_77 (dk_at dksL_law_0 15 rfl rfl)
theorem dL_law_16 : decode cL_law 16 = .ok (.iconst 0, 1) := dk_3 (dk_at dksL_law_0 16 rfl rfl)
theorem dL_law_17 : decode cL_law 17 = .ok (.istore_n 3, 1) := dk_62 (dk_at dksL_law_0 17 rfl rfl)
theorem dL_law_18 : decode cL_law 18 = .ok (.iload_n 3, 1) := dk_29 (dk_at dksL_law_0 18 rfl rfl)
theorem dL_law_19 : decode cL_law 19 = .ok (.aload_n 0, 1) := dk_42 (dk_at dksL_law_0 19 rfl rfl)
theorem dL_law_20 : decode cL_law 20 = .ok (.arraylength, 1) := dk_190 (dk_at dksL_law_0 20 rfl rfl)
theorem dL_law_21 : decode cL_law 21 = .ok (.iconst 5, 1) := dk_8 (dk_at dksL_law_0 21 rfl rfl)
theorem dL_law_22 : decode cL_law 22 = .ok (.isub, 1) := dk_100 (dk_at dksL_law_0 22 rfl rfl)
theorem dL_law_23 : decode cL_law 23 = .ok (.if_icmp .gt 1346, 3) := dk_163 5 66 (dk_at dksL_law_1 0 rfl rfl)
theorem dL_law_26 : decode cL_law 26 = .ok (.aload_n 0, 1) := dk_42 (dk_at dksL_law_1 3 rfl rfl)
theorem dL_law_27 : decode cL_law 27 = .ok (.iload_n 3, 1) := dk_29 (dk_at dksL_law_1 4 rfl rfl)
theorem dL_law_28 : decode cL_law 28 = .ok (.iaload, 1) := dk_46 (dk_at dksL_law_1 5 rfl rfl)
theorem dL_law_29 : decode cL_law 29 = .ok (.bipush 63, 2) := dk_16 63 (dk_at dksL_law_1 6 rfl rfl)
theorem dL_law_31 : decode cL_law 31 = .ok (.iand, 1) := dk_126 (dk_at dksL_law_1 8 rfl rfl)
theorem dL_law_32 : decode cL_law 32 = .ok (.tableswitch 1331 0 38 #[172, 195, 218, 231, 244, 267, 300, 333, 366, 409, 432, 475, 498, 531, 574, 597, 620, 643, 676, 699, 722, 755, 788, 821, 844, 888, 922, 965, 988, 1011, 1034, 1067, 1110, 1133, 1156, 1199, 1242, 1295, 1308], 172) := by decide +kernel
theorem dL_law_204 : decode cL_law 204 = .ok (.aload_n 1, 1) := dk_43 (dk_at dksL_law_3 0 rfl rfl)
theorem dL_law_205 : decode cL_law 205 = .ok (.aload_n 0, 1) := dk_42 (dk_at dksL_law_3 1 rfl rfl)
theorem dL_law_206 : decode cL_law 206 = .ok (.iload_n 3, 1) := dk_29 (dk_at dksL_law_3 2 rfl rfl)
theorem dL_law_207 : decode cL_law 207 = .ok (.iconst 1, 1) := dk_4 (dk_at dksL_law_3 3 rfl rfl)
theorem dL_law_208 : decode cL_law 208 = .ok (.iadd, 1) := dk_96 (dk_at dksL_law_3 4 rfl rfl)
theorem dL_law_209 : decode cL_law 209 = .ok (.iaload, 1) := dk_46 (dk_at dksL_law_3 5 rfl rfl)
theorem dL_law_210 : decode cL_law 210 = .ok (.invokevirtual 13, 3) := dk_182 0 13 (dk_at dksL_law_3 6 rfl rfl)
theorem dL_law_213 : decode cL_law 213 = .ok (.aload_n 2, 1) := dk_44 (dk_at dksL_law_3 9 rfl rfl)
theorem dL_law_214 : decode cL_law 214 = .ok (.aload_n 0, 1) := dk_42 (dk_at dksL_law_3 10 rfl rfl)
theorem dL_law_215 : decode cL_law 215 = .ok (.iload_n 3, 1) := dk_29 (dk_at dksL_law_3 11 rfl rfl)
theorem dL_law_216 : decode cL_law 216 = .ok (.iconst 1, 1) := dk_4 (dk_at dksL_law_3 12 rfl rfl)
theorem dL_law_217 : decode cL_law 217 = .ok (.iadd, 1) := dk_96 (dk_at dksL_law_3 13 rfl rfl)
theorem dL_law_218 : decode cL_law 218 = .ok (.iaload, 1) := dk_46 (dk_at dksL_law_3 14 rfl rfl)
theorem dL_law_219 : decode cL_law 219 = .ok (.invokevirtual 17, 3) := dk_182 0 17 (dk_at dksL_law_3 15 rfl rfl)
theorem dL_law_222 : decode cL_law 222 = .ok (.if_icmp .eq 1141, 3) := dk_159 4 117 (dk_at dksL_law_3 18 rfl rfl)
theorem dL_law_225 : decode cL_law 225 = .ok (.iconst 0, 1) := dk_3 (dk_at dksL_law_3 21 rfl rfl)
theorem dL_law_226 : decode cL_law 226 = .ok (.ireturn, 1) := dk_172 (dk_at dksL_law_3 22 rfl rfl)
theorem dL_law_227 : decode cL_law 227 = .ok (.aload_n 1, 1) := dk_43 (dk_at dksL_law_3 23 rfl rfl)
theorem dL_law_228 : decode cL_law 228 = .ok (.aload_n 0, 1) := dk_42 (dk_at dksL_law_4 0 rfl rfl)
theorem dL_law_229 : decode cL_law 229 = .ok (.iload_n 3, 1) := dk_29 (dk_at dksL_law_4 1 rfl rfl)
theorem dL_law_230 : decode cL_law 230 = .ok (.iconst 1, 1) := dk_4 (dk_at dksL_law_4 2 rfl rfl)
theorem dL_law_231 : decode cL_law 231 = .ok (.iadd, 1) := dk_96 (dk_at dksL_law_4 3 rfl rfl)
theorem dL_law_232 : decode cL_law 232 = .ok (.iaload, 1) := dk_46 (dk_at dksL_law_4 4 rfl rfl)
theorem dL_law_233 : decode cL_law 233 = .ok (.invokevirtual 18, 3) := dk_182 0 18 (dk_at dksL_law_4 5 rfl rfl)
theorem dL_law_236 : decode cL_law 236 = .ok (.aload_n 2, 1) := dk_44 (dk_at dksL_law_4 8 rfl rfl)
theorem dL_law_237 : decode cL_law 237 = .ok (.aload_n 0, 1) := dk_42 (dk_at dksL_law_4 9 rfl rfl)
theorem dL_law_238 : decode cL_law 238 = .ok (.iload_n 3, 1) := dk_29 (dk_at dksL_law_4 10 rfl rfl)
theorem dL_law_239 : decode cL_law 239 = .ok (.iconst 1, 1) := dk_4 (dk_at dksL_law_4 11 rfl rfl)
theorem dL_law_240 : decode cL_law 240 = .ok (.iadd, 1) := dk_96 (dk_at dksL_law_4 12 rfl rfl)
theorem dL_law_241 : decode cL_law 241 = .ok (.iaload, 1) := dk_46 (dk_at dksL_law_4 13 rfl rfl)
theorem dL_law_242 : decode cL_law 242 = .ok (.invokevirtual 21, 3) := dk_182 0 21 (dk_at dksL_law_4 14 rfl rfl)
theorem dL_law_245 : decode cL_law 245 = .ok (.if_icmp .eq 1118, 3) := dk_159 4 94 (dk_at dksL_law_4 17 rfl rfl)
theorem dL_law_248 : decode cL_law 248 = .ok (.iconst 0, 1) := dk_3 (dk_at dksL_law_4 20 rfl rfl)
theorem dL_law_249 : decode cL_law 249 = .ok (.ireturn, 1) := dk_172 (dk_at dksL_law_4 21 rfl rfl)
theorem dL_law_250 : decode cL_law 250 = .ok (.aload_n 1, 1) := dk_43 (dk_at dksL_law_4 22 rfl rfl)
theorem dL_law_251 : decode cL_law 251 = .ok (.invokevirtual 22, 3) := dk_182 0 22 (dk_at dksL_law_5 0 rfl rfl)
theorem dL_law_254 : decode cL_law 254 = .ok (.aload_n 2, 1) := dk_44 (dk_at dksL_law_5 3 rfl rfl)
theorem dL_law_255 : decode cL_law 255 = .ok (.invokevirtual 26, 3) := dk_182 0 26 (dk_at dksL_law_5 4 rfl rfl)
theorem dL_law_258 : decode cL_law 258 = .ok (.if_icmp .eq 1105, 3) := dk_159 4 81 (dk_at dksL_law_5 7 rfl rfl)
theorem dL_law_261 : decode cL_law 261 = .ok (.iconst 0, 1) := dk_3 (dk_at dksL_law_5 10 rfl rfl)
theorem dL_law_262 : decode cL_law 262 = .ok (.ireturn, 1) := dk_172 (dk_at dksL_law_5 11 rfl rfl)
theorem dL_law_263 : decode cL_law 263 = .ok (.aload_n 1, 1) := dk_43 (dk_at dksL_law_5 12 rfl rfl)
theorem dL_law_264 : decode cL_law 264 = .ok (.invokevirtual 27, 3) := dk_182 0 27 (dk_at dksL_law_5 13 rfl rfl)
theorem dL_law_267 : decode cL_law 267 = .ok (.aload_n 2, 1) := dk_44 (dk_at dksL_law_5 16 rfl rfl)
theorem dL_law_268 : decode cL_law 268 = .ok (.invokevirtual 30, 3) := dk_182 0 30 (dk_at dksL_law_5 17 rfl rfl)
theorem dL_law_271 : decode cL_law 271 = .ok (.if_icmp .eq 1092, 3) := dk_159 4 68 (dk_at dksL_law_5 20 rfl rfl)
theorem dL_law_274 : decode cL_law 274 = .ok (.iconst 0, 1) := dk_3 (dk_at dksL_law_5 23 rfl rfl)
theorem dL_law_275 : decode cL_law 275 = .ok (.ireturn, 1) := dk_172 (dk_at dksL_law_6 0 rfl rfl)
theorem dL_law_276 : decode cL_law 276 = .ok (.aload_n 1, 1) := dk_43 (dk_at dksL_law_6 1 rfl rfl)
theorem dL_law_277 : decode cL_law 277 = .ok (.aload_n 0, 1) := dk_42 (dk_at dksL_law_6 2 rfl rfl)
theorem dL_law_278 : decode cL_law 278 = .ok (.iload_n 3, 1) := dk_29 (dk_at dksL_law_6 3 rfl rfl)
theorem dL_law_279 : decode cL_law 279 = .ok (.iconst 1, 1) := dk_4 (dk_at dksL_law_6 4 rfl rfl)
theorem dL_law_280 : decode cL_law 280 = .ok (.iadd, 1) := dk_96 (dk_at dksL_law_6 5 rfl rfl)
theorem dL_law_281 : decode cL_law 281 = .ok (.iaload, 1) := dk_46 (dk_at dksL_law_6 6 rfl rfl)
theorem dL_law_282 : decode cL_law 282 = .ok (.invokevirtual 31, 3) := dk_182 0 31 (dk_at dksL_law_6 7 rfl rfl)
theorem dL_law_285 : decode cL_law 285 = .ok (.aload_n 2, 1) := dk_44 (dk_at dksL_law_6 10 rfl rfl)
theorem dL_law_286 : decode cL_law 286 = .ok (.aload_n 0, 1) := dk_42 (dk_at dksL_law_6 11 rfl rfl)
theorem dL_law_287 : decode cL_law 287 = .ok (.iload_n 3, 1) := dk_29 (dk_at dksL_law_6 12 rfl rfl)
theorem dL_law_288 : decode cL_law 288 = .ok (.iconst 1, 1) := dk_4 (dk_at dksL_law_6 13 rfl rfl)
theorem dL_law_289 : decode cL_law 289 = .ok (.iadd, 1) := dk_96 (dk_at dksL_law_6 14 rfl rfl)
theorem dL_law_290 : decode cL_law 290 = .ok (.iaload, 1) := dk_46 (dk_at dksL_law_6 15 rfl rfl)
theorem dL_law_291 : decode cL_law 291 = .ok (.invokevirtual 34, 3) := dk_182 0 34 (dk_at dksL_law_6 16 rfl rfl)
theorem dL_law_294 : decode cL_law 294 = .ok (.if_icmp .eq 1069, 3) := dk_159 4 45 (dk_at dksL_law_6 19 rfl rfl)
theorem dL_law_297 : decode cL_law 297 = .ok (.iconst 0, 1) := dk_3 (dk_at dksL_law_6 22 rfl rfl)
theorem dL_law_298 : decode cL_law 298 = .ok (.ireturn, 1) := dk_172 (dk_at dksL_law_6 23 rfl rfl)
theorem dL_law_299 : decode cL_law 299 = .ok (.aload_n 1, 1) := dk_43 (dk_at dksL_law_7 0 rfl rfl)
theorem dL_law_300 : decode cL_law 300 = .ok (.aload_n 0, 1) := dk_42 (dk_at dksL_law_7 1 rfl rfl)
theorem dL_law_301 : decode cL_law 301 = .ok (.iload_n 3, 1) := dk_29 (dk_at dksL_law_7 2 rfl rfl)
theorem dL_law_302 : decode cL_law 302 = .ok (.iconst 1, 1) := dk_4 (dk_at dksL_law_7 3 rfl rfl)
theorem dL_law_303 : decode cL_law 303 = .ok (.iadd, 1) := dk_96 (dk_at dksL_law_7 4 rfl rfl)
theorem dL_law_304 : decode cL_law 304 = .ok (.iaload, 1) := dk_46 (dk_at dksL_law_7 5 rfl rfl)
theorem dL_law_305 : decode cL_law 305 = .ok (.aload_n 0, 1) := dk_42 (dk_at dksL_law_7 6 rfl rfl)
theorem dL_law_306 : decode cL_law 306 = .ok (.iload_n 3, 1) := dk_29 (dk_at dksL_law_7 7 rfl rfl)
theorem dL_law_307 : decode cL_law 307 = .ok (.iconst 2, 1) := dk_5 (dk_at dksL_law_7 8 rfl rfl)
theorem dL_law_308 : decode cL_law 308 = .ok (.iadd, 1) := dk_96 (dk_at dksL_law_7 9 rfl rfl)
theorem dL_law_309 : decode cL_law 309 = .ok (.iaload, 1) := dk_46 (dk_at dksL_law_7 10 rfl rfl)
theorem dL_law_310 : decode cL_law 310 = .ok (.invokevirtual 35, 3) := dk_182 0 35 (dk_at dksL_law_7 11 rfl rfl)
theorem dL_law_313 : decode cL_law 313 = .ok (.aload_n 2, 1) := dk_44 (dk_at dksL_law_7 14 rfl rfl)
theorem dL_law_314 : decode cL_law 314 = .ok (.aload_n 0, 1) := dk_42 (dk_at dksL_law_7 15 rfl rfl)
theorem dL_law_315 : decode cL_law 315 = .ok (.iload_n 3, 1) := dk_29 (dk_at dksL_law_7 16 rfl rfl)
theorem dL_law_316 : decode cL_law 316 = .ok (.iconst 1, 1) := dk_4 (dk_at dksL_law_7 17 rfl rfl)
theorem dL_law_317 : decode cL_law 317 = .ok (.iadd, 1) := dk_96 (dk_at dksL_law_7 18 rfl rfl)
theorem dL_law_318 : decode cL_law 318 = .ok (.iaload, 1) := dk_46 (dk_at dksL_law_7 19 rfl rfl)
theorem dL_law_319 : decode cL_law 319 = .ok (.aload_n 0, 1) := dk_42 (dk_at dksL_law_7 20 rfl rfl)
theorem dL_law_320 : decode cL_law 320 = .ok (.iload_n 3, 1) := dk_29 (dk_at dksL_law_7 21 rfl rfl)
theorem dL_law_321 : decode cL_law 321 = .ok (.iconst 2, 1) := dk_5 (dk_at dksL_law_7 22 rfl rfl)
theorem dL_law_322 : decode cL_law 322 = .ok (.iadd, 1) := dk_96 (dk_at dksL_law_7 23 rfl rfl)
theorem dL_law_323 : decode cL_law 323 = .ok (.iaload, 1) := dk_46 (dk_at dksL_law_8 0 rfl rfl)
theorem dL_law_324 : decode cL_law 324 = .ok (.invokevirtual 39, 3) := dk_182 0 39 (dk_at dksL_law_8 1 rfl rfl)
theorem dL_law_327 : decode cL_law 327 = .ok (.if_icmp .eq 1036, 3) := dk_159 4 12 (dk_at dksL_law_8 4 rfl rfl)
theorem dL_law_330 : decode cL_law 330 = .ok (.iconst 0, 1) := dk_3 (dk_at dksL_law_8 7 rfl rfl)
theorem dL_law_331 : decode cL_law 331 = .ok (.ireturn, 1) := dk_172 (dk_at dksL_law_8 8 rfl rfl)
theorem dL_law_332 : decode cL_law 332 = .ok (.aload_n 1, 1) := dk_43 (dk_at dksL_law_8 9 rfl rfl)
theorem dL_law_333 : decode cL_law 333 = .ok (.aload_n 0, 1) := dk_42 (dk_at dksL_law_8 10 rfl rfl)
theorem dL_law_334 : decode cL_law 334 = .ok (.iload_n 3, 1) := dk_29 (dk_at dksL_law_8 11 rfl rfl)
theorem dL_law_335 : decode cL_law 335 = .ok (.iconst 1, 1) := dk_4 (dk_at dksL_law_8 12 rfl rfl)
theorem dL_law_336 : decode cL_law 336 = .ok (.iadd, 1) := dk_96 (dk_at dksL_law_8 13 rfl rfl)
theorem dL_law_337 : decode cL_law 337 = .ok (.iaload, 1) := dk_46 (dk_at dksL_law_8 14 rfl rfl)
theorem dL_law_338 : decode cL_law 338 = .ok (.aload_n 0, 1) := dk_42 (dk_at dksL_law_8 15 rfl rfl)
theorem dL_law_339 : decode cL_law 339 = .ok (.iload_n 3, 1) := dk_29 (dk_at dksL_law_8 16 rfl rfl)
theorem dL_law_340 : decode cL_law 340 = .ok (.iconst 2, 1) := dk_5 (dk_at dksL_law_8 17 rfl rfl)
theorem dL_law_341 : decode cL_law 341 = .ok (.iadd, 1) := dk_96 (dk_at dksL_law_8 18 rfl rfl)
theorem dL_law_342 : decode cL_law 342 = .ok (.iaload, 1) := dk_46 (dk_at dksL_law_8 19 rfl rfl)
theorem dL_law_343 : decode cL_law 343 = .ok (.invokevirtual 40, 3) := dk_182 0 40 (dk_at dksL_law_8 20 rfl rfl)
theorem dL_law_346 : decode cL_law 346 = .ok (.aload_n 2, 1) := dk_44 (dk_at dksL_law_8 23 rfl rfl)
theorem dL_law_347 : decode cL_law 347 = .ok (.aload_n 0, 1) := dk_42 (dk_at dksL_law_9 0 rfl rfl)
theorem dL_law_348 : decode cL_law 348 = .ok (.iload_n 3, 1) := dk_29 (dk_at dksL_law_9 1 rfl rfl)
theorem dL_law_349 : decode cL_law 349 = .ok (.iconst 1, 1) := dk_4 (dk_at dksL_law_9 2 rfl rfl)
theorem dL_law_350 : decode cL_law 350 = .ok (.iadd, 1) := dk_96 (dk_at dksL_law_9 3 rfl rfl)
theorem dL_law_351 : decode cL_law 351 = .ok (.iaload, 1) := dk_46 (dk_at dksL_law_9 4 rfl rfl)
theorem dL_law_352 : decode cL_law 352 = .ok (.aload_n 0, 1) := dk_42 (dk_at dksL_law_9 5 rfl rfl)
theorem dL_law_353 : decode cL_law 353 = .ok (.iload_n 3, 1) := dk_29 (dk_at dksL_law_9 6 rfl rfl)
theorem dL_law_354 : decode cL_law 354 = .ok (.iconst 2, 1) := dk_5 (dk_at dksL_law_9 7 rfl rfl)
theorem dL_law_355 : decode cL_law 355 = .ok (.iadd, 1) := dk_96 (dk_at dksL_law_9 8 rfl rfl)
theorem dL_law_356 : decode cL_law 356 = .ok (.iaload, 1) := dk_46 (dk_at dksL_law_9 9 rfl rfl)
theorem dL_law_357 : decode cL_law 357 = .ok (.invokevirtual 43, 3) := dk_182 0 43 (dk_at dksL_law_9 10 rfl rfl)
theorem dL_law_360 : decode cL_law 360 = .ok (.if_icmp .eq 1003, 3) := dk_159 3 235 (dk_at dksL_law_9 13 rfl rfl)
theorem dL_law_363 : decode cL_law 363 = .ok (.iconst 0, 1) := dk_3 (dk_at dksL_law_9 16 rfl rfl)
theorem dL_law_364 : decode cL_law 364 = .ok (.ireturn, 1) := dk_172 (dk_at dksL_law_9 17 rfl rfl)
theorem dL_law_365 : decode cL_law 365 = .ok (.aload_n 1, 1) := dk_43 (dk_at dksL_law_9 18 rfl rfl)
theorem dL_law_366 : decode cL_law 366 = .ok (.aload_n 0, 1) := dk_42 (dk_at dksL_law_9 19 rfl rfl)
theorem dL_law_367 : decode cL_law 367 = .ok (.iload_n 3, 1) := dk_29 (dk_at dksL_law_9 20 rfl rfl)
theorem dL_law_368 : decode cL_law 368 = .ok (.iconst 1, 1) := dk_4 (dk_at dksL_law_9 21 rfl rfl)
theorem dL_law_369 : decode cL_law 369 = .ok (.iadd, 1) := dk_96 (dk_at dksL_law_9 22 rfl rfl)
theorem dL_law_370 : decode cL_law 370 = .ok (.iaload, 1) := dk_46 (dk_at dksL_law_9 23 rfl rfl)
theorem dL_law_371 : decode cL_law 371 = .ok (.aload_n 0, 1) := dk_42 (dk_at dksL_law_10 0 rfl rfl)
theorem dL_law_372 : decode cL_law 372 = .ok (.iload_n 3, 1) := dk_29 (dk_at dksL_law_10 1 rfl rfl)
theorem dL_law_373 : decode cL_law 373 = .ok (.iconst 2, 1) := dk_5 (dk_at dksL_law_10 2 rfl rfl)
theorem dL_law_374 : decode cL_law 374 = .ok (.iadd, 1) := dk_96 (dk_at dksL_law_10 3 rfl rfl)
theorem dL_law_375 : decode cL_law 375 = .ok (.iaload, 1) := dk_46 (dk_at dksL_law_10 4 rfl rfl)
theorem dL_law_376 : decode cL_law 376 = .ok (.invokevirtual 44, 3) := dk_182 0 44 (dk_at dksL_law_10 5 rfl rfl)
theorem dL_law_379 : decode cL_law 379 = .ok (.aload_n 2, 1) := dk_44 (dk_at dksL_law_10 8 rfl rfl)
theorem dL_law_380 : decode cL_law 380 = .ok (.aload_n 0, 1) := dk_42 (dk_at dksL_law_10 9 rfl rfl)
theorem dL_law_381 : decode cL_law 381 = .ok (.iload_n 3, 1) := dk_29 (dk_at dksL_law_10 10 rfl rfl)
theorem dL_law_382 : decode cL_law 382 = .ok (.iconst 1, 1) := dk_4 (dk_at dksL_law_10 11 rfl rfl)
theorem dL_law_383 : decode cL_law 383 = .ok (.iadd, 1) := dk_96 (dk_at dksL_law_10 12 rfl rfl)
theorem dL_law_384 : decode cL_law 384 = .ok (.iaload, 1) := dk_46 (dk_at dksL_law_10 13 rfl rfl)
theorem dL_law_385 : decode cL_law 385 = .ok (.aload_n 0, 1) := dk_42 (dk_at dksL_law_10 14 rfl rfl)
theorem dL_law_386 : decode cL_law 386 = .ok (.iload_n 3, 1) := dk_29 (dk_at dksL_law_10 15 rfl rfl)
theorem dL_law_387 : decode cL_law 387 = .ok (.iconst 2, 1) := dk_5 (dk_at dksL_law_10 16 rfl rfl)
theorem dL_law_388 : decode cL_law 388 = .ok (.iadd, 1) := dk_96 (dk_at dksL_law_10 17 rfl rfl)
theorem dL_law_389 : decode cL_law 389 = .ok (.iaload, 1) := dk_46 (dk_at dksL_law_10 18 rfl rfl)
theorem dL_law_390 : decode cL_law 390 = .ok (.invokevirtual 47, 3) := dk_182 0 47 (dk_at dksL_law_10 19 rfl rfl)
theorem dL_law_393 : decode cL_law 393 = .ok (.if_icmp .eq 970, 3) := dk_159 3 202 (dk_at dksL_law_11 0 rfl rfl)
theorem dL_law_396 : decode cL_law 396 = .ok (.iconst 0, 1) := dk_3 (dk_at dksL_law_11 3 rfl rfl)
theorem dL_law_397 : decode cL_law 397 = .ok (.ireturn, 1) := dk_172 (dk_at dksL_law_11 4 rfl rfl)
theorem dL_law_398 : decode cL_law 398 = .ok (.aload_n 1, 1) := dk_43 (dk_at dksL_law_11 5 rfl rfl)
theorem dL_law_399 : decode cL_law 399 = .ok (.aload_n 0, 1) := dk_42 (dk_at dksL_law_11 6 rfl rfl)
theorem dL_law_400 : decode cL_law 400 = .ok (.iload_n 3, 1) := dk_29 (dk_at dksL_law_11 7 rfl rfl)
theorem dL_law_401 : decode cL_law 401 = .ok (.iconst 1, 1) := dk_4 (dk_at dksL_law_11 8 rfl rfl)
theorem dL_law_402 : decode cL_law 402 = .ok (.iadd, 1) := dk_96 (dk_at dksL_law_11 9 rfl rfl)
theorem dL_law_403 : decode cL_law 403 = .ok (.iaload, 1) := dk_46 (dk_at dksL_law_11 10 rfl rfl)
theorem dL_law_404 : decode cL_law 404 = .ok (.aload_n 0, 1) := dk_42 (dk_at dksL_law_11 11 rfl rfl)
theorem dL_law_405 : decode cL_law 405 = .ok (.iload_n 3, 1) := dk_29 (dk_at dksL_law_11 12 rfl rfl)
theorem dL_law_406 : decode cL_law 406 = .ok (.iconst 2, 1) := dk_5 (dk_at dksL_law_11 13 rfl rfl)
theorem dL_law_407 : decode cL_law 407 = .ok (.iadd, 1) := dk_96 (dk_at dksL_law_11 14 rfl rfl)
theorem dL_law_408 : decode cL_law 408 = .ok (.iaload, 1) := dk_46 (dk_at dksL_law_11 15 rfl rfl)
theorem dL_law_409 : decode cL_law 409 = .ok (.aload_n 0, 1) := dk_42 (dk_at dksL_law_11 16 rfl rfl)
theorem dL_law_410 : decode cL_law 410 = .ok (.iload_n 3, 1) := dk_29 (dk_at dksL_law_11 17 rfl rfl)
theorem dL_law_411 : decode cL_law 411 = .ok (.iconst 3, 1) := dk_6 (dk_at dksL_law_11 18 rfl rfl)
theorem dL_law_412 : decode cL_law 412 = .ok (.iadd, 1) := dk_96 (dk_at dksL_law_11 19 rfl rfl)
theorem dL_law_413 : decode cL_law 413 = .ok (.iaload, 1) := dk_46 (dk_at dksL_law_11 20 rfl rfl)
theorem dL_law_414 : decode cL_law 414 = .ok (.invokevirtual 48, 3) := dk_182 0 48 (dk_at dksL_law_11 21 rfl rfl)
theorem dL_law_417 : decode cL_law 417 = .ok (.aload_n 2, 1) := dk_44 (dk_at dksL_law_12 0 rfl rfl)
theorem dL_law_418 : decode cL_law 418 = .ok (.aload_n 0, 1) := dk_42 (dk_at dksL_law_12 1 rfl rfl)
theorem dL_law_419 : decode cL_law 419 = .ok (.iload_n 3, 1) := dk_29 (dk_at dksL_law_12 2 rfl rfl)
theorem dL_law_420 : decode cL_law 420 = .ok (.iconst 1, 1) := dk_4 (dk_at dksL_law_12 3 rfl rfl)
theorem dL_law_421 : decode cL_law 421 = .ok (.iadd, 1) := dk_96 (dk_at dksL_law_12 4 rfl rfl)
theorem dL_law_422 : decode cL_law 422 = .ok (.iaload, 1) := dk_46 (dk_at dksL_law_12 5 rfl rfl)
theorem dL_law_423 : decode cL_law 423 = .ok (.aload_n 0, 1) := dk_42 (dk_at dksL_law_12 6 rfl rfl)
theorem dL_law_424 : decode cL_law 424 = .ok (.iload_n 3, 1) := dk_29 (dk_at dksL_law_12 7 rfl rfl)
theorem dL_law_425 : decode cL_law 425 = .ok (.iconst 2, 1) := dk_5 (dk_at dksL_law_12 8 rfl rfl)
theorem dL_law_426 : decode cL_law 426 = .ok (.iadd, 1) := dk_96 (dk_at dksL_law_12 9 rfl rfl)
theorem dL_law_427 : decode cL_law 427 = .ok (.iaload, 1) := dk_46 (dk_at dksL_law_12 10 rfl rfl)
theorem dL_law_428 : decode cL_law 428 = .ok (.aload_n 0, 1) := dk_42 (dk_at dksL_law_12 11 rfl rfl)
theorem dL_law_429 : decode cL_law 429 = .ok (.iload_n 3, 1) := dk_29 (dk_at dksL_law_12 12 rfl rfl)
theorem dL_law_430 : decode cL_law 430 = .ok (.iconst 3, 1) := dk_6 (dk_at dksL_law_12 13 rfl rfl)
theorem dL_law_431 : decode cL_law 431 = .ok (.iadd, 1) := dk_96 (dk_at dksL_law_12 14 rfl rfl)
theorem dL_law_432 : decode cL_law 432 = .ok (.iaload, 1) := dk_46 (dk_at dksL_law_12 15 rfl rfl)
theorem dL_law_433 : decode cL_law 433 = .ok (.invokevirtual 52, 3) := dk_182 0 52 (dk_at dksL_law_12 16 rfl rfl)
theorem dL_law_436 : decode cL_law 436 = .ok (.if_icmp .eq 927, 3) := dk_159 3 159 (dk_at dksL_law_12 19 rfl rfl)
theorem dL_law_439 : decode cL_law 439 = .ok (.iconst 0, 1) := dk_3 (dk_at dksL_law_12 22 rfl rfl)
theorem dL_law_440 : decode cL_law 440 = .ok (.ireturn, 1) := dk_172 (dk_at dksL_law_12 23 rfl rfl)
theorem dL_law_441 : decode cL_law 441 = .ok (.aload_n 1, 1) := dk_43 (dk_at dksL_law_13 0 rfl rfl)
theorem dL_law_442 : decode cL_law 442 = .ok (.aload_n 0, 1) := dk_42 (dk_at dksL_law_13 1 rfl rfl)
theorem dL_law_443 : decode cL_law 443 = .ok (.iload_n 3, 1) := dk_29 (dk_at dksL_law_13 2 rfl rfl)
theorem dL_law_444 : decode cL_law 444 = .ok (.iconst 1, 1) := dk_4 (dk_at dksL_law_13 3 rfl rfl)
theorem dL_law_445 : decode cL_law 445 = .ok (.iadd, 1) := dk_96 (dk_at dksL_law_13 4 rfl rfl)
theorem dL_law_446 : decode cL_law 446 = .ok (.iaload, 1) := dk_46 (dk_at dksL_law_13 5 rfl rfl)
theorem dL_law_447 : decode cL_law 447 = .ok (.invokevirtual 53, 3) := dk_182 0 53 (dk_at dksL_law_13 6 rfl rfl)
theorem dL_law_450 : decode cL_law 450 = .ok (.aload_n 2, 1) := dk_44 (dk_at dksL_law_13 9 rfl rfl)
theorem dL_law_451 : decode cL_law 451 = .ok (.aload_n 0, 1) := dk_42 (dk_at dksL_law_13 10 rfl rfl)
theorem dL_law_452 : decode cL_law 452 = .ok (.iload_n 3, 1) := dk_29 (dk_at dksL_law_13 11 rfl rfl)
theorem dL_law_453 : decode cL_law 453 = .ok (.iconst 1, 1) := dk_4 (dk_at dksL_law_13 12 rfl rfl)
theorem dL_law_454 : decode cL_law 454 = .ok (.iadd, 1) := dk_96 (dk_at dksL_law_13 13 rfl rfl)
theorem dL_law_455 : decode cL_law 455 = .ok (.iaload, 1) := dk_46 (dk_at dksL_law_13 14 rfl rfl)
theorem dL_law_456 : decode cL_law 456 = .ok (.invokevirtual 56, 3) := dk_182 0 56 (dk_at dksL_law_13 15 rfl rfl)
theorem dL_law_459 : decode cL_law 459 = .ok (.if_icmp .eq 904, 3) := dk_159 3 136 (dk_at dksL_law_13 18 rfl rfl)
theorem dL_law_462 : decode cL_law 462 = .ok (.iconst 0, 1) := dk_3 (dk_at dksL_law_13 21 rfl rfl)
theorem dL_law_463 : decode cL_law 463 = .ok (.ireturn, 1) := dk_172 (dk_at dksL_law_13 22 rfl rfl)
theorem dL_law_464 : decode cL_law 464 = .ok (.aload_n 1, 1) := dk_43 (dk_at dksL_law_13 23 rfl rfl)
theorem dL_law_465 : decode cL_law 465 = .ok (.aload_n 0, 1) := dk_42 (dk_at dksL_law_14 0 rfl rfl)
theorem dL_law_466 : decode cL_law 466 = .ok (.iload_n 3, 1) := dk_29 (dk_at dksL_law_14 1 rfl rfl)
theorem dL_law_467 : decode cL_law 467 = .ok (.iconst 1, 1) := dk_4 (dk_at dksL_law_14 2 rfl rfl)
theorem dL_law_468 : decode cL_law 468 = .ok (.iadd, 1) := dk_96 (dk_at dksL_law_14 3 rfl rfl)
theorem dL_law_469 : decode cL_law 469 = .ok (.iaload, 1) := dk_46 (dk_at dksL_law_14 4 rfl rfl)
theorem dL_law_470 : decode cL_law 470 = .ok (.aload_n 0, 1) := dk_42 (dk_at dksL_law_14 5 rfl rfl)
theorem dL_law_471 : decode cL_law 471 = .ok (.iload_n 3, 1) := dk_29 (dk_at dksL_law_14 6 rfl rfl)
theorem dL_law_472 : decode cL_law 472 = .ok (.iconst 2, 1) := dk_5 (dk_at dksL_law_14 7 rfl rfl)
theorem dL_law_473 : decode cL_law 473 = .ok (.iadd, 1) := dk_96 (dk_at dksL_law_14 8 rfl rfl)
theorem dL_law_474 : decode cL_law 474 = .ok (.iaload, 1) := dk_46 (dk_at dksL_law_14 9 rfl rfl)
theorem dL_law_475 : decode cL_law 475 = .ok (.aload_n 0, 1) := dk_42 (dk_at dksL_law_14 10 rfl rfl)
theorem dL_law_476 : decode cL_law 476 = .ok (.iload_n 3, 1) := dk_29 (dk_at dksL_law_14 11 rfl rfl)
theorem dL_law_477 : decode cL_law 477 = .ok (.iconst 3, 1) := dk_6 (dk_at dksL_law_14 12 rfl rfl)
theorem dL_law_478 : decode cL_law 478 = .ok (.iadd, 1) := dk_96 (dk_at dksL_law_14 13 rfl rfl)
theorem dL_law_479 : decode cL_law 479 = .ok (.iaload, 1) := dk_46 (dk_at dksL_law_14 14 rfl rfl)
theorem dL_law_480 : decode cL_law 480 = .ok (.invokevirtual 57, 3) := dk_182 0 57 (dk_at dksL_law_14 15 rfl rfl)
theorem dL_law_483 : decode cL_law 483 = .ok (.aload_n 2, 1) := dk_44 (dk_at dksL_law_14 18 rfl rfl)
theorem dL_law_484 : decode cL_law 484 = .ok (.aload_n 0, 1) := dk_42 (dk_at dksL_law_14 19 rfl rfl)
theorem dL_law_485 : decode cL_law 485 = .ok (.iload_n 3, 1) := dk_29 (dk_at dksL_law_14 20 rfl rfl)
theorem dL_law_486 : decode cL_law 486 = .ok (.iconst 1, 1) := dk_4 (dk_at dksL_law_14 21 rfl rfl)
theorem dL_law_487 : decode cL_law 487 = .ok (.iadd, 1) := dk_96 (dk_at dksL_law_14 22 rfl rfl)
theorem dL_law_488 : decode cL_law 488 = .ok (.iaload, 1) := dk_46 (dk_at dksL_law_14 23 rfl rfl)
theorem dL_law_489 : decode cL_law 489 = .ok (.aload_n 0, 1) := dk_42 (dk_at dksL_law_15 0 rfl rfl)
theorem dL_law_490 : decode cL_law 490 = .ok (.iload_n 3, 1) := dk_29 (dk_at dksL_law_15 1 rfl rfl)
theorem dL_law_491 : decode cL_law 491 = .ok (.iconst 2, 1) := dk_5 (dk_at dksL_law_15 2 rfl rfl)
theorem dL_law_492 : decode cL_law 492 = .ok (.iadd, 1) := dk_96 (dk_at dksL_law_15 3 rfl rfl)
theorem dL_law_493 : decode cL_law 493 = .ok (.iaload, 1) := dk_46 (dk_at dksL_law_15 4 rfl rfl)
theorem dL_law_494 : decode cL_law 494 = .ok (.aload_n 0, 1) := dk_42 (dk_at dksL_law_15 5 rfl rfl)
theorem dL_law_495 : decode cL_law 495 = .ok (.iload_n 3, 1) := dk_29 (dk_at dksL_law_15 6 rfl rfl)
theorem dL_law_496 : decode cL_law 496 = .ok (.iconst 3, 1) := dk_6 (dk_at dksL_law_15 7 rfl rfl)
theorem dL_law_497 : decode cL_law 497 = .ok (.iadd, 1) := dk_96 (dk_at dksL_law_15 8 rfl rfl)
theorem dL_law_498 : decode cL_law 498 = .ok (.iaload, 1) := dk_46 (dk_at dksL_law_15 9 rfl rfl)
theorem dL_law_499 : decode cL_law 499 = .ok (.invokevirtual 60, 3) := dk_182 0 60 (dk_at dksL_law_15 10 rfl rfl)
theorem dL_law_502 : decode cL_law 502 = .ok (.if_icmp .eq 861, 3) := dk_159 3 93 (dk_at dksL_law_15 13 rfl rfl)
theorem dL_law_505 : decode cL_law 505 = .ok (.iconst 0, 1) := dk_3 (dk_at dksL_law_15 16 rfl rfl)
theorem dL_law_506 : decode cL_law 506 = .ok (.ireturn, 1) := dk_172 (dk_at dksL_law_15 17 rfl rfl)
theorem dL_law_507 : decode cL_law 507 = .ok (.aload_n 1, 1) := dk_43 (dk_at dksL_law_15 18 rfl rfl)
theorem dL_law_508 : decode cL_law 508 = .ok (.aload_n 0, 1) := dk_42 (dk_at dksL_law_15 19 rfl rfl)
theorem dL_law_509 : decode cL_law 509 = .ok (.iload_n 3, 1) := dk_29 (dk_at dksL_law_15 20 rfl rfl)
theorem dL_law_510 : decode cL_law 510 = .ok (.iconst 1, 1) := dk_4 (dk_at dksL_law_15 21 rfl rfl)
theorem dL_law_511 : decode cL_law 511 = .ok (.iadd, 1) := dk_96 (dk_at dksL_law_15 22 rfl rfl)
theorem dL_law_512 : decode cL_law 512 = .ok (.iaload, 1) := dk_46 (dk_at dksL_law_15 23 rfl rfl)
theorem dL_law_513 : decode cL_law 513 = .ok (.invokevirtual 61, 3) := dk_182 0 61 (dk_at dksL_law_16 0 rfl rfl)
theorem dL_law_516 : decode cL_law 516 = .ok (.aload_n 2, 1) := dk_44 (dk_at dksL_law_16 3 rfl rfl)
theorem dL_law_517 : decode cL_law 517 = .ok (.aload_n 0, 1) := dk_42 (dk_at dksL_law_16 4 rfl rfl)
theorem dL_law_518 : decode cL_law 518 = .ok (.iload_n 3, 1) := dk_29 (dk_at dksL_law_16 5 rfl rfl)
theorem dL_law_519 : decode cL_law 519 = .ok (.iconst 1, 1) := dk_4 (dk_at dksL_law_16 6 rfl rfl)
theorem dL_law_520 : decode cL_law 520 = .ok (.iadd, 1) := dk_96 (dk_at dksL_law_16 7 rfl rfl)
theorem dL_law_521 : decode cL_law 521 = .ok (.iaload, 1) := dk_46 (dk_at dksL_law_16 8 rfl rfl)
theorem dL_law_522 : decode cL_law 522 = .ok (.invokevirtual 64, 3) := dk_182 0 64 (dk_at dksL_law_16 9 rfl rfl)
theorem dL_law_525 : decode cL_law 525 = .ok (.if_icmp .eq 838, 3) := dk_159 3 70 (dk_at dksL_law_16 12 rfl rfl)
theorem dL_law_528 : decode cL_law 528 = .ok (.iconst 0, 1) := dk_3 (dk_at dksL_law_16 15 rfl rfl)
theorem dL_law_529 : decode cL_law 529 = .ok (.ireturn, 1) := dk_172 (dk_at dksL_law_16 16 rfl rfl)
theorem dL_law_530 : decode cL_law 530 = .ok (.aload_n 1, 1) := dk_43 (dk_at dksL_law_16 17 rfl rfl)
theorem dL_law_531 : decode cL_law 531 = .ok (.aload_n 0, 1) := dk_42 (dk_at dksL_law_16 18 rfl rfl)
theorem dL_law_532 : decode cL_law 532 = .ok (.iload_n 3, 1) := dk_29 (dk_at dksL_law_16 19 rfl rfl)
theorem dL_law_533 : decode cL_law 533 = .ok (.iconst 1, 1) := dk_4 (dk_at dksL_law_16 20 rfl rfl)
theorem dL_law_534 : decode cL_law 534 = .ok (.iadd, 1) := dk_96 (dk_at dksL_law_16 21 rfl rfl)
theorem dL_law_535 : decode cL_law 535 = .ok (.iaload, 1) := dk_46 (dk_at dksL_law_16 22 rfl rfl)
theorem dL_law_536 : decode cL_law 536 = .ok (.aload_n 0, 1) := dk_42 (dk_at dksL_law_16 23 rfl rfl)
theorem dL_law_537 : decode cL_law 537 = .ok (.iload_n 3, 1) := dk_29 (dk_at dksL_law_17 0 rfl rfl)
theorem dL_law_538 : decode cL_law 538 = .ok (.iconst 2, 1) := dk_5 (dk_at dksL_law_17 1 rfl rfl)
theorem dL_law_539 : decode cL_law 539 = .ok (.iadd, 1) := dk_96 (dk_at dksL_law_17 2 rfl rfl)
theorem dL_law_540 : decode cL_law 540 = .ok (.iaload, 1) := dk_46 (dk_at dksL_law_17 3 rfl rfl)
theorem dL_law_541 : decode cL_law 541 = .ok (.invokevirtual 65, 3) := dk_182 0 65 (dk_at dksL_law_17 4 rfl rfl)
theorem dL_law_544 : decode cL_law 544 = .ok (.aload_n 2, 1) := dk_44 (dk_at dksL_law_17 7 rfl rfl)
theorem dL_law_545 : decode cL_law 545 = .ok (.aload_n 0, 1) := dk_42 (dk_at dksL_law_17 8 rfl rfl)
theorem dL_law_546 : decode cL_law 546 = .ok (.iload_n 3, 1) := dk_29 (dk_at dksL_law_17 9 rfl rfl)
theorem dL_law_547 : decode cL_law 547 = .ok (.iconst 1, 1) := dk_4 (dk_at dksL_law_17 10 rfl rfl)
theorem dL_law_548 : decode cL_law 548 = .ok (.iadd, 1) := dk_96 (dk_at dksL_law_17 11 rfl rfl)
theorem dL_law_549 : decode cL_law 549 = .ok (.iaload, 1) := dk_46 (dk_at dksL_law_17 12 rfl rfl)
theorem dL_law_550 : decode cL_law 550 = .ok (.aload_n 0, 1) := dk_42 (dk_at dksL_law_17 13 rfl rfl)
theorem dL_law_551 : decode cL_law 551 = .ok (.iload_n 3, 1) := dk_29 (dk_at dksL_law_17 14 rfl rfl)
theorem dL_law_552 : decode cL_law 552 = .ok (.iconst 2, 1) := dk_5 (dk_at dksL_law_17 15 rfl rfl)
theorem dL_law_553 : decode cL_law 553 = .ok (.iadd, 1) := dk_96 (dk_at dksL_law_17 16 rfl rfl)
theorem dL_law_554 : decode cL_law 554 = .ok (.iaload, 1) := dk_46 (dk_at dksL_law_17 17 rfl rfl)
theorem dL_law_555 : decode cL_law 555 = .ok (.invokevirtual 68, 3) := dk_182 0 68 (dk_at dksL_law_17 18 rfl rfl)
theorem dL_law_558 : decode cL_law 558 = .ok (.if_icmp .eq 805, 3) := dk_159 3 37 (dk_at dksL_law_17 21 rfl rfl)
theorem dL_law_561 : decode cL_law 561 = .ok (.iconst 0, 1) := dk_3 (dk_at dksL_law_18 0 rfl rfl)
theorem dL_law_562 : decode cL_law 562 = .ok (.ireturn, 1) := dk_172 (dk_at dksL_law_18 1 rfl rfl)
theorem dL_law_563 : decode cL_law 563 = .ok (.aload_n 1, 1) := dk_43 (dk_at dksL_law_18 2 rfl rfl)
theorem dL_law_564 : decode cL_law 564 = .ok (.aload_n 0, 1) := dk_42 (dk_at dksL_law_18 3 rfl rfl)
theorem dL_law_565 : decode cL_law 565 = .ok (.iload_n 3, 1) := dk_29 (dk_at dksL_law_18 4 rfl rfl)
theorem dL_law_566 : decode cL_law 566 = .ok (.iconst 1, 1) := dk_4 (dk_at dksL_law_18 5 rfl rfl)
theorem dL_law_567 : decode cL_law 567 = .ok (.iadd, 1) := dk_96 (dk_at dksL_law_18 6 rfl rfl)
theorem dL_law_568 : decode cL_law 568 = .ok (.iaload, 1) := dk_46 (dk_at dksL_law_18 7 rfl rfl)
theorem dL_law_569 : decode cL_law 569 = .ok (.aload_n 0, 1) := dk_42 (dk_at dksL_law_18 8 rfl rfl)
theorem dL_law_570 : decode cL_law 570 = .ok (.iload_n 3, 1) := dk_29 (dk_at dksL_law_18 9 rfl rfl)
theorem dL_law_571 : decode cL_law 571 = .ok (.iconst 2, 1) := dk_5 (dk_at dksL_law_18 10 rfl rfl)
theorem dL_law_572 : decode cL_law 572 = .ok (.iadd, 1) := dk_96 (dk_at dksL_law_18 11 rfl rfl)
theorem dL_law_573 : decode cL_law 573 = .ok (.iaload, 1) := dk_46 (dk_at dksL_law_18 12 rfl rfl)
theorem dL_law_574 : decode cL_law 574 = .ok (.aload_n 0, 1) := dk_42 (dk_at dksL_law_18 13 rfl rfl)
theorem dL_law_575 : decode cL_law 575 = .ok (.iload_n 3, 1) := dk_29 (dk_at dksL_law_18 14 rfl rfl)
theorem dL_law_576 : decode cL_law 576 = .ok (.iconst 3, 1) := dk_6 (dk_at dksL_law_18 15 rfl rfl)
theorem dL_law_577 : decode cL_law 577 = .ok (.iadd, 1) := dk_96 (dk_at dksL_law_18 16 rfl rfl)
theorem dL_law_578 : decode cL_law 578 = .ok (.iaload, 1) := dk_46 (dk_at dksL_law_18 17 rfl rfl)
theorem dL_law_579 : decode cL_law 579 = .ok (.invokevirtual 69, 3) := dk_182 0 69 (dk_at dksL_law_18 18 rfl rfl)
theorem dL_law_582 : decode cL_law 582 = .ok (.aload_n 2, 1) := dk_44 (dk_at dksL_law_18 21 rfl rfl)
theorem dL_law_583 : decode cL_law 583 = .ok (.aload_n 0, 1) := dk_42 (dk_at dksL_law_18 22 rfl rfl)
theorem dL_law_584 : decode cL_law 584 = .ok (.iload_n 3, 1) := dk_29 (dk_at dksL_law_18 23 rfl rfl)
theorem dL_law_585 : decode cL_law 585 = .ok (.iconst 1, 1) := dk_4 (dk_at dksL_law_19 0 rfl rfl)
theorem dL_law_586 : decode cL_law 586 = .ok (.iadd, 1) := dk_96 (dk_at dksL_law_19 1 rfl rfl)
theorem dL_law_587 : decode cL_law 587 = .ok (.iaload, 1) := dk_46 (dk_at dksL_law_19 2 rfl rfl)
theorem dL_law_588 : decode cL_law 588 = .ok (.aload_n 0, 1) := dk_42 (dk_at dksL_law_19 3 rfl rfl)
theorem dL_law_589 : decode cL_law 589 = .ok (.iload_n 3, 1) := dk_29 (dk_at dksL_law_19 4 rfl rfl)
theorem dL_law_590 : decode cL_law 590 = .ok (.iconst 2, 1) := dk_5 (dk_at dksL_law_19 5 rfl rfl)
theorem dL_law_591 : decode cL_law 591 = .ok (.iadd, 1) := dk_96 (dk_at dksL_law_19 6 rfl rfl)
theorem dL_law_592 : decode cL_law 592 = .ok (.iaload, 1) := dk_46 (dk_at dksL_law_19 7 rfl rfl)
theorem dL_law_593 : decode cL_law 593 = .ok (.aload_n 0, 1) := dk_42 (dk_at dksL_law_19 8 rfl rfl)
theorem dL_law_594 : decode cL_law 594 = .ok (.iload_n 3, 1) := dk_29 (dk_at dksL_law_19 9 rfl rfl)
theorem dL_law_595 : decode cL_law 595 = .ok (.iconst 3, 1) := dk_6 (dk_at dksL_law_19 10 rfl rfl)
theorem dL_law_596 : decode cL_law 596 = .ok (.iadd, 1) := dk_96 (dk_at dksL_law_19 11 rfl rfl)
theorem dL_law_597 : decode cL_law 597 = .ok (.iaload, 1) := dk_46 (dk_at dksL_law_19 12 rfl rfl)
theorem dL_law_598 : decode cL_law 598 = .ok (.invokevirtual 72, 3) := dk_182 0 72 (dk_at dksL_law_19 13 rfl rfl)
theorem dL_law_601 : decode cL_law 601 = .ok (.if_icmp .eq 762, 3) := dk_159 2 250 (dk_at dksL_law_19 16 rfl rfl)
theorem dL_law_604 : decode cL_law 604 = .ok (.iconst 0, 1) := dk_3 (dk_at dksL_law_19 19 rfl rfl)
theorem dL_law_605 : decode cL_law 605 = .ok (.ireturn, 1) := dk_172 (dk_at dksL_law_19 20 rfl rfl)
theorem dL_law_606 : decode cL_law 606 = .ok (.aload_n 1, 1) := dk_43 (dk_at dksL_law_19 21 rfl rfl)
theorem dL_law_607 : decode cL_law 607 = .ok (.aload_n 0, 1) := dk_42 (dk_at dksL_law_19 22 rfl rfl)
theorem dL_law_608 : decode cL_law 608 = .ok (.iload_n 3, 1) := dk_29 (dk_at dksL_law_19 23 rfl rfl)
theorem dL_law_609 : decode cL_law 609 = .ok (.iconst 1, 1) := dk_4 (dk_at dksL_law_20 0 rfl rfl)
theorem dL_law_610 : decode cL_law 610 = .ok (.iadd, 1) := dk_96 (dk_at dksL_law_20 1 rfl rfl)
theorem dL_law_611 : decode cL_law 611 = .ok (.iaload, 1) := dk_46 (dk_at dksL_law_20 2 rfl rfl)
theorem dL_law_612 : decode cL_law 612 = .ok (.invokevirtual 73, 3) := dk_182 0 73 (dk_at dksL_law_20 3 rfl rfl)
theorem dL_law_615 : decode cL_law 615 = .ok (.aload_n 2, 1) := dk_44 (dk_at dksL_law_20 6 rfl rfl)
theorem dL_law_616 : decode cL_law 616 = .ok (.aload_n 0, 1) := dk_42 (dk_at dksL_law_20 7 rfl rfl)
theorem dL_law_617 : decode cL_law 617 = .ok (.iload_n 3, 1) := dk_29 (dk_at dksL_law_20 8 rfl rfl)
theorem dL_law_618 : decode cL_law 618 = .ok (.iconst 1, 1) := dk_4 (dk_at dksL_law_20 9 rfl rfl)
theorem dL_law_619 : decode cL_law 619 = .ok (.iadd, 1) := dk_96 (dk_at dksL_law_20 10 rfl rfl)
theorem dL_law_620 : decode cL_law 620 = .ok (.iaload, 1) := dk_46 (dk_at dksL_law_20 11 rfl rfl)
theorem dL_law_621 : decode cL_law 621 = .ok (.invokevirtual 76, 3) := dk_182 0 76 (dk_at dksL_law_20 12 rfl rfl)
theorem dL_law_624 : decode cL_law 624 = .ok (.if_icmp .eq 739, 3) := dk_159 2 227 (dk_at dksL_law_20 15 rfl rfl)
theorem dL_law_627 : decode cL_law 627 = .ok (.iconst 0, 1) := dk_3 (dk_at dksL_law_20 18 rfl rfl)
theorem dL_law_628 : decode cL_law 628 = .ok (.ireturn, 1) := dk_172 (dk_at dksL_law_20 19 rfl rfl)
theorem dL_law_629 : decode cL_law 629 = .ok (.aload_n 1, 1) := dk_43 (dk_at dksL_law_20 20 rfl rfl)
theorem dL_law_630 : decode cL_law 630 = .ok (.aload_n 0, 1) := dk_42 (dk_at dksL_law_20 21 rfl rfl)
theorem dL_law_631 : decode cL_law 631 = .ok (.iload_n 3, 1) := dk_29 (dk_at dksL_law_20 22 rfl rfl)
theorem dL_law_632 : decode cL_law 632 = .ok (.iconst 1, 1) := dk_4 (dk_at dksL_law_20 23 rfl rfl)
theorem dL_law_633 : decode cL_law 633 = .ok (.iadd, 1) := dk_96 (dk_at dksL_law_21 0 rfl rfl)
theorem dL_law_634 : decode cL_law 634 = .ok (.iaload, 1) := dk_46 (dk_at dksL_law_21 1 rfl rfl)
theorem dL_law_635 : decode cL_law 635 = .ok (.invokevirtual 77, 3) := dk_182 0 77 (dk_at dksL_law_21 2 rfl rfl)
theorem dL_law_638 : decode cL_law 638 = .ok (.aload_n 2, 1) := dk_44 (dk_at dksL_law_21 5 rfl rfl)
theorem dL_law_639 : decode cL_law 639 = .ok (.aload_n 0, 1) := dk_42 (dk_at dksL_law_21 6 rfl rfl)
theorem dL_law_640 : decode cL_law 640 = .ok (.iload_n 3, 1) := dk_29 (dk_at dksL_law_21 7 rfl rfl)
theorem dL_law_641 : decode cL_law 641 = .ok (.iconst 1, 1) := dk_4 (dk_at dksL_law_21 8 rfl rfl)
theorem dL_law_642 : decode cL_law 642 = .ok (.iadd, 1) := dk_96 (dk_at dksL_law_21 9 rfl rfl)
theorem dL_law_643 : decode cL_law 643 = .ok (.iaload, 1) := dk_46 (dk_at dksL_law_21 10 rfl rfl)
theorem dL_law_644 : decode cL_law 644 = .ok (.invokevirtual 80, 3) := dk_182 0 80 (dk_at dksL_law_21 11 rfl rfl)
theorem dL_law_647 : decode cL_law 647 = .ok (.if_icmp .eq 716, 3) := dk_159 2 204 (dk_at dksL_law_21 14 rfl rfl)
theorem dL_law_650 : decode cL_law 650 = .ok (.iconst 0, 1) := dk_3 (dk_at dksL_law_21 17 rfl rfl)
theorem dL_law_651 : decode cL_law 651 = .ok (.ireturn, 1) := dk_172 (dk_at dksL_law_21 18 rfl rfl)
theorem dL_law_652 : decode cL_law 652 = .ok (.aload_n 1, 1) := dk_43 (dk_at dksL_law_21 19 rfl rfl)
theorem dL_law_653 : decode cL_law 653 = .ok (.aload_n 0, 1) := dk_42 (dk_at dksL_law_21 20 rfl rfl)
theorem dL_law_654 : decode cL_law 654 = .ok (.iload_n 3, 1) := dk_29 (dk_at dksL_law_21 21 rfl rfl)
theorem dL_law_655 : decode cL_law 655 = .ok (.iconst 1, 1) := dk_4 (dk_at dksL_law_21 22 rfl rfl)
theorem dL_law_656 : decode cL_law 656 = .ok (.iadd, 1) := dk_96 (dk_at dksL_law_21 23 rfl rfl)
theorem dL_law_657 : decode cL_law 657 = .ok (.iaload, 1) := dk_46 (dk_at dksL_law_22 0 rfl rfl)
theorem dL_law_658 : decode cL_law 658 = .ok (.invokevirtual 81, 3) := dk_182 0 81 (dk_at dksL_law_22 1 rfl rfl)
theorem dL_law_661 : decode cL_law 661 = .ok (.aload_n 2, 1) := dk_44 (dk_at dksL_law_22 4 rfl rfl)
theorem dL_law_662 : decode cL_law 662 = .ok (.aload_n 0, 1) := dk_42 (dk_at dksL_law_22 5 rfl rfl)
theorem dL_law_663 : decode cL_law 663 = .ok (.iload_n 3, 1) := dk_29 (dk_at dksL_law_22 6 rfl rfl)
theorem dL_law_664 : decode cL_law 664 = .ok (.iconst 1, 1) := dk_4 (dk_at dksL_law_22 7 rfl rfl)
theorem dL_law_665 : decode cL_law 665 = .ok (.iadd, 1) := dk_96 (dk_at dksL_law_22 8 rfl rfl)
theorem dL_law_666 : decode cL_law 666 = .ok (.iaload, 1) := dk_46 (dk_at dksL_law_22 9 rfl rfl)
theorem dL_law_667 : decode cL_law 667 = .ok (.invokevirtual 84, 3) := dk_182 0 84 (dk_at dksL_law_22 10 rfl rfl)
theorem dL_law_670 : decode cL_law 670 = .ok (.if_icmp .eq 693, 3) := dk_159 2 181 (dk_at dksL_law_22 13 rfl rfl)
theorem dL_law_673 : decode cL_law 673 = .ok (.iconst 0, 1) := dk_3 (dk_at dksL_law_22 16 rfl rfl)
theorem dL_law_674 : decode cL_law 674 = .ok (.ireturn, 1) := dk_172 (dk_at dksL_law_22 17 rfl rfl)
theorem dL_law_675 : decode cL_law 675 = .ok (.aload_n 1, 1) := dk_43 (dk_at dksL_law_22 18 rfl rfl)
theorem dL_law_676 : decode cL_law 676 = .ok (.aload_n 0, 1) := dk_42 (dk_at dksL_law_22 19 rfl rfl)
theorem dL_law_677 : decode cL_law 677 = .ok (.iload_n 3, 1) := dk_29 (dk_at dksL_law_22 20 rfl rfl)
theorem dL_law_678 : decode cL_law 678 = .ok (.iconst 1, 1) := dk_4 (dk_at dksL_law_22 21 rfl rfl)
theorem dL_law_679 : decode cL_law 679 = .ok (.iadd, 1) := dk_96 (dk_at dksL_law_22 22 rfl rfl)
theorem dL_law_680 : decode cL_law 680 = .ok (.iaload, 1) := dk_46 (dk_at dksL_law_22 23 rfl rfl)
theorem dL_law_681 : decode cL_law 681 = .ok (.aload_n 0, 1) := dk_42 (dk_at dksL_law_23 0 rfl rfl)
theorem dL_law_682 : decode cL_law 682 = .ok (.iload_n 3, 1) := dk_29 (dk_at dksL_law_23 1 rfl rfl)
theorem dL_law_683 : decode cL_law 683 = .ok (.iconst 2, 1) := dk_5 (dk_at dksL_law_23 2 rfl rfl)
theorem dL_law_684 : decode cL_law 684 = .ok (.iadd, 1) := dk_96 (dk_at dksL_law_23 3 rfl rfl)
theorem dL_law_685 : decode cL_law 685 = .ok (.iaload, 1) := dk_46 (dk_at dksL_law_23 4 rfl rfl)
theorem dL_law_686 : decode cL_law 686 = .ok (.invokevirtual 85, 3) := dk_182 0 85 (dk_at dksL_law_23 5 rfl rfl)
theorem dL_law_689 : decode cL_law 689 = .ok (.aload_n 2, 1) := dk_44 (dk_at dksL_law_23 8 rfl rfl)
theorem dL_law_690 : decode cL_law 690 = .ok (.aload_n 0, 1) := dk_42 (dk_at dksL_law_23 9 rfl rfl)
theorem dL_law_691 : decode cL_law 691 = .ok (.iload_n 3, 1) := dk_29 (dk_at dksL_law_23 10 rfl rfl)
theorem dL_law_692 : decode cL_law 692 = .ok (.iconst 1, 1) := dk_4 (dk_at dksL_law_23 11 rfl rfl)
theorem dL_law_693 : decode cL_law 693 = .ok (.iadd, 1) := dk_96 (dk_at dksL_law_23 12 rfl rfl)
theorem dL_law_694 : decode cL_law 694 = .ok (.iaload, 1) := dk_46 (dk_at dksL_law_23 13 rfl rfl)
theorem dL_law_695 : decode cL_law 695 = .ok (.aload_n 0, 1) := dk_42 (dk_at dksL_law_23 14 rfl rfl)
theorem dL_law_696 : decode cL_law 696 = .ok (.iload_n 3, 1) := dk_29 (dk_at dksL_law_23 15 rfl rfl)
theorem dL_law_697 : decode cL_law 697 = .ok (.iconst 2, 1) := dk_5 (dk_at dksL_law_23 16 rfl rfl)
theorem dL_law_698 : decode cL_law 698 = .ok (.iadd, 1) := dk_96 (dk_at dksL_law_23 17 rfl rfl)
theorem dL_law_699 : decode cL_law 699 = .ok (.iaload, 1) := dk_46 (dk_at dksL_law_23 18 rfl rfl)
theorem dL_law_700 : decode cL_law 700 = .ok (.invokevirtual 88, 3) := dk_182 0 88 (dk_at dksL_law_23 19 rfl rfl)
theorem dL_law_703 : decode cL_law 703 = .ok (.if_icmp .eq 660, 3) := dk_159 2 148 (dk_at dksL_law_24 0 rfl rfl)
theorem dL_law_706 : decode cL_law 706 = .ok (.iconst 0, 1) := dk_3 (dk_at dksL_law_24 3 rfl rfl)
theorem dL_law_707 : decode cL_law 707 = .ok (.ireturn, 1) := dk_172 (dk_at dksL_law_24 4 rfl rfl)
theorem dL_law_708 : decode cL_law 708 = .ok (.aload_n 1, 1) := dk_43 (dk_at dksL_law_24 5 rfl rfl)
theorem dL_law_709 : decode cL_law 709 = .ok (.aload_n 0, 1) := dk_42 (dk_at dksL_law_24 6 rfl rfl)
theorem dL_law_710 : decode cL_law 710 = .ok (.iload_n 3, 1) := dk_29 (dk_at dksL_law_24 7 rfl rfl)
theorem dL_law_711 : decode cL_law 711 = .ok (.iconst 1, 1) := dk_4 (dk_at dksL_law_24 8 rfl rfl)
theorem dL_law_712 : decode cL_law 712 = .ok (.iadd, 1) := dk_96 (dk_at dksL_law_24 9 rfl rfl)
theorem dL_law_713 : decode cL_law 713 = .ok (.iaload, 1) := dk_46 (dk_at dksL_law_24 10 rfl rfl)
theorem dL_law_714 : decode cL_law 714 = .ok (.invokevirtual 89, 3) := dk_182 0 89 (dk_at dksL_law_24 11 rfl rfl)
theorem dL_law_717 : decode cL_law 717 = .ok (.aload_n 2, 1) := dk_44 (dk_at dksL_law_24 14 rfl rfl)
theorem dL_law_718 : decode cL_law 718 = .ok (.aload_n 0, 1) := dk_42 (dk_at dksL_law_24 15 rfl rfl)
theorem dL_law_719 : decode cL_law 719 = .ok (.iload_n 3, 1) := dk_29 (dk_at dksL_law_24 16 rfl rfl)
theorem dL_law_720 : decode cL_law 720 = .ok (.iconst 1, 1) := dk_4 (dk_at dksL_law_24 17 rfl rfl)
theorem dL_law_721 : decode cL_law 721 = .ok (.iadd, 1) := dk_96 (dk_at dksL_law_24 18 rfl rfl)
theorem dL_law_722 : decode cL_law 722 = .ok (.iaload, 1) := dk_46 (dk_at dksL_law_24 19 rfl rfl)
theorem dL_law_723 : decode cL_law 723 = .ok (.invokevirtual 92, 3) := dk_182 0 92 (dk_at dksL_law_24 20 rfl rfl)
theorem dL_law_726 : decode cL_law 726 = .ok (.if_icmp .eq 637, 3) := dk_159 2 125 (dk_at dksL_law_25 0 rfl rfl)
theorem dL_law_729 : decode cL_law 729 = .ok (.iconst 0, 1) := dk_3 (dk_at dksL_law_25 3 rfl rfl)
theorem dL_law_730 : decode cL_law 730 = .ok (.ireturn, 1) := dk_172 (dk_at dksL_law_25 4 rfl rfl)
theorem dL_law_731 : decode cL_law 731 = .ok (.aload_n 1, 1) := dk_43 (dk_at dksL_law_25 5 rfl rfl)
theorem dL_law_732 : decode cL_law 732 = .ok (.aload_n 0, 1) := dk_42 (dk_at dksL_law_25 6 rfl rfl)
theorem dL_law_733 : decode cL_law 733 = .ok (.iload_n 3, 1) := dk_29 (dk_at dksL_law_25 7 rfl rfl)
theorem dL_law_734 : decode cL_law 734 = .ok (.iconst 1, 1) := dk_4 (dk_at dksL_law_25 8 rfl rfl)
theorem dL_law_735 : decode cL_law 735 = .ok (.iadd, 1) := dk_96 (dk_at dksL_law_25 9 rfl rfl)
theorem dL_law_736 : decode cL_law 736 = .ok (.iaload, 1) := dk_46 (dk_at dksL_law_25 10 rfl rfl)
theorem dL_law_737 : decode cL_law 737 = .ok (.invokevirtual 93, 3) := dk_182 0 93 (dk_at dksL_law_25 11 rfl rfl)
theorem dL_law_740 : decode cL_law 740 = .ok (.aload_n 2, 1) := dk_44 (dk_at dksL_law_25 14 rfl rfl)
theorem dL_law_741 : decode cL_law 741 = .ok (.aload_n 0, 1) := dk_42 (dk_at dksL_law_25 15 rfl rfl)
theorem dL_law_742 : decode cL_law 742 = .ok (.iload_n 3, 1) := dk_29 (dk_at dksL_law_25 16 rfl rfl)
theorem dL_law_743 : decode cL_law 743 = .ok (.iconst 1, 1) := dk_4 (dk_at dksL_law_25 17 rfl rfl)
theorem dL_law_744 : decode cL_law 744 = .ok (.iadd, 1) := dk_96 (dk_at dksL_law_25 18 rfl rfl)
theorem dL_law_745 : decode cL_law 745 = .ok (.iaload, 1) := dk_46 (dk_at dksL_law_25 19 rfl rfl)
theorem dL_law_746 : decode cL_law 746 = .ok (.invokevirtual 96, 3) := dk_182 0 96 (dk_at dksL_law_25 20 rfl rfl)
theorem dL_law_749 : decode cL_law 749 = .ok (.if_icmp .eq 614, 3) := dk_159 2 102 (dk_at dksL_law_26 0 rfl rfl)
theorem dL_law_752 : decode cL_law 752 = .ok (.iconst 0, 1) := dk_3 (dk_at dksL_law_26 3 rfl rfl)
theorem dL_law_753 : decode cL_law 753 = .ok (.ireturn, 1) := dk_172 (dk_at dksL_law_26 4 rfl rfl)
theorem dL_law_754 : decode cL_law 754 = .ok (.aload_n 1, 1) := dk_43 (dk_at dksL_law_26 5 rfl rfl)
theorem dL_law_755 : decode cL_law 755 = .ok (.aload_n 0, 1) := dk_42 (dk_at dksL_law_26 6 rfl rfl)
theorem dL_law_756 : decode cL_law 756 = .ok (.iload_n 3, 1) := dk_29 (dk_at dksL_law_26 7 rfl rfl)
theorem dL_law_757 : decode cL_law 757 = .ok (.iconst 1, 1) := dk_4 (dk_at dksL_law_26 8 rfl rfl)
theorem dL_law_758 : decode cL_law 758 = .ok (.iadd, 1) := dk_96 (dk_at dksL_law_26 9 rfl rfl)
theorem dL_law_759 : decode cL_law 759 = .ok (.iaload, 1) := dk_46 (dk_at dksL_law_26 10 rfl rfl)
theorem dL_law_760 : decode cL_law 760 = .ok (.aload_n 0, 1) := dk_42 (dk_at dksL_law_26 11 rfl rfl)
theorem dL_law_761 : decode cL_law 761 = .ok (.iload_n 3, 1) := dk_29 (dk_at dksL_law_26 12 rfl rfl)
theorem dL_law_762 : decode cL_law 762 = .ok (.iconst 2, 1) := dk_5 (dk_at dksL_law_26 13 rfl rfl)
theorem dL_law_763 : decode cL_law 763 = .ok (.iadd, 1) := dk_96 (dk_at dksL_law_26 14 rfl rfl)
theorem dL_law_764 : decode cL_law 764 = .ok (.iaload, 1) := dk_46 (dk_at dksL_law_26 15 rfl rfl)
theorem dL_law_765 : decode cL_law 765 = .ok (.invokevirtual 97, 3) := dk_182 0 97 (dk_at dksL_law_26 16 rfl rfl)
theorem dL_law_768 : decode cL_law 768 = .ok (.aload_n 2, 1) := dk_44 (dk_at dksL_law_26 19 rfl rfl)
theorem dL_law_769 : decode cL_law 769 = .ok (.aload_n 0, 1) := dk_42 (dk_at dksL_law_26 20 rfl rfl)
theorem dL_law_770 : decode cL_law 770 = .ok (.iload_n 3, 1) := dk_29 (dk_at dksL_law_26 21 rfl rfl)
theorem dL_law_771 : decode cL_law 771 = .ok (.iconst 1, 1) := dk_4 (dk_at dksL_law_26 22 rfl rfl)
theorem dL_law_772 : decode cL_law 772 = .ok (.iadd, 1) := dk_96 (dk_at dksL_law_26 23 rfl rfl)
theorem dL_law_773 : decode cL_law 773 = .ok (.iaload, 1) := dk_46 (dk_at dksL_law_27 0 rfl rfl)
theorem dL_law_774 : decode cL_law 774 = .ok (.aload_n 0, 1) := dk_42 (dk_at dksL_law_27 1 rfl rfl)
theorem dL_law_775 : decode cL_law 775 = .ok (.iload_n 3, 1) := dk_29 (dk_at dksL_law_27 2 rfl rfl)
theorem dL_law_776 : decode cL_law 776 = .ok (.iconst 2, 1) := dk_5 (dk_at dksL_law_27 3 rfl rfl)
theorem dL_law_777 : decode cL_law 777 = .ok (.iadd, 1) := dk_96 (dk_at dksL_law_27 4 rfl rfl)
theorem dL_law_778 : decode cL_law 778 = .ok (.iaload, 1) := dk_46 (dk_at dksL_law_27 5 rfl rfl)
theorem dL_law_779 : decode cL_law 779 = .ok (.invokevirtual 100, 3) := dk_182 0 100 (dk_at dksL_law_27 6 rfl rfl)
theorem dL_law_782 : decode cL_law 782 = .ok (.if_icmp .eq 581, 3) := dk_159 2 69 (dk_at dksL_law_27 9 rfl rfl)
theorem dL_law_785 : decode cL_law 785 = .ok (.iconst 0, 1) := dk_3 (dk_at dksL_law_27 12 rfl rfl)
theorem dL_law_786 : decode cL_law 786 = .ok (.ireturn, 1) := dk_172 (dk_at dksL_law_27 13 rfl rfl)
theorem dL_law_787 : decode cL_law 787 = .ok (.aload_n 1, 1) := dk_43 (dk_at dksL_law_27 14 rfl rfl)
theorem dL_law_788 : decode cL_law 788 = .ok (.aload_n 0, 1) := dk_42 (dk_at dksL_law_27 15 rfl rfl)
theorem dL_law_789 : decode cL_law 789 = .ok (.iload_n 3, 1) := dk_29 (dk_at dksL_law_27 16 rfl rfl)
theorem dL_law_790 : decode cL_law 790 = .ok (.iconst 1, 1) := dk_4 (dk_at dksL_law_27 17 rfl rfl)
theorem dL_law_791 : decode cL_law 791 = .ok (.iadd, 1) := dk_96 (dk_at dksL_law_27 18 rfl rfl)
theorem dL_law_792 : decode cL_law 792 = .ok (.iaload, 1) := dk_46 (dk_at dksL_law_27 19 rfl rfl)
theorem dL_law_793 : decode cL_law 793 = .ok (.aload_n 0, 1) := dk_42 (dk_at dksL_law_27 20 rfl rfl)
theorem dL_law_794 : decode cL_law 794 = .ok (.iload_n 3, 1) := dk_29 (dk_at dksL_law_27 21 rfl rfl)
theorem dL_law_795 : decode cL_law 795 = .ok (.iconst 2, 1) := dk_5 (dk_at dksL_law_27 22 rfl rfl)
theorem dL_law_796 : decode cL_law 796 = .ok (.iadd, 1) := dk_96 (dk_at dksL_law_27 23 rfl rfl)
theorem dL_law_797 : decode cL_law 797 = .ok (.iaload, 1) := dk_46 (dk_at dksL_law_28 0 rfl rfl)
theorem dL_law_798 : decode cL_law 798 = .ok (.invokevirtual 101, 3) := dk_182 0 101 (dk_at dksL_law_28 1 rfl rfl)
theorem dL_law_801 : decode cL_law 801 = .ok (.aload_n 2, 1) := dk_44 (dk_at dksL_law_28 4 rfl rfl)
theorem dL_law_802 : decode cL_law 802 = .ok (.aload_n 0, 1) := dk_42 (dk_at dksL_law_28 5 rfl rfl)
theorem dL_law_803 : decode cL_law 803 = .ok (.iload_n 3, 1) := dk_29 (dk_at dksL_law_28 6 rfl rfl)
theorem dL_law_804 : decode cL_law 804 = .ok (.iconst 1, 1) := dk_4 (dk_at dksL_law_28 7 rfl rfl)
theorem dL_law_805 : decode cL_law 805 = .ok (.iadd, 1) := dk_96 (dk_at dksL_law_28 8 rfl rfl)
theorem dL_law_806 : decode cL_law 806 = .ok (.iaload, 1) := dk_46 (dk_at dksL_law_28 9 rfl rfl)
theorem dL_law_807 : decode cL_law 807 = .ok (.aload_n 0, 1) := dk_42 (dk_at dksL_law_28 10 rfl rfl)
theorem dL_law_808 : decode cL_law 808 = .ok (.iload_n 3, 1) := dk_29 (dk_at dksL_law_28 11 rfl rfl)
theorem dL_law_809 : decode cL_law 809 = .ok (.iconst 2, 1) := dk_5 (dk_at dksL_law_28 12 rfl rfl)
theorem dL_law_810 : decode cL_law 810 = .ok (.iadd, 1) := dk_96 (dk_at dksL_law_28 13 rfl rfl)
theorem dL_law_811 : decode cL_law 811 = .ok (.iaload, 1) := dk_46 (dk_at dksL_law_28 14 rfl rfl)
theorem dL_law_812 : decode cL_law 812 = .ok (.invokevirtual 104, 3) := dk_182 0 104 (dk_at dksL_law_28 15 rfl rfl)
theorem dL_law_815 : decode cL_law 815 = .ok (.if_icmp .eq 548, 3) := dk_159 2 36 (dk_at dksL_law_28 18 rfl rfl)
theorem dL_law_818 : decode cL_law 818 = .ok (.iconst 0, 1) := dk_3 (dk_at dksL_law_28 21 rfl rfl)
theorem dL_law_819 : decode cL_law 819 = .ok (.ireturn, 1) := dk_172 (dk_at dksL_law_28 22 rfl rfl)
theorem dL_law_820 : decode cL_law 820 = .ok (.aload_n 1, 1) := dk_43 (dk_at dksL_law_28 23 rfl rfl)
theorem dL_law_821 : decode cL_law 821 = .ok (.aload_n 0, 1) := dk_42 (dk_at dksL_law_29 0 rfl rfl)
theorem dL_law_822 : decode cL_law 822 = .ok (.iload_n 3, 1) := dk_29 (dk_at dksL_law_29 1 rfl rfl)
theorem dL_law_823 : decode cL_law 823 = .ok (.iconst 1, 1) := dk_4 (dk_at dksL_law_29 2 rfl rfl)
theorem dL_law_824 : decode cL_law 824 = .ok (.iadd, 1) := dk_96 (dk_at dksL_law_29 3 rfl rfl)
theorem dL_law_825 : decode cL_law 825 = .ok (.iaload, 1) := dk_46 (dk_at dksL_law_29 4 rfl rfl)
theorem dL_law_826 : decode cL_law 826 = .ok (.aload_n 0, 1) := dk_42 (dk_at dksL_law_29 5 rfl rfl)
theorem dL_law_827 : decode cL_law 827 = .ok (.iload_n 3, 1) := dk_29 (dk_at dksL_law_29 6 rfl rfl)
theorem dL_law_828 : decode cL_law 828 = .ok (.iconst 2, 1) := dk_5 (dk_at dksL_law_29 7 rfl rfl)
theorem dL_law_829 : decode cL_law 829 = .ok (.iadd, 1) := dk_96 (dk_at dksL_law_29 8 rfl rfl)
theorem dL_law_830 : decode cL_law 830 = .ok (.iaload, 1) := dk_46 (dk_at dksL_law_29 9 rfl rfl)
theorem dL_law_831 : decode cL_law 831 = .ok (.invokevirtual 105, 3) := dk_182 0 105 (dk_at dksL_law_29 10 rfl rfl)
theorem dL_law_834 : decode cL_law 834 = .ok (.aload_n 2, 1) := dk_44 (dk_at dksL_law_29 13 rfl rfl)
theorem dL_law_835 : decode cL_law 835 = .ok (.aload_n 0, 1) := dk_42 (dk_at dksL_law_29 14 rfl rfl)
theorem dL_law_836 : decode cL_law 836 = .ok (.iload_n 3, 1) := dk_29 (dk_at dksL_law_29 15 rfl rfl)
theorem dL_law_837 : decode cL_law 837 = .ok (.iconst 1, 1) := dk_4 (dk_at dksL_law_29 16 rfl rfl)
theorem dL_law_838 : decode cL_law 838 = .ok (.iadd, 1) := dk_96 (dk_at dksL_law_29 17 rfl rfl)
theorem dL_law_839 : decode cL_law 839 = .ok (.iaload, 1) := dk_46 (dk_at dksL_law_29 18 rfl rfl)
theorem dL_law_840 : decode cL_law 840 = .ok (.aload_n 0, 1) := dk_42 (dk_at dksL_law_29 19 rfl rfl)
theorem dL_law_841 : decode cL_law 841 = .ok (.iload_n 3, 1) := dk_29 (dk_at dksL_law_29 20 rfl rfl)
theorem dL_law_842 : decode cL_law 842 = .ok (.iconst 2, 1) := dk_5 (dk_at dksL_law_29 21 rfl rfl)
theorem dL_law_843 : decode cL_law 843 = .ok (.iadd, 1) := dk_96 (dk_at dksL_law_29 22 rfl rfl)
theorem dL_law_844 : decode cL_law 844 = .ok (.iaload, 1) := dk_46 (dk_at dksL_law_29 23 rfl rfl)
theorem dL_law_845 : decode cL_law 845 = .ok (.invokevirtual 108, 3) := dk_182 0 108 (dk_at dksL_law_30 0 rfl rfl)
theorem dL_law_848 : decode cL_law 848 = .ok (.if_icmp .eq 515, 3) := dk_159 2 3 (dk_at dksL_law_30 3 rfl rfl)
theorem dL_law_851 : decode cL_law 851 = .ok (.iconst 0, 1) := dk_3 (dk_at dksL_law_30 6 rfl rfl)
theorem dL_law_852 : decode cL_law 852 = .ok (.ireturn, 1) := dk_172 (dk_at dksL_law_30 7 rfl rfl)
theorem dL_law_853 : decode cL_law 853 = .ok (.aload_n 1, 1) := dk_43 (dk_at dksL_law_30 8 rfl rfl)
theorem dL_law_854 : decode cL_law 854 = .ok (.aload_n 0, 1) := dk_42 (dk_at dksL_law_30 9 rfl rfl)
theorem dL_law_855 : decode cL_law 855 = .ok (.iload_n 3, 1) := dk_29 (dk_at dksL_law_30 10 rfl rfl)
theorem dL_law_856 : decode cL_law 856 = .ok (.iconst 1, 1) := dk_4 (dk_at dksL_law_30 11 rfl rfl)
theorem dL_law_857 : decode cL_law 857 = .ok (.iadd, 1) := dk_96 (dk_at dksL_law_30 12 rfl rfl)
theorem dL_law_858 : decode cL_law 858 = .ok (.iaload, 1) := dk_46 (dk_at dksL_law_30 13 rfl rfl)
theorem dL_law_859 : decode cL_law 859 = .ok (.invokevirtual 109, 3) := dk_182 0 109 (dk_at dksL_law_30 14 rfl rfl)
theorem dL_law_862 : decode cL_law 862 = .ok (.aload_n 2, 1) := dk_44 (dk_at dksL_law_30 17 rfl rfl)
theorem dL_law_863 : decode cL_law 863 = .ok (.aload_n 0, 1) := dk_42 (dk_at dksL_law_30 18 rfl rfl)
theorem dL_law_864 : decode cL_law 864 = .ok (.iload_n 3, 1) := dk_29 (dk_at dksL_law_30 19 rfl rfl)
theorem dL_law_865 : decode cL_law 865 = .ok (.iconst 1, 1) := dk_4 (dk_at dksL_law_30 20 rfl rfl)
theorem dL_law_866 : decode cL_law 866 = .ok (.iadd, 1) := dk_96 (dk_at dksL_law_30 21 rfl rfl)
theorem dL_law_867 : decode cL_law 867 = .ok (.iaload, 1) := dk_46 (dk_at dksL_law_30 22 rfl rfl)
theorem dL_law_868 : decode cL_law 868 = .ok (.invokevirtual 112, 3) := dk_182 0 112 (dk_at dksL_law_31 0 rfl rfl)
theorem dL_law_871 : decode cL_law 871 = .ok (.if_icmp .eq 492, 3) := dk_159 1 236 (dk_at dksL_law_31 3 rfl rfl)
theorem dL_law_874 : decode cL_law 874 = .ok (.iconst 0, 1) := dk_3 (dk_at dksL_law_31 6 rfl rfl)
theorem dL_law_875 : decode cL_law 875 = .ok (.ireturn, 1) := dk_172 (dk_at dksL_law_31 7 rfl rfl)
theorem dL_law_876 : decode cL_law 876 = .ok (.aload_n 1, 1) := dk_43 (dk_at dksL_law_31 8 rfl rfl)
theorem dL_law_877 : decode cL_law 877 = .ok (.aload_n 0, 1) := dk_42 (dk_at dksL_law_31 9 rfl rfl)
theorem dL_law_878 : decode cL_law 878 = .ok (.iload_n 3, 1) := dk_29 (dk_at dksL_law_31 10 rfl rfl)
theorem dL_law_879 : decode cL_law 879 = .ok (.iconst 1, 1) := dk_4 (dk_at dksL_law_31 11 rfl rfl)
theorem dL_law_880 : decode cL_law 880 = .ok (.iadd, 1) := dk_96 (dk_at dksL_law_31 12 rfl rfl)
theorem dL_law_881 : decode cL_law 881 = .ok (.iaload, 1) := dk_46 (dk_at dksL_law_31 13 rfl rfl)
theorem dL_law_882 : decode cL_law 882 = .ok (.aload_n 0, 1) := dk_42 (dk_at dksL_law_31 14 rfl rfl)
theorem dL_law_883 : decode cL_law 883 = .ok (.iload_n 3, 1) := dk_29 (dk_at dksL_law_31 15 rfl rfl)
theorem dL_law_884 : decode cL_law 884 = .ok (.iconst 2, 1) := dk_5 (dk_at dksL_law_31 16 rfl rfl)
theorem dL_law_885 : decode cL_law 885 = .ok (.iadd, 1) := dk_96 (dk_at dksL_law_31 17 rfl rfl)
theorem dL_law_886 : decode cL_law 886 = .ok (.iaload, 1) := dk_46 (dk_at dksL_law_31 18 rfl rfl)
theorem dL_law_887 : decode cL_law 887 = .ok (.aload_n 0, 1) := dk_42 (dk_at dksL_law_31 19 rfl rfl)
theorem dL_law_888 : decode cL_law 888 = .ok (.iload_n 3, 1) := dk_29 (dk_at dksL_law_31 20 rfl rfl)
theorem dL_law_889 : decode cL_law 889 = .ok (.iconst 3, 1) := dk_6 (dk_at dksL_law_31 21 rfl rfl)
theorem dL_law_890 : decode cL_law 890 = .ok (.iadd, 1) := dk_96 (dk_at dksL_law_31 22 rfl rfl)
theorem dL_law_891 : decode cL_law 891 = .ok (.iaload, 1) := dk_46 (dk_at dksL_law_31 23 rfl rfl)
theorem dL_law_892 : decode cL_law 892 = .ok (.invokevirtual 113, 3) := dk_182 0 113 (dk_at dksL_law_32 0 rfl rfl)
theorem dL_law_895 : decode cL_law 895 = .ok (.aload_n 2, 1) := dk_44 (dk_at dksL_law_32 3 rfl rfl)
theorem dL_law_896 : decode cL_law 896 = .ok (.aload_n 0, 1) := dk_42 (dk_at dksL_law_32 4 rfl rfl)
theorem dL_law_897 : decode cL_law 897 = .ok (.iload_n 3, 1) := dk_29 (dk_at dksL_law_32 5 rfl rfl)
theorem dL_law_898 : decode cL_law 898 = .ok (.iconst 1, 1) := dk_4 (dk_at dksL_law_32 6 rfl rfl)
theorem dL_law_899 : decode cL_law 899 = .ok (.iadd, 1) := dk_96 (dk_at dksL_law_32 7 rfl rfl)
theorem dL_law_900 : decode cL_law 900 = .ok (.iaload, 1) := dk_46 (dk_at dksL_law_32 8 rfl rfl)
theorem dL_law_901 : decode cL_law 901 = .ok (.aload_n 0, 1) := dk_42 (dk_at dksL_law_32 9 rfl rfl)
theorem dL_law_902 : decode cL_law 902 = .ok (.iload_n 3, 1) := dk_29 (dk_at dksL_law_32 10 rfl rfl)
theorem dL_law_903 : decode cL_law 903 = .ok (.iconst 2, 1) := dk_5 (dk_at dksL_law_32 11 rfl rfl)
theorem dL_law_904 : decode cL_law 904 = .ok (.iadd, 1) := dk_96 (dk_at dksL_law_32 12 rfl rfl)
theorem dL_law_905 : decode cL_law 905 = .ok (.iaload, 1) := dk_46 (dk_at dksL_law_32 13 rfl rfl)
theorem dL_law_906 : decode cL_law 906 = .ok (.aload_n 0, 1) := dk_42 (dk_at dksL_law_32 14 rfl rfl)
theorem dL_law_907 : decode cL_law 907 = .ok (.iload_n 3, 1) := dk_29 (dk_at dksL_law_32 15 rfl rfl)
theorem dL_law_908 : decode cL_law 908 = .ok (.iconst 3, 1) := dk_6 (dk_at dksL_law_32 16 rfl rfl)
theorem dL_law_909 : decode cL_law 909 = .ok (.iadd, 1) := dk_96 (dk_at dksL_law_32 17 rfl rfl)
theorem dL_law_910 : decode cL_law 910 = .ok (.iaload, 1) := dk_46 (dk_at dksL_law_32 18 rfl rfl)
theorem dL_law_911 : decode cL_law 911 = .ok (.invokevirtual 117, 3) := dk_182 0 117 (dk_at dksL_law_32 19 rfl rfl)
theorem dL_law_914 : decode cL_law 914 = .ok (.lcmp, 1) := dk_148 (dk_at dksL_law_32 22 rfl rfl)
theorem dL_law_915 : decode cL_law 915 = .ok (.ifCond .eq 448, 3) := dk_153 1 192 (dk_at dksL_law_33 0 rfl rfl)
theorem dL_law_918 : decode cL_law 918 = .ok (.iconst 0, 1) := dk_3 (dk_at dksL_law_33 3 rfl rfl)
theorem dL_law_919 : decode cL_law 919 = .ok (.ireturn, 1) := dk_172 (dk_at dksL_law_33 4 rfl rfl)
theorem dL_law_920 : decode cL_law 920 = .ok (.aload_n 1, 1) := dk_43 (dk_at dksL_law_33 5 rfl rfl)
theorem dL_law_921 : decode cL_law 921 = .ok (.aload_n 0, 1) := dk_42 (dk_at dksL_law_33 6 rfl rfl)
theorem dL_law_922 : decode cL_law 922 = .ok (.iload_n 3, 1) := dk_29 (dk_at dksL_law_33 7 rfl rfl)
theorem dL_law_923 : decode cL_law 923 = .ok (.iconst 1, 1) := dk_4 (dk_at dksL_law_33 8 rfl rfl)
theorem dL_law_924 : decode cL_law 924 = .ok (.iadd, 1) := dk_96 (dk_at dksL_law_33 9 rfl rfl)
theorem dL_law_925 : decode cL_law 925 = .ok (.iaload, 1) := dk_46 (dk_at dksL_law_33 10 rfl rfl)
theorem dL_law_926 : decode cL_law 926 = .ok (.aload_n 0, 1) := dk_42 (dk_at dksL_law_33 11 rfl rfl)
theorem dL_law_927 : decode cL_law 927 = .ok (.iload_n 3, 1) := dk_29 (dk_at dksL_law_33 12 rfl rfl)
theorem dL_law_928 : decode cL_law 928 = .ok (.iconst 2, 1) := dk_5 (dk_at dksL_law_33 13 rfl rfl)
theorem dL_law_929 : decode cL_law 929 = .ok (.iadd, 1) := dk_96 (dk_at dksL_law_33 14 rfl rfl)
theorem dL_law_930 : decode cL_law 930 = .ok (.iaload, 1) := dk_46 (dk_at dksL_law_33 15 rfl rfl)
theorem dL_law_931 : decode cL_law 931 = .ok (.invokevirtual 118, 3) := dk_182 0 118 (dk_at dksL_law_33 16 rfl rfl)
theorem dL_law_934 : decode cL_law 934 = .ok (.aload_n 2, 1) := dk_44 (dk_at dksL_law_33 19 rfl rfl)
theorem dL_law_935 : decode cL_law 935 = .ok (.aload_n 0, 1) := dk_42 (dk_at dksL_law_33 20 rfl rfl)
theorem dL_law_936 : decode cL_law 936 = .ok (.iload_n 3, 1) := dk_29 (dk_at dksL_law_33 21 rfl rfl)
theorem dL_law_937 : decode cL_law 937 = .ok (.iconst 1, 1) := dk_4 (dk_at dksL_law_33 22 rfl rfl)
theorem dL_law_938 : decode cL_law 938 = .ok (.iadd, 1) := dk_96 (dk_at dksL_law_33 23 rfl rfl)
theorem dL_law_939 : decode cL_law 939 = .ok (.iaload, 1) := dk_46 (dk_at dksL_law_34 0 rfl rfl)
theorem dL_law_940 : decode cL_law 940 = .ok (.aload_n 0, 1) := dk_42 (dk_at dksL_law_34 1 rfl rfl)
theorem dL_law_941 : decode cL_law 941 = .ok (.iload_n 3, 1) := dk_29 (dk_at dksL_law_34 2 rfl rfl)
theorem dL_law_942 : decode cL_law 942 = .ok (.iconst 2, 1) := dk_5 (dk_at dksL_law_34 3 rfl rfl)
theorem dL_law_943 : decode cL_law 943 = .ok (.iadd, 1) := dk_96 (dk_at dksL_law_34 4 rfl rfl)
theorem dL_law_944 : decode cL_law 944 = .ok (.iaload, 1) := dk_46 (dk_at dksL_law_34 5 rfl rfl)
theorem dL_law_945 : decode cL_law 945 = .ok (.invokevirtual 122, 3) := dk_182 0 122 (dk_at dksL_law_34 6 rfl rfl)
theorem dL_law_948 : decode cL_law 948 = .ok (.lcmp, 1) := dk_148 (dk_at dksL_law_34 9 rfl rfl)
theorem dL_law_949 : decode cL_law 949 = .ok (.ifCond .eq 414, 3) := dk_153 1 158 (dk_at dksL_law_34 10 rfl rfl)
theorem dL_law_952 : decode cL_law 952 = .ok (.iconst 0, 1) := dk_3 (dk_at dksL_law_34 13 rfl rfl)
theorem dL_law_953 : decode cL_law 953 = .ok (.ireturn, 1) := dk_172 (dk_at dksL_law_34 14 rfl rfl)
theorem dL_law_954 : decode cL_law 954 = .ok (.aload_n 1, 1) := dk_43 (dk_at dksL_law_34 15 rfl rfl)
theorem dL_law_955 : decode cL_law 955 = .ok (.aload_n 0, 1) := dk_42 (dk_at dksL_law_34 16 rfl rfl)
theorem dL_law_956 : decode cL_law 956 = .ok (.iload_n 3, 1) := dk_29 (dk_at dksL_law_34 17 rfl rfl)
theorem dL_law_957 : decode cL_law 957 = .ok (.iconst 1, 1) := dk_4 (dk_at dksL_law_34 18 rfl rfl)
theorem dL_law_958 : decode cL_law 958 = .ok (.iadd, 1) := dk_96 (dk_at dksL_law_34 19 rfl rfl)
theorem dL_law_959 : decode cL_law 959 = .ok (.iaload, 1) := dk_46 (dk_at dksL_law_34 20 rfl rfl)
theorem dL_law_960 : decode cL_law 960 = .ok (.aload_n 0, 1) := dk_42 (dk_at dksL_law_34 21 rfl rfl)
theorem dL_law_961 : decode cL_law 961 = .ok (.iload_n 3, 1) := dk_29 (dk_at dksL_law_34 22 rfl rfl)
theorem dL_law_962 : decode cL_law 962 = .ok (.iconst 2, 1) := dk_5 (dk_at dksL_law_34 23 rfl rfl)
theorem dL_law_963 : decode cL_law 963 = .ok (.iadd, 1) := dk_96 (dk_at dksL_law_35 0 rfl rfl)
theorem dL_law_964 : decode cL_law 964 = .ok (.iaload, 1) := dk_46 (dk_at dksL_law_35 1 rfl rfl)
theorem dL_law_965 : decode cL_law 965 = .ok (.aload_n 0, 1) := dk_42 (dk_at dksL_law_35 2 rfl rfl)
theorem dL_law_966 : decode cL_law 966 = .ok (.iload_n 3, 1) := dk_29 (dk_at dksL_law_35 3 rfl rfl)
theorem dL_law_967 : decode cL_law 967 = .ok (.iconst 3, 1) := dk_6 (dk_at dksL_law_35 4 rfl rfl)
theorem dL_law_968 : decode cL_law 968 = .ok (.iadd, 1) := dk_96 (dk_at dksL_law_35 5 rfl rfl)
theorem dL_law_969 : decode cL_law 969 = .ok (.iaload, 1) := dk_46 (dk_at dksL_law_35 6 rfl rfl)
theorem dL_law_970 : decode cL_law 970 = .ok (.invokevirtual 123, 3) := dk_182 0 123 (dk_at dksL_law_35 7 rfl rfl)
theorem dL_law_973 : decode cL_law 973 = .ok (.aload_n 2, 1) := dk_44 (dk_at dksL_law_35 10 rfl rfl)
theorem dL_law_974 : decode cL_law 974 = .ok (.aload_n 0, 1) := dk_42 (dk_at dksL_law_35 11 rfl rfl)
theorem dL_law_975 : decode cL_law 975 = .ok (.iload_n 3, 1) := dk_29 (dk_at dksL_law_35 12 rfl rfl)
theorem dL_law_976 : decode cL_law 976 = .ok (.iconst 1, 1) := dk_4 (dk_at dksL_law_35 13 rfl rfl)
theorem dL_law_977 : decode cL_law 977 = .ok (.iadd, 1) := dk_96 (dk_at dksL_law_35 14 rfl rfl)
theorem dL_law_978 : decode cL_law 978 = .ok (.iaload, 1) := dk_46 (dk_at dksL_law_35 15 rfl rfl)
theorem dL_law_979 : decode cL_law 979 = .ok (.aload_n 0, 1) := dk_42 (dk_at dksL_law_35 16 rfl rfl)
theorem dL_law_980 : decode cL_law 980 = .ok (.iload_n 3, 1) := dk_29 (dk_at dksL_law_35 17 rfl rfl)
theorem dL_law_981 : decode cL_law 981 = .ok (.iconst 2, 1) := dk_5 (dk_at dksL_law_35 18 rfl rfl)
theorem dL_law_982 : decode cL_law 982 = .ok (.iadd, 1) := dk_96 (dk_at dksL_law_35 19 rfl rfl)
theorem dL_law_983 : decode cL_law 983 = .ok (.iaload, 1) := dk_46 (dk_at dksL_law_35 20 rfl rfl)
theorem dL_law_984 : decode cL_law 984 = .ok (.aload_n 0, 1) := dk_42 (dk_at dksL_law_35 21 rfl rfl)
theorem dL_law_985 : decode cL_law 985 = .ok (.iload_n 3, 1) := dk_29 (dk_at dksL_law_35 22 rfl rfl)
theorem dL_law_986 : decode cL_law 986 = .ok (.iconst 3, 1) := dk_6 (dk_at dksL_law_35 23 rfl rfl)
theorem dL_law_987 : decode cL_law 987 = .ok (.iadd, 1) := dk_96 (dk_at dksL_law_36 0 rfl rfl)
theorem dL_law_988 : decode cL_law 988 = .ok (.iaload, 1) := dk_46 (dk_at dksL_law_36 1 rfl rfl)
theorem dL_law_989 : decode cL_law 989 = .ok (.invokevirtual 126, 3) := dk_182 0 126 (dk_at dksL_law_36 2 rfl rfl)
theorem dL_law_992 : decode cL_law 992 = .ok (.if_icmp .eq 371, 3) := dk_159 1 115 (dk_at dksL_law_36 5 rfl rfl)
theorem dL_law_995 : decode cL_law 995 = .ok (.iconst 0, 1) := dk_3 (dk_at dksL_law_36 8 rfl rfl)
theorem dL_law_996 : decode cL_law 996 = .ok (.ireturn, 1) := dk_172 (dk_at dksL_law_36 9 rfl rfl)
theorem dL_law_997 : decode cL_law 997 = .ok (.aload_n 1, 1) := dk_43 (dk_at dksL_law_36 10 rfl rfl)
theorem dL_law_998 : decode cL_law 998 = .ok (.aload_n 0, 1) := dk_42 (dk_at dksL_law_36 11 rfl rfl)
theorem dL_law_999 : decode cL_law 999 = .ok (.iload_n 3, 1) := dk_29 (dk_at dksL_law_36 12 rfl rfl)
theorem dL_law_1000 : decode cL_law 1000 = .ok (.iconst 1, 1) := dk_4 (dk_at dksL_law_36 13 rfl rfl)
theorem dL_law_1001 : decode cL_law 1001 = .ok (.iadd, 1) := dk_96 (dk_at dksL_law_36 14 rfl rfl)
theorem dL_law_1002 : decode cL_law 1002 = .ok (.iaload, 1) := dk_46 (dk_at dksL_law_36 15 rfl rfl)
theorem dL_law_1003 : decode cL_law 1003 = .ok (.invokevirtual 127, 3) := dk_182 0 127 (dk_at dksL_law_36 16 rfl rfl)
theorem dL_law_1006 : decode cL_law 1006 = .ok (.aload_n 2, 1) := dk_44 (dk_at dksL_law_36 19 rfl rfl)
theorem dL_law_1007 : decode cL_law 1007 = .ok (.aload_n 0, 1) := dk_42 (dk_at dksL_law_36 20 rfl rfl)
theorem dL_law_1008 : decode cL_law 1008 = .ok (.iload_n 3, 1) := dk_29 (dk_at dksL_law_36 21 rfl rfl)
theorem dL_law_1009 : decode cL_law 1009 = .ok (.iconst 1, 1) := dk_4 (dk_at dksL_law_36 22 rfl rfl)
theorem dL_law_1010 : decode cL_law 1010 = .ok (.iadd, 1) := dk_96 (dk_at dksL_law_36 23 rfl rfl)
theorem dL_law_1011 : decode cL_law 1011 = .ok (.iaload, 1) := dk_46 (dk_at dksL_law_37 0 rfl rfl)
theorem dL_law_1012 : decode cL_law 1012 = .ok (.invokevirtual 130, 3) := dk_182 0 130 (dk_at dksL_law_37 1 rfl rfl)
theorem dL_law_1015 : decode cL_law 1015 = .ok (.if_icmp .eq 348, 3) := dk_159 1 92 (dk_at dksL_law_37 4 rfl rfl)
theorem dL_law_1018 : decode cL_law 1018 = .ok (.iconst 0, 1) := dk_3 (dk_at dksL_law_37 7 rfl rfl)
theorem dL_law_1019 : decode cL_law 1019 = .ok (.ireturn, 1) := dk_172 (dk_at dksL_law_37 8 rfl rfl)
theorem dL_law_1020 : decode cL_law 1020 = .ok (.aload_n 1, 1) := dk_43 (dk_at dksL_law_37 9 rfl rfl)
theorem dL_law_1021 : decode cL_law 1021 = .ok (.aload_n 0, 1) := dk_42 (dk_at dksL_law_37 10 rfl rfl)
theorem dL_law_1022 : decode cL_law 1022 = .ok (.iload_n 3, 1) := dk_29 (dk_at dksL_law_37 11 rfl rfl)
theorem dL_law_1023 : decode cL_law 1023 = .ok (.iconst 1, 1) := dk_4 (dk_at dksL_law_37 12 rfl rfl)
theorem dL_law_1024 : decode cL_law 1024 = .ok (.iadd, 1) := dk_96 (dk_at dksL_law_37 13 rfl rfl)
theorem dL_law_1025 : decode cL_law 1025 = .ok (.iaload, 1) := dk_46 (dk_at dksL_law_37 14 rfl rfl)
theorem dL_law_1026 : decode cL_law 1026 = .ok (.invokevirtual 131, 3) := dk_182 0 131 (dk_at dksL_law_37 15 rfl rfl)
theorem dL_law_1029 : decode cL_law 1029 = .ok (.aload_n 2, 1) := dk_44 (dk_at dksL_law_37 18 rfl rfl)
theorem dL_law_1030 : decode cL_law 1030 = .ok (.aload_n 0, 1) := dk_42 (dk_at dksL_law_37 19 rfl rfl)
theorem dL_law_1031 : decode cL_law 1031 = .ok (.iload_n 3, 1) := dk_29 (dk_at dksL_law_37 20 rfl rfl)
theorem dL_law_1032 : decode cL_law 1032 = .ok (.iconst 1, 1) := dk_4 (dk_at dksL_law_37 21 rfl rfl)
theorem dL_law_1033 : decode cL_law 1033 = .ok (.iadd, 1) := dk_96 (dk_at dksL_law_37 22 rfl rfl)
theorem dL_law_1034 : decode cL_law 1034 = .ok (.iaload, 1) := dk_46 (dk_at dksL_law_37 23 rfl rfl)
theorem dL_law_1035 : decode cL_law 1035 = .ok (.invokevirtual 134, 3) := dk_182 0 134 (dk_at dksL_law_38 0 rfl rfl)
theorem dL_law_1038 : decode cL_law 1038 = .ok (.if_icmp .eq 325, 3) := dk_159 1 69 (dk_at dksL_law_38 3 rfl rfl)
theorem dL_law_1041 : decode cL_law 1041 = .ok (.iconst 0, 1) := dk_3 (dk_at dksL_law_38 6 rfl rfl)
theorem dL_law_1042 : decode cL_law 1042 = .ok (.ireturn, 1) := dk_172 (dk_at dksL_law_38 7 rfl rfl)
theorem dL_law_1043 : decode cL_law 1043 = .ok (.aload_n 1, 1) := dk_43 (dk_at dksL_law_38 8 rfl rfl)
theorem dL_law_1044 : decode cL_law 1044 = .ok (.aload_n 0, 1) := dk_42 (dk_at dksL_law_38 9 rfl rfl)
theorem dL_law_1045 : decode cL_law 1045 = .ok (.iload_n 3, 1) := dk_29 (dk_at dksL_law_38 10 rfl rfl)
theorem dL_law_1046 : decode cL_law 1046 = .ok (.iconst 1, 1) := dk_4 (dk_at dksL_law_38 11 rfl rfl)
theorem dL_law_1047 : decode cL_law 1047 = .ok (.iadd, 1) := dk_96 (dk_at dksL_law_38 12 rfl rfl)
theorem dL_law_1048 : decode cL_law 1048 = .ok (.iaload, 1) := dk_46 (dk_at dksL_law_38 13 rfl rfl)
theorem dL_law_1049 : decode cL_law 1049 = .ok (.invokevirtual 135, 3) := dk_182 0 135 (dk_at dksL_law_38 14 rfl rfl)
theorem dL_law_1052 : decode cL_law 1052 = .ok (.aload_n 2, 1) := dk_44 (dk_at dksL_law_38 17 rfl rfl)
theorem dL_law_1053 : decode cL_law 1053 = .ok (.aload_n 0, 1) := dk_42 (dk_at dksL_law_38 18 rfl rfl)
theorem dL_law_1054 : decode cL_law 1054 = .ok (.iload_n 3, 1) := dk_29 (dk_at dksL_law_38 19 rfl rfl)
theorem dL_law_1055 : decode cL_law 1055 = .ok (.iconst 1, 1) := dk_4 (dk_at dksL_law_38 20 rfl rfl)
theorem dL_law_1056 : decode cL_law 1056 = .ok (.iadd, 1) := dk_96 (dk_at dksL_law_38 21 rfl rfl)
theorem dL_law_1057 : decode cL_law 1057 = .ok (.iaload, 1) := dk_46 (dk_at dksL_law_38 22 rfl rfl)
theorem dL_law_1058 : decode cL_law 1058 = .ok (.invokevirtual 138, 3) := dk_182 0 138 (dk_at dksL_law_39 0 rfl rfl)
theorem dL_law_1061 : decode cL_law 1061 = .ok (.if_icmp .eq 302, 3) := dk_159 1 46 (dk_at dksL_law_39 3 rfl rfl)
theorem dL_law_1064 : decode cL_law 1064 = .ok (.iconst 0, 1) := dk_3 (dk_at dksL_law_39 6 rfl rfl)
theorem dL_law_1065 : decode cL_law 1065 = .ok (.ireturn, 1) := dk_172 (dk_at dksL_law_39 7 rfl rfl)
theorem dL_law_1066 : decode cL_law 1066 = .ok (.aload_n 1, 1) := dk_43 (dk_at dksL_law_39 8 rfl rfl)
theorem dL_law_1067 : decode cL_law 1067 = .ok (.aload_n 0, 1) := dk_42 (dk_at dksL_law_39 9 rfl rfl)
theorem dL_law_1068 : decode cL_law 1068 = .ok (.iload_n 3, 1) := dk_29 (dk_at dksL_law_39 10 rfl rfl)
theorem dL_law_1069 : decode cL_law 1069 = .ok (.iconst 1, 1) := dk_4 (dk_at dksL_law_39 11 rfl rfl)
theorem dL_law_1070 : decode cL_law 1070 = .ok (.iadd, 1) := dk_96 (dk_at dksL_law_39 12 rfl rfl)
theorem dL_law_1071 : decode cL_law 1071 = .ok (.iaload, 1) := dk_46 (dk_at dksL_law_39 13 rfl rfl)
theorem dL_law_1072 : decode cL_law 1072 = .ok (.aload_n 0, 1) := dk_42 (dk_at dksL_law_39 14 rfl rfl)
theorem dL_law_1073 : decode cL_law 1073 = .ok (.iload_n 3, 1) := dk_29 (dk_at dksL_law_39 15 rfl rfl)
theorem dL_law_1074 : decode cL_law 1074 = .ok (.iconst 2, 1) := dk_5 (dk_at dksL_law_39 16 rfl rfl)
theorem dL_law_1075 : decode cL_law 1075 = .ok (.iadd, 1) := dk_96 (dk_at dksL_law_39 17 rfl rfl)
theorem dL_law_1076 : decode cL_law 1076 = .ok (.iaload, 1) := dk_46 (dk_at dksL_law_39 18 rfl rfl)
theorem dL_law_1077 : decode cL_law 1077 = .ok (.invokevirtual 139, 3) := dk_182 0 139 (dk_at dksL_law_39 19 rfl rfl)
theorem dL_law_1080 : decode cL_law 1080 = .ok (.aload_n 2, 1) := dk_44 (dk_at dksL_law_39 22 rfl rfl)
theorem dL_law_1081 : decode cL_law 1081 = .ok (.aload_n 0, 1) := dk_42 (dk_at dksL_law_39 23 rfl rfl)
theorem dL_law_1082 : decode cL_law 1082 = .ok (.iload_n 3, 1) := dk_29 (dk_at dksL_law_40 0 rfl rfl)
theorem dL_law_1083 : decode cL_law 1083 = .ok (.iconst 1, 1) := dk_4 (dk_at dksL_law_40 1 rfl rfl)
theorem dL_law_1084 : decode cL_law 1084 = .ok (.iadd, 1) := dk_96 (dk_at dksL_law_40 2 rfl rfl)
theorem dL_law_1085 : decode cL_law 1085 = .ok (.iaload, 1) := dk_46 (dk_at dksL_law_40 3 rfl rfl)
theorem dL_law_1086 : decode cL_law 1086 = .ok (.aload_n 0, 1) := dk_42 (dk_at dksL_law_40 4 rfl rfl)
theorem dL_law_1087 : decode cL_law 1087 = .ok (.iload_n 3, 1) := dk_29 (dk_at dksL_law_40 5 rfl rfl)
theorem dL_law_1088 : decode cL_law 1088 = .ok (.iconst 2, 1) := dk_5 (dk_at dksL_law_40 6 rfl rfl)
theorem dL_law_1089 : decode cL_law 1089 = .ok (.iadd, 1) := dk_96 (dk_at dksL_law_40 7 rfl rfl)
theorem dL_law_1090 : decode cL_law 1090 = .ok (.iaload, 1) := dk_46 (dk_at dksL_law_40 8 rfl rfl)
theorem dL_law_1091 : decode cL_law 1091 = .ok (.invokevirtual 142, 3) := dk_182 0 142 (dk_at dksL_law_40 9 rfl rfl)
theorem dL_law_1094 : decode cL_law 1094 = .ok (.if_icmp .eq 269, 3) := dk_159 1 13 (dk_at dksL_law_40 12 rfl rfl)
theorem dL_law_1097 : decode cL_law 1097 = .ok (.iconst 0, 1) := dk_3 (dk_at dksL_law_40 15 rfl rfl)
theorem dL_law_1098 : decode cL_law 1098 = .ok (.ireturn, 1) := dk_172 (dk_at dksL_law_40 16 rfl rfl)
theorem dL_law_1099 : decode cL_law 1099 = .ok (.aload_n 1, 1) := dk_43 (dk_at dksL_law_40 17 rfl rfl)
theorem dL_law_1100 : decode cL_law 1100 = .ok (.aload_n 0, 1) := dk_42 (dk_at dksL_law_40 18 rfl rfl)
theorem dL_law_1101 : decode cL_law 1101 = .ok (.iload_n 3, 1) := dk_29 (dk_at dksL_law_40 19 rfl rfl)
theorem dL_law_1102 : decode cL_law 1102 = .ok (.iconst 1, 1) := dk_4 (dk_at dksL_law_40 20 rfl rfl)
theorem dL_law_1103 : decode cL_law 1103 = .ok (.iadd, 1) := dk_96 (dk_at dksL_law_40 21 rfl rfl)
theorem dL_law_1104 : decode cL_law 1104 = .ok (.iaload, 1) := dk_46 (dk_at dksL_law_40 22 rfl rfl)
theorem dL_law_1105 : decode cL_law 1105 = .ok (.aload_n 0, 1) := dk_42 (dk_at dksL_law_40 23 rfl rfl)
theorem dL_law_1106 : decode cL_law 1106 = .ok (.iload_n 3, 1) := dk_29 (dk_at dksL_law_41 0 rfl rfl)
theorem dL_law_1107 : decode cL_law 1107 = .ok (.iconst 2, 1) := dk_5 (dk_at dksL_law_41 1 rfl rfl)
theorem dL_law_1108 : decode cL_law 1108 = .ok (.iadd, 1) := dk_96 (dk_at dksL_law_41 2 rfl rfl)
theorem dL_law_1109 : decode cL_law 1109 = .ok (.iaload, 1) := dk_46 (dk_at dksL_law_41 3 rfl rfl)
theorem dL_law_1110 : decode cL_law 1110 = .ok (.aload_n 0, 1) := dk_42 (dk_at dksL_law_41 4 rfl rfl)
theorem dL_law_1111 : decode cL_law 1111 = .ok (.iload_n 3, 1) := dk_29 (dk_at dksL_law_41 5 rfl rfl)
theorem dL_law_1112 : decode cL_law 1112 = .ok (.iconst 3, 1) := dk_6 (dk_at dksL_law_41 6 rfl rfl)
theorem dL_law_1113 : decode cL_law 1113 = .ok (.iadd, 1) := dk_96 (dk_at dksL_law_41 7 rfl rfl)
theorem dL_law_1114 : decode cL_law 1114 = .ok (.iaload, 1) := dk_46 (dk_at dksL_law_41 8 rfl rfl)
theorem dL_law_1115 : decode cL_law 1115 = .ok (.invokevirtual 143, 3) := dk_182 0 143 (dk_at dksL_law_41 9 rfl rfl)
theorem dL_law_1118 : decode cL_law 1118 = .ok (.aload_n 2, 1) := dk_44 (dk_at dksL_law_41 12 rfl rfl)
theorem dL_law_1119 : decode cL_law 1119 = .ok (.aload_n 0, 1) := dk_42 (dk_at dksL_law_41 13 rfl rfl)
theorem dL_law_1120 : decode cL_law 1120 = .ok (.iload_n 3, 1) := dk_29 (dk_at dksL_law_41 14 rfl rfl)
theorem dL_law_1121 : decode cL_law 1121 = .ok (.iconst 1, 1) := dk_4 (dk_at dksL_law_41 15 rfl rfl)
theorem dL_law_1122 : decode cL_law 1122 = .ok (.iadd, 1) := dk_96 (dk_at dksL_law_41 16 rfl rfl)
theorem dL_law_1123 : decode cL_law 1123 = .ok (.iaload, 1) := dk_46 (dk_at dksL_law_41 17 rfl rfl)
theorem dL_law_1124 : decode cL_law 1124 = .ok (.aload_n 0, 1) := dk_42 (dk_at dksL_law_41 18 rfl rfl)
theorem dL_law_1125 : decode cL_law 1125 = .ok (.iload_n 3, 1) := dk_29 (dk_at dksL_law_41 19 rfl rfl)
theorem dL_law_1126 : decode cL_law 1126 = .ok (.iconst 2, 1) := dk_5 (dk_at dksL_law_41 20 rfl rfl)
theorem dL_law_1127 : decode cL_law 1127 = .ok (.iadd, 1) := dk_96 (dk_at dksL_law_41 21 rfl rfl)
theorem dL_law_1128 : decode cL_law 1128 = .ok (.iaload, 1) := dk_46 (dk_at dksL_law_41 22 rfl rfl)
theorem dL_law_1129 : decode cL_law 1129 = .ok (.aload_n 0, 1) := dk_42 (dk_at dksL_law_41 23 rfl rfl)
theorem dL_law_1130 : decode cL_law 1130 = .ok (.iload_n 3, 1) := dk_29 (dk_at dksL_law_42 0 rfl rfl)
theorem dL_law_1131 : decode cL_law 1131 = .ok (.iconst 3, 1) := dk_6 (dk_at dksL_law_42 1 rfl rfl)
theorem dL_law_1132 : decode cL_law 1132 = .ok (.iadd, 1) := dk_96 (dk_at dksL_law_42 2 rfl rfl)
theorem dL_law_1133 : decode cL_law 1133 = .ok (.iaload, 1) := dk_46 (dk_at dksL_law_42 3 rfl rfl)
theorem dL_law_1134 : decode cL_law 1134 = .ok (.invokevirtual 146, 3) := dk_182 0 146 (dk_at dksL_law_42 4 rfl rfl)
theorem dL_law_1137 : decode cL_law 1137 = .ok (.if_icmp .eq 226, 3) := dk_159 0 226 (dk_at dksL_law_42 7 rfl rfl)
theorem dL_law_1140 : decode cL_law 1140 = .ok (.iconst 0, 1) := dk_3 (dk_at dksL_law_42 10 rfl rfl)
theorem dL_law_1141 : decode cL_law 1141 = .ok (.ireturn, 1) := dk_172 (dk_at dksL_law_42 11 rfl rfl)
theorem dL_law_1142 : decode cL_law 1142 = .ok (.aload_n 1, 1) := dk_43 (dk_at dksL_law_42 12 rfl rfl)
theorem dL_law_1143 : decode cL_law 1143 = .ok (.aload_n 0, 1) := dk_42 (dk_at dksL_law_42 13 rfl rfl)
theorem dL_law_1144 : decode cL_law 1144 = .ok (.iload_n 3, 1) := dk_29 (dk_at dksL_law_42 14 rfl rfl)
theorem dL_law_1145 : decode cL_law 1145 = .ok (.iconst 1, 1) := dk_4 (dk_at dksL_law_42 15 rfl rfl)
theorem dL_law_1146 : decode cL_law 1146 = .ok (.iadd, 1) := dk_96 (dk_at dksL_law_42 16 rfl rfl)
theorem dL_law_1147 : decode cL_law 1147 = .ok (.iaload, 1) := dk_46 (dk_at dksL_law_42 17 rfl rfl)
theorem dL_law_1148 : decode cL_law 1148 = .ok (.invokevirtual 147, 3) := dk_182 0 147 (dk_at dksL_law_42 18 rfl rfl)
theorem dL_law_1151 : decode cL_law 1151 = .ok (.aload_n 2, 1) := dk_44 (dk_at dksL_law_42 21 rfl rfl)
theorem dL_law_1152 : decode cL_law 1152 = .ok (.aload_n 0, 1) := dk_42 (dk_at dksL_law_42 22 rfl rfl)
theorem dL_law_1153 : decode cL_law 1153 = .ok (.iload_n 3, 1) := dk_29 (dk_at dksL_law_42 23 rfl rfl)
theorem dL_law_1154 : decode cL_law 1154 = .ok (.iconst 1, 1) := dk_4 (dk_at dksL_law_43 0 rfl rfl)
theorem dL_law_1155 : decode cL_law 1155 = .ok (.iadd, 1) := dk_96 (dk_at dksL_law_43 1 rfl rfl)
theorem dL_law_1156 : decode cL_law 1156 = .ok (.iaload, 1) := dk_46 (dk_at dksL_law_43 2 rfl rfl)
theorem dL_law_1157 : decode cL_law 1157 = .ok (.invokevirtual 150, 3) := dk_182 0 150 (dk_at dksL_law_43 3 rfl rfl)
theorem dL_law_1160 : decode cL_law 1160 = .ok (.if_icmp .eq 203, 3) := dk_159 0 203 (dk_at dksL_law_43 6 rfl rfl)
theorem dL_law_1163 : decode cL_law 1163 = .ok (.iconst 0, 1) := dk_3 (dk_at dksL_law_43 9 rfl rfl)
theorem dL_law_1164 : decode cL_law 1164 = .ok (.ireturn, 1) := dk_172 (dk_at dksL_law_43 10 rfl rfl)
theorem dL_law_1165 : decode cL_law 1165 = .ok (.aload_n 1, 1) := dk_43 (dk_at dksL_law_43 11 rfl rfl)
theorem dL_law_1166 : decode cL_law 1166 = .ok (.aload_n 0, 1) := dk_42 (dk_at dksL_law_43 12 rfl rfl)
theorem dL_law_1167 : decode cL_law 1167 = .ok (.iload_n 3, 1) := dk_29 (dk_at dksL_law_43 13 rfl rfl)
theorem dL_law_1168 : decode cL_law 1168 = .ok (.iconst 1, 1) := dk_4 (dk_at dksL_law_43 14 rfl rfl)
theorem dL_law_1169 : decode cL_law 1169 = .ok (.iadd, 1) := dk_96 (dk_at dksL_law_43 15 rfl rfl)
theorem dL_law_1170 : decode cL_law 1170 = .ok (.iaload, 1) := dk_46 (dk_at dksL_law_43 16 rfl rfl)
theorem dL_law_1171 : decode cL_law 1171 = .ok (.invokevirtual 151, 3) := dk_182 0 151 (dk_at dksL_law_43 17 rfl rfl)
theorem dL_law_1174 : decode cL_law 1174 = .ok (.aload_n 2, 1) := dk_44 (dk_at dksL_law_43 20 rfl rfl)
theorem dL_law_1175 : decode cL_law 1175 = .ok (.aload_n 0, 1) := dk_42 (dk_at dksL_law_43 21 rfl rfl)
theorem dL_law_1176 : decode cL_law 1176 = .ok (.iload_n 3, 1) := dk_29 (dk_at dksL_law_43 22 rfl rfl)
theorem dL_law_1177 : decode cL_law 1177 = .ok (.iconst 1, 1) := dk_4 (dk_at dksL_law_43 23 rfl rfl)
theorem dL_law_1178 : decode cL_law 1178 = .ok (.iadd, 1) := dk_96 (dk_at dksL_law_44 0 rfl rfl)
theorem dL_law_1179 : decode cL_law 1179 = .ok (.iaload, 1) := dk_46 (dk_at dksL_law_44 1 rfl rfl)
theorem dL_law_1180 : decode cL_law 1180 = .ok (.invokevirtual 154, 3) := dk_182 0 154 (dk_at dksL_law_44 2 rfl rfl)
theorem dL_law_1183 : decode cL_law 1183 = .ok (.if_icmp .eq 180, 3) := dk_159 0 180 (dk_at dksL_law_44 5 rfl rfl)
theorem dL_law_1186 : decode cL_law 1186 = .ok (.iconst 0, 1) := dk_3 (dk_at dksL_law_44 8 rfl rfl)
theorem dL_law_1187 : decode cL_law 1187 = .ok (.ireturn, 1) := dk_172 (dk_at dksL_law_44 9 rfl rfl)
theorem dL_law_1188 : decode cL_law 1188 = .ok (.aload_n 1, 1) := dk_43 (dk_at dksL_law_44 10 rfl rfl)
theorem dL_law_1189 : decode cL_law 1189 = .ok (.aload_n 0, 1) := dk_42 (dk_at dksL_law_44 11 rfl rfl)
theorem dL_law_1190 : decode cL_law 1190 = .ok (.iload_n 3, 1) := dk_29 (dk_at dksL_law_44 12 rfl rfl)
theorem dL_law_1191 : decode cL_law 1191 = .ok (.iconst 1, 1) := dk_4 (dk_at dksL_law_44 13 rfl rfl)
theorem dL_law_1192 : decode cL_law 1192 = .ok (.iadd, 1) := dk_96 (dk_at dksL_law_44 14 rfl rfl)
theorem dL_law_1193 : decode cL_law 1193 = .ok (.iaload, 1) := dk_46 (dk_at dksL_law_44 15 rfl rfl)
theorem dL_law_1194 : decode cL_law 1194 = .ok (.aload_n 0, 1) := dk_42 (dk_at dksL_law_44 16 rfl rfl)
theorem dL_law_1195 : decode cL_law 1195 = .ok (.iload_n 3, 1) := dk_29 (dk_at dksL_law_44 17 rfl rfl)
theorem dL_law_1196 : decode cL_law 1196 = .ok (.iconst 2, 1) := dk_5 (dk_at dksL_law_44 18 rfl rfl)
theorem dL_law_1197 : decode cL_law 1197 = .ok (.iadd, 1) := dk_96 (dk_at dksL_law_44 19 rfl rfl)
theorem dL_law_1198 : decode cL_law 1198 = .ok (.iaload, 1) := dk_46 (dk_at dksL_law_44 20 rfl rfl)
theorem dL_law_1199 : decode cL_law 1199 = .ok (.aload_n 0, 1) := dk_42 (dk_at dksL_law_44 21 rfl rfl)
theorem dL_law_1200 : decode cL_law 1200 = .ok (.iload_n 3, 1) := dk_29 (dk_at dksL_law_44 22 rfl rfl)
theorem dL_law_1201 : decode cL_law 1201 = .ok (.iconst 3, 1) := dk_6 (dk_at dksL_law_44 23 rfl rfl)
theorem dL_law_1202 : decode cL_law 1202 = .ok (.iadd, 1) := dk_96 (dk_at dksL_law_45 0 rfl rfl)
theorem dL_law_1203 : decode cL_law 1203 = .ok (.iaload, 1) := dk_46 (dk_at dksL_law_45 1 rfl rfl)
theorem dL_law_1204 : decode cL_law 1204 = .ok (.invokevirtual 155, 3) := dk_182 0 155 (dk_at dksL_law_45 2 rfl rfl)
theorem dL_law_1207 : decode cL_law 1207 = .ok (.aload_n 2, 1) := dk_44 (dk_at dksL_law_45 5 rfl rfl)
theorem dL_law_1208 : decode cL_law 1208 = .ok (.aload_n 0, 1) := dk_42 (dk_at dksL_law_45 6 rfl rfl)
theorem dL_law_1209 : decode cL_law 1209 = .ok (.iload_n 3, 1) := dk_29 (dk_at dksL_law_45 7 rfl rfl)
theorem dL_law_1210 : decode cL_law 1210 = .ok (.iconst 1, 1) := dk_4 (dk_at dksL_law_45 8 rfl rfl)
theorem dL_law_1211 : decode cL_law 1211 = .ok (.iadd, 1) := dk_96 (dk_at dksL_law_45 9 rfl rfl)
theorem dL_law_1212 : decode cL_law 1212 = .ok (.iaload, 1) := dk_46 (dk_at dksL_law_45 10 rfl rfl)
theorem dL_law_1213 : decode cL_law 1213 = .ok (.aload_n 0, 1) := dk_42 (dk_at dksL_law_45 11 rfl rfl)
theorem dL_law_1214 : decode cL_law 1214 = .ok (.iload_n 3, 1) := dk_29 (dk_at dksL_law_45 12 rfl rfl)
theorem dL_law_1215 : decode cL_law 1215 = .ok (.iconst 2, 1) := dk_5 (dk_at dksL_law_45 13 rfl rfl)
theorem dL_law_1216 : decode cL_law 1216 = .ok (.iadd, 1) := dk_96 (dk_at dksL_law_45 14 rfl rfl)
theorem dL_law_1217 : decode cL_law 1217 = .ok (.iaload, 1) := dk_46 (dk_at dksL_law_45 15 rfl rfl)
theorem dL_law_1218 : decode cL_law 1218 = .ok (.aload_n 0, 1) := dk_42 (dk_at dksL_law_45 16 rfl rfl)
theorem dL_law_1219 : decode cL_law 1219 = .ok (.iload_n 3, 1) := dk_29 (dk_at dksL_law_45 17 rfl rfl)
theorem dL_law_1220 : decode cL_law 1220 = .ok (.iconst 3, 1) := dk_6 (dk_at dksL_law_45 18 rfl rfl)
theorem dL_law_1221 : decode cL_law 1221 = .ok (.iadd, 1) := dk_96 (dk_at dksL_law_45 19 rfl rfl)
theorem dL_law_1222 : decode cL_law 1222 = .ok (.iaload, 1) := dk_46 (dk_at dksL_law_45 20 rfl rfl)
theorem dL_law_1223 : decode cL_law 1223 = .ok (.invokevirtual 158, 3) := dk_182 0 158 (dk_at dksL_law_45 21 rfl rfl)
theorem dL_law_1226 : decode cL_law 1226 = .ok (.if_icmp .eq 137, 3) := dk_159 0 137 (dk_at dksL_law_46 0 rfl rfl)
theorem dL_law_1229 : decode cL_law 1229 = .ok (.iconst 0, 1) := dk_3 (dk_at dksL_law_46 3 rfl rfl)
theorem dL_law_1230 : decode cL_law 1230 = .ok (.ireturn, 1) := dk_172 (dk_at dksL_law_46 4 rfl rfl)
theorem dL_law_1231 : decode cL_law 1231 = .ok (.aload_n 1, 1) := dk_43 (dk_at dksL_law_46 5 rfl rfl)
theorem dL_law_1232 : decode cL_law 1232 = .ok (.aload_n 0, 1) := dk_42 (dk_at dksL_law_46 6 rfl rfl)
theorem dL_law_1233 : decode cL_law 1233 = .ok (.iload_n 3, 1) := dk_29 (dk_at dksL_law_46 7 rfl rfl)
theorem dL_law_1234 : decode cL_law 1234 = .ok (.iconst 1, 1) := dk_4 (dk_at dksL_law_46 8 rfl rfl)
theorem dL_law_1235 : decode cL_law 1235 = .ok (.iadd, 1) := dk_96 (dk_at dksL_law_46 9 rfl rfl)
theorem dL_law_1236 : decode cL_law 1236 = .ok (.iaload, 1) := dk_46 (dk_at dksL_law_46 10 rfl rfl)
theorem dL_law_1237 : decode cL_law 1237 = .ok (.aload_n 0, 1) := dk_42 (dk_at dksL_law_46 11 rfl rfl)
theorem dL_law_1238 : decode cL_law 1238 = .ok (.iload_n 3, 1) := dk_29 (dk_at dksL_law_46 12 rfl rfl)
theorem dL_law_1239 : decode cL_law 1239 = .ok (.iconst 2, 1) := dk_5 (dk_at dksL_law_46 13 rfl rfl)
theorem dL_law_1240 : decode cL_law 1240 = .ok (.iadd, 1) := dk_96 (dk_at dksL_law_46 14 rfl rfl)
theorem dL_law_1241 : decode cL_law 1241 = .ok (.iaload, 1) := dk_46 (dk_at dksL_law_46 15 rfl rfl)
theorem dL_law_1242 : decode cL_law 1242 = .ok (.aload_n 0, 1) := dk_42 (dk_at dksL_law_46 16 rfl rfl)
theorem dL_law_1243 : decode cL_law 1243 = .ok (.iload_n 3, 1) := dk_29 (dk_at dksL_law_46 17 rfl rfl)
theorem dL_law_1244 : decode cL_law 1244 = .ok (.iconst 3, 1) := dk_6 (dk_at dksL_law_46 18 rfl rfl)
theorem dL_law_1245 : decode cL_law 1245 = .ok (.iadd, 1) := dk_96 (dk_at dksL_law_46 19 rfl rfl)
theorem dL_law_1246 : decode cL_law 1246 = .ok (.iaload, 1) := dk_46 (dk_at dksL_law_46 20 rfl rfl)
theorem dL_law_1247 : decode cL_law 1247 = .ok (.invokevirtual 159, 3) := dk_182 0 159 (dk_at dksL_law_46 21 rfl rfl)
theorem dL_law_1250 : decode cL_law 1250 = .ok (.aload_n 2, 1) := dk_44 (dk_at dksL_law_47 0 rfl rfl)
theorem dL_law_1251 : decode cL_law 1251 = .ok (.aload_n 0, 1) := dk_42 (dk_at dksL_law_47 1 rfl rfl)
theorem dL_law_1252 : decode cL_law 1252 = .ok (.iload_n 3, 1) := dk_29 (dk_at dksL_law_47 2 rfl rfl)
theorem dL_law_1253 : decode cL_law 1253 = .ok (.iconst 1, 1) := dk_4 (dk_at dksL_law_47 3 rfl rfl)
theorem dL_law_1254 : decode cL_law 1254 = .ok (.iadd, 1) := dk_96 (dk_at dksL_law_47 4 rfl rfl)
theorem dL_law_1255 : decode cL_law 1255 = .ok (.iaload, 1) := dk_46 (dk_at dksL_law_47 5 rfl rfl)
theorem dL_law_1256 : decode cL_law 1256 = .ok (.aload_n 0, 1) := dk_42 (dk_at dksL_law_47 6 rfl rfl)
theorem dL_law_1257 : decode cL_law 1257 = .ok (.iload_n 3, 1) := dk_29 (dk_at dksL_law_47 7 rfl rfl)
theorem dL_law_1258 : decode cL_law 1258 = .ok (.iconst 2, 1) := dk_5 (dk_at dksL_law_47 8 rfl rfl)
theorem dL_law_1259 : decode cL_law 1259 = .ok (.iadd, 1) := dk_96 (dk_at dksL_law_47 9 rfl rfl)
theorem dL_law_1260 : decode cL_law 1260 = .ok (.iaload, 1) := dk_46 (dk_at dksL_law_47 10 rfl rfl)
theorem dL_law_1261 : decode cL_law 1261 = .ok (.aload_n 0, 1) := dk_42 (dk_at dksL_law_47 11 rfl rfl)
theorem dL_law_1262 : decode cL_law 1262 = .ok (.iload_n 3, 1) := dk_29 (dk_at dksL_law_47 12 rfl rfl)
theorem dL_law_1263 : decode cL_law 1263 = .ok (.iconst 3, 1) := dk_6 (dk_at dksL_law_47 13 rfl rfl)
theorem dL_law_1264 : decode cL_law 1264 = .ok (.iadd, 1) := dk_96 (dk_at dksL_law_47 14 rfl rfl)
theorem dL_law_1265 : decode cL_law 1265 = .ok (.iaload, 1) := dk_46 (dk_at dksL_law_47 15 rfl rfl)
theorem dL_law_1266 : decode cL_law 1266 = .ok (.invokevirtual 162, 3) := dk_182 0 162 (dk_at dksL_law_47 16 rfl rfl)
theorem dL_law_1269 : decode cL_law 1269 = .ok (.if_icmp .eq 94, 3) := dk_159 0 94 (dk_at dksL_law_47 19 rfl rfl)
theorem dL_law_1272 : decode cL_law 1272 = .ok (.iconst 0, 1) := dk_3 (dk_at dksL_law_47 22 rfl rfl)
theorem dL_law_1273 : decode cL_law 1273 = .ok (.ireturn, 1) := dk_172 (dk_at dksL_law_47 23 rfl rfl)
theorem dL_law_1274 : decode cL_law 1274 = .ok (.aload_n 1, 1) := dk_43 (dk_at dksL_law_48 0 rfl rfl)
theorem dL_law_1275 : decode cL_law 1275 = .ok (.aload_n 0, 1) := dk_42 (dk_at dksL_law_48 1 rfl rfl)
theorem dL_law_1276 : decode cL_law 1276 = .ok (.iload_n 3, 1) := dk_29 (dk_at dksL_law_48 2 rfl rfl)
theorem dL_law_1277 : decode cL_law 1277 = .ok (.iconst 1, 1) := dk_4 (dk_at dksL_law_48 3 rfl rfl)
theorem dL_law_1278 : decode cL_law 1278 = .ok (.iadd, 1) := dk_96 (dk_at dksL_law_48 4 rfl rfl)
theorem dL_law_1279 : decode cL_law 1279 = .ok (.iaload, 1) := dk_46 (dk_at dksL_law_48 5 rfl rfl)
theorem dL_law_1280 : decode cL_law 1280 = .ok (.aload_n 0, 1) := dk_42 (dk_at dksL_law_48 6 rfl rfl)
theorem dL_law_1281 : decode cL_law 1281 = .ok (.iload_n 3, 1) := dk_29 (dk_at dksL_law_48 7 rfl rfl)
theorem dL_law_1282 : decode cL_law 1282 = .ok (.iconst 2, 1) := dk_5 (dk_at dksL_law_48 8 rfl rfl)
theorem dL_law_1283 : decode cL_law 1283 = .ok (.iadd, 1) := dk_96 (dk_at dksL_law_48 9 rfl rfl)
theorem dL_law_1284 : decode cL_law 1284 = .ok (.iaload, 1) := dk_46 (dk_at dksL_law_48 10 rfl rfl)
theorem dL_law_1285 : decode cL_law 1285 = .ok (.aload_n 0, 1) := dk_42 (dk_at dksL_law_48 11 rfl rfl)
theorem dL_law_1286 : decode cL_law 1286 = .ok (.iload_n 3, 1) := dk_29 (dk_at dksL_law_48 12 rfl rfl)
theorem dL_law_1287 : decode cL_law 1287 = .ok (.iconst 3, 1) := dk_6 (dk_at dksL_law_48 13 rfl rfl)
theorem dL_law_1288 : decode cL_law 1288 = .ok (.iadd, 1) := dk_96 (dk_at dksL_law_48 14 rfl rfl)
theorem dL_law_1289 : decode cL_law 1289 = .ok (.iaload, 1) := dk_46 (dk_at dksL_law_48 15 rfl rfl)
theorem dL_law_1290 : decode cL_law 1290 = .ok (.aload_n 0, 1) := dk_42 (dk_at dksL_law_48 16 rfl rfl)
theorem dL_law_1291 : decode cL_law 1291 = .ok (.iload_n 3, 1) := dk_29 (dk_at dksL_law_48 17 rfl rfl)
theorem dL_law_1292 : decode cL_law 1292 = .ok (.iconst 4, 1) := dk_7 (dk_at dksL_law_48 18 rfl rfl)
theorem dL_law_1293 : decode cL_law 1293 = .ok (.iadd, 1) := dk_96 (dk_at dksL_law_48 19 rfl rfl)
theorem dL_law_1294 : decode cL_law 1294 = .ok (.iaload, 1) := dk_46 (dk_at dksL_law_48 20 rfl rfl)
theorem dL_law_1295 : decode cL_law 1295 = .ok (.invokevirtual 163, 3) := dk_182 0 163 (dk_at dksL_law_48 21 rfl rfl)
theorem dL_law_1298 : decode cL_law 1298 = .ok (.aload_n 2, 1) := dk_44 (dk_at dksL_law_49 0 rfl rfl)
theorem dL_law_1299 : decode cL_law 1299 = .ok (.aload_n 0, 1) := dk_42 (dk_at dksL_law_49 1 rfl rfl)
theorem dL_law_1300 : decode cL_law 1300 = .ok (.iload_n 3, 1) := dk_29 (dk_at dksL_law_49 2 rfl rfl)
theorem dL_law_1301 : decode cL_law 1301 = .ok (.iconst 1, 1) := dk_4 (dk_at dksL_law_49 3 rfl rfl)
theorem dL_law_1302 : decode cL_law 1302 = .ok (.iadd, 1) := dk_96 (dk_at dksL_law_49 4 rfl rfl)
theorem dL_law_1303 : decode cL_law 1303 = .ok (.iaload, 1) := dk_46 (dk_at dksL_law_49 5 rfl rfl)
theorem dL_law_1304 : decode cL_law 1304 = .ok (.aload_n 0, 1) := dk_42 (dk_at dksL_law_49 6 rfl rfl)
theorem dL_law_1305 : decode cL_law 1305 = .ok (.iload_n 3, 1) := dk_29 (dk_at dksL_law_49 7 rfl rfl)
theorem dL_law_1306 : decode cL_law 1306 = .ok (.iconst 2, 1) := dk_5 (dk_at dksL_law_49 8 rfl rfl)
theorem dL_law_1307 : decode cL_law 1307 = .ok (.iadd, 1) := dk_96 (dk_at dksL_law_49 9 rfl rfl)
theorem dL_law_1308 : decode cL_law 1308 = .ok (.iaload, 1) := dk_46 (dk_at dksL_law_49 10 rfl rfl)
theorem dL_law_1309 : decode cL_law 1309 = .ok (.aload_n 0, 1) := dk_42 (dk_at dksL_law_49 11 rfl rfl)
theorem dL_law_1310 : decode cL_law 1310 = .ok (.iload_n 3, 1) := dk_29 (dk_at dksL_law_49 12 rfl rfl)
theorem dL_law_1311 : decode cL_law 1311 = .ok (.iconst 3, 1) := dk_6 (dk_at dksL_law_49 13 rfl rfl)
theorem dL_law_1312 : decode cL_law 1312 = .ok (.iadd, 1) := dk_96 (dk_at dksL_law_49 14 rfl rfl)
theorem dL_law_1313 : decode cL_law 1313 = .ok (.iaload, 1) := dk_46 (dk_at dksL_law_49 15 rfl rfl)
theorem dL_law_1314 : decode cL_law 1314 = .ok (.aload_n 0, 1) := dk_42 (dk_at dksL_law_49 16 rfl rfl)
theorem dL_law_1315 : decode cL_law 1315 = .ok (.iload_n 3, 1) := dk_29 (dk_at dksL_law_49 17 rfl rfl)
theorem dL_law_1316 : decode cL_law 1316 = .ok (.iconst 4, 1) := dk_7 (dk_at dksL_law_49 18 rfl rfl)
theorem dL_law_1317 : decode cL_law 1317 = .ok (.iadd, 1) := dk_96 (dk_at dksL_law_49 19 rfl rfl)
theorem dL_law_1318 : decode cL_law 1318 = .ok (.iaload, 1) := dk_46 (dk_at dksL_law_49 20 rfl rfl)
theorem dL_law_1319 : decode cL_law 1319 = .ok (.invokevirtual 167, 3) := dk_182 0 167 (dk_at dksL_law_49 21 rfl rfl)
theorem dL_law_1322 : decode cL_law 1322 = .ok (.if_icmp .eq 41, 3) := dk_159 0 41 (dk_at dksL_law_50 0 rfl rfl)
theorem dL_law_1325 : decode cL_law 1325 = .ok (.iconst 0, 1) := dk_3 (dk_at dksL_law_50 3 rfl rfl)
theorem dL_law_1326 : decode cL_law 1326 = .ok (.ireturn, 1) := dk_172 (dk_at dksL_law_50 4 rfl rfl)
theorem dL_law_1327 : decode cL_law 1327 = .ok (.aload_n 1, 1) := dk_43 (dk_at dksL_law_50 5 rfl rfl)
theorem dL_law_1328 : decode cL_law 1328 = .ok (.invokevirtual 168, 3) := dk_182 0 168 (dk_at dksL_law_50 6 rfl rfl)
theorem dL_law_1331 : decode cL_law 1331 = .ok (.aload_n 2, 1) := dk_44 (dk_at dksL_law_50 9 rfl rfl)
theorem dL_law_1332 : decode cL_law 1332 = .ok (.invokevirtual 171, 3) := dk_182 0 171 (dk_at dksL_law_50 10 rfl rfl)
theorem dL_law_1335 : decode cL_law 1335 = .ok (.if_icmp .eq 28, 3) := dk_159 0 28 (dk_at dksL_law_50 13 rfl rfl)
theorem dL_law_1338 : decode cL_law 1338 = .ok (.iconst 0, 1) := dk_3 (dk_at dksL_law_50 16 rfl rfl)
theorem dL_law_1339 : decode cL_law 1339 = .ok (.ireturn, 1) := dk_172 (dk_at dksL_law_50 17 rfl rfl)
theorem dL_law_1340 : decode cL_law 1340 = .ok (.aload_n 1, 1) := dk_43 (dk_at dksL_law_50 18 rfl rfl)
theorem dL_law_1341 : decode cL_law 1341 = .ok (.aload_n 0, 1) := dk_42 (dk_at dksL_law_50 19 rfl rfl)
theorem dL_law_1342 : decode cL_law 1342 = .ok (.iload_n 3, 1) := dk_29 (dk_at dksL_law_50 20 rfl rfl)
theorem dL_law_1343 : decode cL_law 1343 = .ok (.iconst 1, 1) := dk_4 (dk_at dksL_law_50 21 rfl rfl)
theorem dL_law_1344 : decode cL_law 1344 = .ok (.iadd, 1) := dk_96 (dk_at dksL_law_50 22 rfl rfl)
theorem dL_law_1345 : decode cL_law 1345 = .ok (.iaload, 1) := dk_46 (dk_at dksL_law_50 23 rfl rfl)
theorem dL_law_1346 : decode cL_law 1346 = .ok (.invokevirtual 172, 3) := dk_182 0 172 (dk_at dksL_law_51 0 rfl rfl)
theorem dL_law_1349 : decode cL_law 1349 = .ok (.aload_n 2, 1) := dk_44 (dk_at dksL_law_51 3 rfl rfl)
theorem dL_law_1350 : decode cL_law 1350 = .ok (.aload_n 0, 1) := dk_42 (dk_at dksL_law_51 4 rfl rfl)
theorem dL_law_1351 : decode cL_law 1351 = .ok (.iload_n 3, 1) := dk_29 (dk_at dksL_law_51 5 rfl rfl)
theorem dL_law_1352 : decode cL_law 1352 = .ok (.iconst 1, 1) := dk_4 (dk_at dksL_law_51 6 rfl rfl)
theorem dL_law_1353 : decode cL_law 1353 = .ok (.iadd, 1) := dk_96 (dk_at dksL_law_51 7 rfl rfl)
theorem dL_law_1354 : decode cL_law 1354 = .ok (.iaload, 1) := dk_46 (dk_at dksL_law_51 8 rfl rfl)
theorem dL_law_1355 : decode cL_law 1355 = .ok (.invokevirtual 175, 3) := dk_182 0 175 (dk_at dksL_law_51 9 rfl rfl)
theorem dL_law_1358 : decode cL_law 1358 = .ok (.if_icmp .eq 5, 3) := dk_159 0 5 (dk_at dksL_law_51 12 rfl rfl)
theorem dL_law_1361 : decode cL_law 1361 = .ok (.iconst 0, 1) := dk_3 (dk_at dksL_law_51 15 rfl rfl)
theorem dL_law_1362 : decode cL_law 1362 = .ok (.ireturn, 1) := dk_172 (dk_at dksL_law_51 16 rfl rfl)
theorem dL_law_1363 : decode cL_law 1363 = .ok (.iinc 3 5, 3) := dk_132 3 5 (dk_at dksL_law_51 17 rfl rfl)
theorem dL_law_1366 : decode cL_law 1366 = .ok (.goto (-1348), 3) := dk_167 250 188 (dk_at dksL_law_51 20 rfl rfl)
theorem dL_law_1369 : decode cL_law 1369 = .ok (.iconst 1, 1) := dk_4 (dk_at dksL_law_51 23 rfl rfl)
theorem dL_law_1370 : decode cL_law 1370 = .ok (.ireturn, 1) := dk_172 (dk_at dksL_law_52 0 rfl rfl)
