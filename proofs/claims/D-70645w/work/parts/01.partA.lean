-- ===== PART A: goes FIRST, ahead of the names: the tables' words, and 'selects' of the private methods out of them =====
/-- a private method of a class that the tables say can be made, by its rows of tables_1 -/
def lw_okq (q : MethodName × Nat) : Prop := (q.1.cls ≠ "java/lang/invoke/MethodHandle" ∧ q.1.cls ≠ "java/lang/invoke/VarHandle") ∧ Cond.instantiable q.1.cls q.2 ∈ tables_1 ∧ Cond.privateMethod q.1 ∈ tables_1 ∧ Cond.instanceMethod q.1 ∈ tables_1
set_option maxRecDepth 100000
theorem lw_t1 {w : Cond} (h : w ∈ tables_1_1) : w ∈ tables_1 := List.mem_append_left _ h
theorem lw_t2 {w : Cond} (h : w ∈ tables_1_2) : w ∈ tables_1 := List.mem_append_right _ (List.mem_append_left _ h)
theorem lw_t3 {w : Cond} (h : w ∈ tables_1_3) : w ∈ tables_1 := List.mem_append_right _ (List.mem_append_right _ (List.mem_append_left _ h))
theorem lw_t4 {w : Cond} (h : w ∈ tables_1_4) : w ∈ tables_1 := List.mem_append_right _ (List.mem_append_right _ (List.mem_append_right _ (List.mem_append_left _ h)))
theorem lw_t5 {w : Cond} (h : w ∈ tables_1_5) : w ∈ tables_1 := List.mem_append_right _ (List.mem_append_right _ (List.mem_append_right _ (List.mem_append_right _ (List.mem_append_left _ h))))
theorem lw_t6 {w : Cond} (h : w ∈ tables_1_6) : w ∈ tables_1 := List.mem_append_right _ (List.mem_append_right _ (List.mem_append_right _ (List.mem_append_right _ (List.mem_append_right _ h))))
theorem lw_p0 : lw_okq (⟨"ClockWard$Reader", "next", "()V"⟩, 9) := ⟨⟨by decide +kernel, by decide +kernel⟩, lw_t1 (List.mem_of_getElem? (i := 211) rfl), lw_t1 (List.mem_of_getElem? (i := 219) rfl), lw_t1 (List.mem_of_getElem? (i := 220) rfl)⟩
theorem lw_p1 : lw_okq (⟨"ClockWard$Reader", "isIn", "(CC)Z"⟩, 9) := ⟨⟨by decide +kernel, by decide +kernel⟩, lw_t1 (List.mem_of_getElem? (i := 211) rfl), lw_t1 (List.mem_of_getElem? (i := 223) rfl), lw_t1 (List.mem_of_getElem? (i := 224) rfl)⟩
theorem lw_p2 : lw_okq (⟨"ClockWard$Reader", "need", "(ZI)V"⟩, 9) := ⟨⟨by decide +kernel, by decide +kernel⟩, lw_t1 (List.mem_of_getElem? (i := 211) rfl), lw_t1 (List.mem_of_getElem? (i := 227) rfl), lw_t1 (List.mem_of_getElem? (i := 228) rfl)⟩
theorem lw_p3 : lw_okq (⟨"java/lang/NullPointerException", "getExtendedNPEMessage", "()Ljava/lang/String;"⟩, 8) := ⟨⟨by decide +kernel, by decide +kernel⟩, lw_t2 (List.mem_of_getElem? (i := 30) rfl), lw_t2 (List.mem_of_getElem? (i := 28) rfl), lw_t2 (List.mem_of_getElem? (i := 29) rfl)⟩
theorem lw_p4 : lw_okq (⟨"java/lang/Throwable", "fillInStackTrace", "(I)Ljava/lang/Throwable;"⟩, 6) := ⟨⟨by decide +kernel, by decide +kernel⟩, lw_t2 (List.mem_of_getElem? (i := 42) rfl), lw_t2 (List.mem_of_getElem? (i := 40) rfl), lw_t2 (List.mem_of_getElem? (i := 41) rfl)⟩
theorem lw_p5 : lw_okq (⟨"ClockWard$Reader", "line", "()V"⟩, 9) := ⟨⟨by decide +kernel, by decide +kernel⟩, lw_t1 (List.mem_of_getElem? (i := 211) rfl), lw_t2 (List.mem_of_getElem? (i := 108) rfl), lw_t2 (List.mem_of_getElem? (i := 109) rfl)⟩
theorem lw_p6 : lw_okq (⟨"ClockWard$Reader", "is", "(I)Z"⟩, 9) := ⟨⟨by decide +kernel, by decide +kernel⟩, lw_t1 (List.mem_of_getElem? (i := 211) rfl), lw_t2 (List.mem_of_getElem? (i := 112) rfl), lw_t2 (List.mem_of_getElem? (i := 113) rfl)⟩
theorem lw_p7 : lw_okq (⟨"ClockWard$Reader", "name", "(I)Ljava/lang/String;"⟩, 9) := ⟨⟨by decide +kernel, by decide +kernel⟩, lw_t1 (List.mem_of_getElem? (i := 211) rfl), lw_t2 (List.mem_of_getElem? (i := 116) rfl), lw_t2 (List.mem_of_getElem? (i := 117) rfl)⟩
theorem lw_p8 : lw_okq (⟨"ClockWard$Reader", "told", "(I)V"⟩, 9) := ⟨⟨by decide +kernel, by decide +kernel⟩, lw_t1 (List.mem_of_getElem? (i := 211) rfl), lw_t2 (List.mem_of_getElem? (i := 174) rfl), lw_t2 (List.mem_of_getElem? (i := 175) rfl)⟩
theorem lw_p9 : lw_okq (⟨"ClockWard$Reader", "gift", "()V"⟩, 9) := ⟨⟨by decide +kernel, by decide +kernel⟩, lw_t1 (List.mem_of_getElem? (i := 211) rfl), lw_t2 (List.mem_of_getElem? (i := 178) rfl), lw_t2 (List.mem_of_getElem? (i := 179) rfl)⟩
theorem lw_p10 : lw_okq (⟨"ClockWard$Reader", "taken", "(II)I"⟩, 9) := ⟨⟨by decide +kernel, by decide +kernel⟩, lw_t1 (List.mem_of_getElem? (i := 211) rfl), lw_t2 (List.mem_of_getElem? (i := 182) rfl), lw_t2 (List.mem_of_getElem? (i := 183) rfl)⟩
theorem lw_p11 : lw_okq (⟨"ClockWard$Reader", "looked", "(II)I"⟩, 9) := ⟨⟨by decide +kernel, by decide +kernel⟩, lw_t1 (List.mem_of_getElem? (i := 211) rfl), lw_t2 (List.mem_of_getElem? (i := 186) rfl), lw_t2 (List.mem_of_getElem? (i := 187) rfl)⟩
theorem lw_p12 : lw_okq (⟨"ClockWard$Reader", "clock", "(I)V"⟩, 9) := ⟨⟨by decide +kernel, by decide +kernel⟩, lw_t1 (List.mem_of_getElem? (i := 211) rfl), lw_t2 (List.mem_of_getElem? (i := 194) rfl), lw_t2 (List.mem_of_getElem? (i := 195) rfl)⟩
theorem lw_p13 : lw_okq (⟨"ClockWard", "isClock", "(I)Z"⟩, 24) := ⟨⟨by decide +kernel, by decide +kernel⟩, lw_t1 (List.mem_of_getElem? (i := 27) rfl), lw_t2 (List.mem_of_getElem? (i := 233) rfl), lw_t2 (List.mem_of_getElem? (i := 234) rfl)⟩
theorem lw_p14 : lw_okq (⟨"ClockWard", "timeThen", "(LClockWard$Ward;I)I"⟩, 24) := ⟨⟨by decide +kernel, by decide +kernel⟩, lw_t1 (List.mem_of_getElem? (i := 27) rfl), lw_t2 (List.mem_of_getElem? (i := 239) rfl), lw_t3 (List.mem_of_getElem? (i := 0) rfl)⟩
theorem lw_p15 : lw_okq (⟨"ClockWard", "isPair", "(II)Z"⟩, 24) := ⟨⟨by decide +kernel, by decide +kernel⟩, lw_t1 (List.mem_of_getElem? (i := 27) rfl), lw_t3 (List.mem_of_getElem? (i := 28) rfl), lw_t3 (List.mem_of_getElem? (i := 29) rfl)⟩
def lw_privs_1 : List (MethodName × Nat) := [(⟨"ClockWard$Reader", "next", "()V"⟩, 9), (⟨"ClockWard$Reader", "isIn", "(CC)Z"⟩, 9), (⟨"ClockWard$Reader", "need", "(ZI)V"⟩, 9), (⟨"java/lang/NullPointerException", "getExtendedNPEMessage", "()Ljava/lang/String;"⟩, 8), (⟨"java/lang/Throwable", "fillInStackTrace", "(I)Ljava/lang/Throwable;"⟩, 6), (⟨"ClockWard$Reader", "line", "()V"⟩, 9), (⟨"ClockWard$Reader", "is", "(I)Z"⟩, 9), (⟨"ClockWard$Reader", "name", "(I)Ljava/lang/String;"⟩, 9), (⟨"ClockWard$Reader", "told", "(I)V"⟩, 9), (⟨"ClockWard$Reader", "gift", "()V"⟩, 9), (⟨"ClockWard$Reader", "taken", "(II)I"⟩, 9), (⟨"ClockWard$Reader", "looked", "(II)I"⟩, 9), (⟨"ClockWard$Reader", "clock", "(I)V"⟩, 9), (⟨"ClockWard", "isClock", "(I)Z"⟩, 24), (⟨"ClockWard", "timeThen", "(LClockWard$Ward;I)I"⟩, 24), (⟨"ClockWard", "isPair", "(II)Z"⟩, 24)]
theorem lw_r1 : ∀ q ∈ lw_privs_1, lw_okq q := List.forall_mem_cons.mpr ⟨lw_p0, List.forall_mem_cons.mpr ⟨lw_p1, List.forall_mem_cons.mpr ⟨lw_p2, List.forall_mem_cons.mpr ⟨lw_p3, List.forall_mem_cons.mpr ⟨lw_p4, List.forall_mem_cons.mpr ⟨lw_p5, List.forall_mem_cons.mpr ⟨lw_p6, List.forall_mem_cons.mpr ⟨lw_p7, List.forall_mem_cons.mpr ⟨lw_p8, List.forall_mem_cons.mpr ⟨lw_p9, List.forall_mem_cons.mpr ⟨lw_p10, List.forall_mem_cons.mpr ⟨lw_p11, List.forall_mem_cons.mpr ⟨lw_p12, List.forall_mem_cons.mpr ⟨lw_p13, List.forall_mem_cons.mpr ⟨lw_p14, List.forall_mem_cons.mpr ⟨lw_p15, fun _ h => absurd h List.not_mem_nil⟩⟩⟩⟩⟩⟩⟩⟩⟩⟩⟩⟩⟩⟩⟩⟩
theorem lw_p16 : lw_okq (⟨"ClockWard", "mostNow", "(II)I"⟩, 24) := ⟨⟨by decide +kernel, by decide +kernel⟩, lw_t1 (List.mem_of_getElem? (i := 27) rfl), lw_t3 (List.mem_of_getElem? (i := 64) rfl), lw_t3 (List.mem_of_getElem? (i := 65) rfl)⟩
theorem lw_p17 : lw_okq (⟨"ClockWard", "nightGoes", "(LClockWard$Ward;)V"⟩, 24) := ⟨⟨by decide +kernel, by decide +kernel⟩, lw_t1 (List.mem_of_getElem? (i := 27) rfl), lw_t3 (List.mem_of_getElem? (i := 94) rfl), lw_t3 (List.mem_of_getElem? (i := 95) rfl)⟩
theorem lw_p18 : lw_okq (⟨"ClockWard", "goes", "(LClockWard$Ward;I)V"⟩, 24) := ⟨⟨by decide +kernel, by decide +kernel⟩, lw_t1 (List.mem_of_getElem? (i := 27) rfl), lw_t3 (List.mem_of_getElem? (i := 102) rfl), lw_t3 (List.mem_of_getElem? (i := 103) rfl)⟩
theorem lw_p19 : lw_okq (⟨"ClockWard", "findBest", "(I)V"⟩, 24) := ⟨⟨by decide +kernel, by decide +kernel⟩, lw_t1 (List.mem_of_getElem? (i := 27) rfl), lw_t3 (List.mem_of_getElem? (i := 149) rfl), lw_t3 (List.mem_of_getElem? (i := 150) rfl)⟩
theorem lw_p20 : lw_okq (⟨"ClockWard", "judges", "(LClockWard$Ward;III)V"⟩, 24) := ⟨⟨by decide +kernel, by decide +kernel⟩, lw_t1 (List.mem_of_getElem? (i := 27) rfl), lw_t3 (List.mem_of_getElem? (i := 153) rfl), lw_t3 (List.mem_of_getElem? (i := 154) rfl)⟩
theorem lw_p21 : lw_okq (⟨"ClockWard", "giftsMany", "()I"⟩, 24) := ⟨⟨by decide +kernel, by decide +kernel⟩, lw_t1 (List.mem_of_getElem? (i := 27) rfl), lw_t3 (List.mem_of_getElem? (i := 157) rfl), lw_t3 (List.mem_of_getElem? (i := 158) rfl)⟩
theorem lw_p22 : lw_okq (⟨"ClockWard", "comes", "(LClockWard$Ward;LClockWard$Ward;I)Z"⟩, 24) := ⟨⟨by decide +kernel, by decide +kernel⟩, lw_t1 (List.mem_of_getElem? (i := 27) rfl), lw_t3 (List.mem_of_getElem? (i := 161) rfl), lw_t3 (List.mem_of_getElem? (i := 162) rfl)⟩
theorem lw_p23 : lw_okq (⟨"ClockWard", "giver", "(I)I"⟩, 24) := ⟨⟨by decide +kernel, by decide +kernel⟩, lw_t1 (List.mem_of_getElem? (i := 27) rfl), lw_t3 (List.mem_of_getElem? (i := 165) rfl), lw_t3 (List.mem_of_getElem? (i := 166) rfl)⟩
theorem lw_p24 : lw_okq (⟨"ClockWard", "taker", "(I)I"⟩, 24) := ⟨⟨by decide +kernel, by decide +kernel⟩, lw_t1 (List.mem_of_getElem? (i := 27) rfl), lw_t3 (List.mem_of_getElem? (i := 169) rfl), lw_t3 (List.mem_of_getElem? (i := 170) rfl)⟩
theorem lw_p25 : lw_okq (⟨"ClockWard", "told", "(I)I"⟩, 24) := ⟨⟨by decide +kernel, by decide +kernel⟩, lw_t1 (List.mem_of_getElem? (i := 27) rfl), lw_t3 (List.mem_of_getElem? (i := 176) rfl), lw_t3 (List.mem_of_getElem? (i := 177) rfl)⟩
theorem lw_p26 : lw_okq (⟨"ClockWard", "findCure", "(I)I"⟩, 24) := ⟨⟨by decide +kernel, by decide +kernel⟩, lw_t1 (List.mem_of_getElem? (i := 27) rfl), lw_t3 (List.mem_of_getElem? (i := 184) rfl), lw_t3 (List.mem_of_getElem? (i := 185) rfl)⟩
theorem lw_p27 : lw_okq (⟨"ClockWard", "isRight", "(LClockWard$Ward;I)Z"⟩, 24) := ⟨⟨by decide +kernel, by decide +kernel⟩, lw_t1 (List.mem_of_getElem? (i := 27) rfl), lw_t3 (List.mem_of_getElem? (i := 188) rfl), lw_t3 (List.mem_of_getElem? (i := 189) rfl)⟩
theorem lw_p28 : lw_okq (⟨"ClockWard", "findOdds", "(II)V"⟩, 24) := ⟨⟨by decide +kernel, by decide +kernel⟩, lw_t1 (List.mem_of_getElem? (i := 27) rfl), lw_t3 (List.mem_of_getElem? (i := 202) rfl), lw_t3 (List.mem_of_getElem? (i := 203) rfl)⟩
theorem lw_p29 : lw_okq (⟨"ClockWard", "which", "(II)I"⟩, 24) := ⟨⟨by decide +kernel, by decide +kernel⟩, lw_t1 (List.mem_of_getElem? (i := 27) rfl), lw_t3 (List.mem_of_getElem? (i := 227) rfl), lw_t3 (List.mem_of_getElem? (i := 228) rfl)⟩
theorem lw_p30 : lw_okq (⟨"ClockWard", "isSo", "(III)Z"⟩, 24) := ⟨⟨by decide +kernel, by decide +kernel⟩, lw_t1 (List.mem_of_getElem? (i := 27) rfl), lw_t3 (List.mem_of_getElem? (i := 231) rfl), lw_t3 (List.mem_of_getElem? (i := 232) rfl)⟩
theorem lw_p31 : lw_okq (⟨"ClockWard", "worstOf", "(II)I"⟩, 24) := ⟨⟨by decide +kernel, by decide +kernel⟩, lw_t1 (List.mem_of_getElem? (i := 27) rfl), lw_t4 (List.mem_of_getElem? (i := 4) rfl), lw_t4 (List.mem_of_getElem? (i := 5) rfl)⟩
def lw_privs_2 : List (MethodName × Nat) := [(⟨"ClockWard", "mostNow", "(II)I"⟩, 24), (⟨"ClockWard", "nightGoes", "(LClockWard$Ward;)V"⟩, 24), (⟨"ClockWard", "goes", "(LClockWard$Ward;I)V"⟩, 24), (⟨"ClockWard", "findBest", "(I)V"⟩, 24), (⟨"ClockWard", "judges", "(LClockWard$Ward;III)V"⟩, 24), (⟨"ClockWard", "giftsMany", "()I"⟩, 24), (⟨"ClockWard", "comes", "(LClockWard$Ward;LClockWard$Ward;I)Z"⟩, 24), (⟨"ClockWard", "giver", "(I)I"⟩, 24), (⟨"ClockWard", "taker", "(I)I"⟩, 24), (⟨"ClockWard", "told", "(I)I"⟩, 24), (⟨"ClockWard", "findCure", "(I)I"⟩, 24), (⟨"ClockWard", "isRight", "(LClockWard$Ward;I)Z"⟩, 24), (⟨"ClockWard", "findOdds", "(II)V"⟩, 24), (⟨"ClockWard", "which", "(II)I"⟩, 24), (⟨"ClockWard", "isSo", "(III)Z"⟩, 24), (⟨"ClockWard", "worstOf", "(II)I"⟩, 24)]
theorem lw_r2 : ∀ q ∈ lw_privs_2, lw_okq q := List.forall_mem_cons.mpr ⟨lw_p16, List.forall_mem_cons.mpr ⟨lw_p17, List.forall_mem_cons.mpr ⟨lw_p18, List.forall_mem_cons.mpr ⟨lw_p19, List.forall_mem_cons.mpr ⟨lw_p20, List.forall_mem_cons.mpr ⟨lw_p21, List.forall_mem_cons.mpr ⟨lw_p22, List.forall_mem_cons.mpr ⟨lw_p23, List.forall_mem_cons.mpr ⟨lw_p24, List.forall_mem_cons.mpr ⟨lw_p25, List.forall_mem_cons.mpr ⟨lw_p26, List.forall_mem_cons.mpr ⟨lw_p27, List.forall_mem_cons.mpr ⟨lw_p28, List.forall_mem_cons.mpr ⟨lw_p29, List.forall_mem_cons.mpr ⟨lw_p30, List.forall_mem_cons.mpr ⟨lw_p31, fun _ h => absurd h List.not_mem_nil⟩⟩⟩⟩⟩⟩⟩⟩⟩⟩⟩⟩⟩⟩⟩⟩
theorem lw_p32 : lw_okq (⟨"ClockWard", "takenOf", "(III)I"⟩, 24) := ⟨⟨by decide +kernel, by decide +kernel⟩, lw_t1 (List.mem_of_getElem? (i := 27) rfl), lw_t4 (List.mem_of_getElem? (i := 128) rfl), lw_t4 (List.mem_of_getElem? (i := 129) rfl)⟩
theorem lw_p33 : lw_okq (⟨"ClockWardModel", "step", "()V"⟩, 32) := ⟨⟨by decide +kernel, by decide +kernel⟩, lw_t4 (List.mem_of_getElem? (i := 141) rfl), lw_t5 (List.mem_of_getElem? (i := 21) rfl), lw_t5 (List.mem_of_getElem? (i := 22) rfl)⟩
theorem lw_p34 : lw_okq (⟨"ClockWardModel", "byteAt", "(I)I"⟩, 32) := ⟨⟨by decide +kernel, by decide +kernel⟩, lw_t4 (List.mem_of_getElem? (i := 141) rfl), lw_t5 (List.mem_of_getElem? (i := 25) rfl), lw_t5 (List.mem_of_getElem? (i := 26) rfl)⟩
theorem lw_p35 : lw_okq (⟨"ClockWardModel", "fails", "(I)V"⟩, 32) := ⟨⟨by decide +kernel, by decide +kernel⟩, lw_t4 (List.mem_of_getElem? (i := 141) rfl), lw_t5 (List.mem_of_getElem? (i := 33) rfl), lw_t5 (List.mem_of_getElem? (i := 34) rfl)⟩
theorem lw_p36 : lw_okq (⟨"ClockWardModel", "readLine", "()V"⟩, 32) := ⟨⟨by decide +kernel, by decide +kernel⟩, lw_t4 (List.mem_of_getElem? (i := 141) rfl), lw_t5 (List.mem_of_getElem? (i := 37) rfl), lw_t5 (List.mem_of_getElem? (i := 38) rfl)⟩
theorem lw_p37 : lw_okq (⟨"ClockWardModel", "nameHere", "()I"⟩, 32) := ⟨⟨by decide +kernel, by decide +kernel⟩, lw_t4 (List.mem_of_getElem? (i := 141) rfl), lw_t5 (List.mem_of_getElem? (i := 41) rfl), lw_t5 (List.mem_of_getElem? (i := 42) rfl)⟩
theorem lw_p38 : lw_okq (⟨"ClockWardModel", "readClock", "(I)V"⟩, 32) := ⟨⟨by decide +kernel, by decide +kernel⟩, lw_t4 (List.mem_of_getElem? (i := 141) rfl), lw_t5 (List.mem_of_getElem? (i := 46) rfl), lw_t5 (List.mem_of_getElem? (i := 47) rfl)⟩
theorem lw_p39 : lw_okq (⟨"ClockWardModel", "number", "(II)I"⟩, 32) := ⟨⟨by decide +kernel, by decide +kernel⟩, lw_t4 (List.mem_of_getElem? (i := 141) rfl), lw_t5 (List.mem_of_getElem? (i := 50) rfl), lw_t5 (List.mem_of_getElem? (i := 51) rfl)⟩
theorem lw_p40 : lw_okq (⟨"ClockWardModel", "readGift", "()V"⟩, 32) := ⟨⟨by decide +kernel, by decide +kernel⟩, lw_t4 (List.mem_of_getElem? (i := 141) rfl), lw_t5 (List.mem_of_getElem? (i := 54) rfl), lw_t5 (List.mem_of_getElem? (i := 55) rfl)⟩
theorem lw_p41 : lw_okq (⟨"ClockWardModel", "clockHere", "()I"⟩, 32) := ⟨⟨by decide +kernel, by decide +kernel⟩, lw_t4 (List.mem_of_getElem? (i := 141) rfl), lw_t5 (List.mem_of_getElem? (i := 58) rfl), lw_t5 (List.mem_of_getElem? (i := 59) rfl)⟩
theorem lw_p42 : lw_okq (⟨"ClockWardModel", "rightOn", "(I)I"⟩, 32) := ⟨⟨by decide +kernel, by decide +kernel⟩, lw_t4 (List.mem_of_getElem? (i := 141) rfl), lw_t5 (List.mem_of_getElem? (i := 70) rfl), lw_t5 (List.mem_of_getElem? (i := 71) rfl)⟩
theorem lw_p43 : lw_okq (⟨"ClockWardModel", "isClock", "(I)Z"⟩, 32) := ⟨⟨by decide +kernel, by decide +kernel⟩, lw_t4 (List.mem_of_getElem? (i := 141) rfl), lw_t5 (List.mem_of_getElem? (i := 78) rfl), lw_t5 (List.mem_of_getElem? (i := 79) rfl)⟩
theorem lw_p44 : lw_okq (⟨"ClockWardModel", "laterOn", "(II)I"⟩, 32) := ⟨⟨by decide +kernel, by decide +kernel⟩, lw_t4 (List.mem_of_getElem? (i := 141) rfl), lw_t5 (List.mem_of_getElem? (i := 83) rfl), lw_t5 (List.mem_of_getElem? (i := 84) rfl)⟩
theorem lw_p45 : lw_okq (⟨"ClockWardModel", "areTwo", "(II)Z"⟩, 32) := ⟨⟨by decide +kernel, by decide +kernel⟩, lw_t4 (List.mem_of_getElem? (i := 141) rfl), lw_t5 (List.mem_of_getElem? (i := 94) rfl), lw_t5 (List.mem_of_getElem? (i := 95) rfl)⟩
theorem lw_p46 : lw_okq (⟨"ClockWardModel", "puts", "(ZIII)I"⟩, 32) := ⟨⟨by decide +kernel, by decide +kernel⟩, lw_t4 (List.mem_of_getElem? (i := 141) rfl), lw_t5 (List.mem_of_getElem? (i := 108) rfl), lw_t5 (List.mem_of_getElem? (i := 109) rfl)⟩
theorem lw_p47 : lw_okq (⟨"ClockWardModel", "mostOf", "(II)I"⟩, 32) := ⟨⟨by decide +kernel, by decide +kernel⟩, lw_t4 (List.mem_of_getElem? (i := 141) rfl), lw_t5 (List.mem_of_getElem? (i := 130) rfl), lw_t5 (List.mem_of_getElem? (i := 131) rfl)⟩
def lw_privs_3 : List (MethodName × Nat) := [(⟨"ClockWard", "takenOf", "(III)I"⟩, 24), (⟨"ClockWardModel", "step", "()V"⟩, 32), (⟨"ClockWardModel", "byteAt", "(I)I"⟩, 32), (⟨"ClockWardModel", "fails", "(I)V"⟩, 32), (⟨"ClockWardModel", "readLine", "()V"⟩, 32), (⟨"ClockWardModel", "nameHere", "()I"⟩, 32), (⟨"ClockWardModel", "readClock", "(I)V"⟩, 32), (⟨"ClockWardModel", "number", "(II)I"⟩, 32), (⟨"ClockWardModel", "readGift", "()V"⟩, 32), (⟨"ClockWardModel", "clockHere", "()I"⟩, 32), (⟨"ClockWardModel", "rightOn", "(I)I"⟩, 32), (⟨"ClockWardModel", "isClock", "(I)Z"⟩, 32), (⟨"ClockWardModel", "laterOn", "(II)I"⟩, 32), (⟨"ClockWardModel", "areTwo", "(II)Z"⟩, 32), (⟨"ClockWardModel", "puts", "(ZIII)I"⟩, 32), (⟨"ClockWardModel", "mostOf", "(II)I"⟩, 32)]
theorem lw_r3 : ∀ q ∈ lw_privs_3, lw_okq q := List.forall_mem_cons.mpr ⟨lw_p32, List.forall_mem_cons.mpr ⟨lw_p33, List.forall_mem_cons.mpr ⟨lw_p34, List.forall_mem_cons.mpr ⟨lw_p35, List.forall_mem_cons.mpr ⟨lw_p36, List.forall_mem_cons.mpr ⟨lw_p37, List.forall_mem_cons.mpr ⟨lw_p38, List.forall_mem_cons.mpr ⟨lw_p39, List.forall_mem_cons.mpr ⟨lw_p40, List.forall_mem_cons.mpr ⟨lw_p41, List.forall_mem_cons.mpr ⟨lw_p42, List.forall_mem_cons.mpr ⟨lw_p43, List.forall_mem_cons.mpr ⟨lw_p44, List.forall_mem_cons.mpr ⟨lw_p45, List.forall_mem_cons.mpr ⟨lw_p46, List.forall_mem_cons.mpr ⟨lw_p47, fun _ h => absurd h List.not_mem_nil⟩⟩⟩⟩⟩⟩⟩⟩⟩⟩⟩⟩⟩⟩⟩⟩
theorem lw_p48 : lw_okq (⟨"ClockWardModel", "mayBe", "(IIII)Z"⟩, 32) := ⟨⟨by decide +kernel, by decide +kernel⟩, lw_t4 (List.mem_of_getElem? (i := 141) rfl), lw_t5 (List.mem_of_getElem? (i := 134) rfl), lw_t5 (List.mem_of_getElem? (i := 135) rfl)⟩
theorem lw_p49 : lw_okq (⟨"ClockWardModel", "isOneMaker", "(II)Z"⟩, 32) := ⟨⟨by decide +kernel, by decide +kernel⟩, lw_t4 (List.mem_of_getElem? (i := 141) rfl), lw_t5 (List.mem_of_getElem? (i := 138) rfl), lw_t5 (List.mem_of_getElem? (i := 139) rfl)⟩
theorem lw_p50 : lw_okq (⟨"ClockWardModel", "getsBy", "(III)I"⟩, 32) := ⟨⟨by decide +kernel, by decide +kernel⟩, lw_t4 (List.mem_of_getElem? (i := 141) rfl), lw_t5 (List.mem_of_getElem? (i := 142) rfl), lw_t5 (List.mem_of_getElem? (i := 143) rfl)⟩
theorem lw_p51 : lw_okq (⟨"ClockWardModel", "gives", "(III)I"⟩, 32) := ⟨⟨by decide +kernel, by decide +kernel⟩, lw_t4 (List.mem_of_getElem? (i := 141) rfl), lw_t5 (List.mem_of_getElem? (i := 150) rfl), lw_t5 (List.mem_of_getElem? (i := 151) rfl)⟩
theorem lw_p52 : lw_okq (⟨"ClockWardModel", "givesOn", "(IIII)V"⟩, 32) := ⟨⟨by decide +kernel, by decide +kernel⟩, lw_t4 (List.mem_of_getElem? (i := 141) rfl), lw_t5 (List.mem_of_getElem? (i := 154) rfl), lw_t5 (List.mem_of_getElem? (i := 155) rfl)⟩
theorem lw_p53 : lw_okq (⟨"ClockWardModel", "nightOn", "(I)V"⟩, 32) := ⟨⟨by decide +kernel, by decide +kernel⟩, lw_t4 (List.mem_of_getElem? (i := 141) rfl), lw_t5 (List.mem_of_getElem? (i := 163) rfl), lw_t5 (List.mem_of_getElem? (i := 164) rfl)⟩
theorem lw_p54 : lw_okq (⟨"ClockWardModel", "planGoes", "(I)V"⟩, 32) := ⟨⟨by decide +kernel, by decide +kernel⟩, lw_t4 (List.mem_of_getElem? (i := 141) rfl), lw_t5 (List.mem_of_getElem? (i := 171) rfl), lw_t5 (List.mem_of_getElem? (i := 172) rfl)⟩
theorem lw_p55 : lw_okq (⟨"ClockWardModel", "copies", "(II)V"⟩, 32) := ⟨⟨by decide +kernel, by decide +kernel⟩, lw_t4 (List.mem_of_getElem? (i := 141) rfl), lw_t5 (List.mem_of_getElem? (i := 175) rfl), lw_t5 (List.mem_of_getElem? (i := 176) rfl)⟩
theorem lw_p56 : lw_okq (⟨"ClockWardModel", "compares", "(III)V"⟩, 32) := ⟨⟨by decide +kernel, by decide +kernel⟩, lw_t4 (List.mem_of_getElem? (i := 141) rfl), lw_t5 (List.mem_of_getElem? (i := 209) rfl), lw_t5 (List.mem_of_getElem? (i := 210) rfl)⟩
theorem lw_p57 : lw_okq (⟨"ClockWardModel", "rowsOf", "(I)V"⟩, 32) := ⟨⟨by decide +kernel, by decide +kernel⟩, lw_t4 (List.mem_of_getElem? (i := 141) rfl), lw_t5 (List.mem_of_getElem? (i := 213) rfl), lw_t5 (List.mem_of_getElem? (i := 214) rfl)⟩
theorem lw_p58 : lw_okq (⟨"ClockWardModel", "givesBy", "(II)Z"⟩, 32) := ⟨⟨by decide +kernel, by decide +kernel⟩, lw_t4 (List.mem_of_getElem? (i := 141) rfl), lw_t5 (List.mem_of_getElem? (i := 217) rfl), lw_t5 (List.mem_of_getElem? (i := 218) rfl)⟩
theorem lw_p59 : lw_okq (⟨"ClockWardModel", "isCured", "(II)Z"⟩, 32) := ⟨⟨by decide +kernel, by decide +kernel⟩, lw_t4 (List.mem_of_getElem? (i := 141) rfl), lw_t5 (List.mem_of_getElem? (i := 225) rfl), lw_t5 (List.mem_of_getElem? (i := 226) rfl)⟩
theorem lw_p60 : lw_okq (⟨"ClockWardModel", "byRejected", "(III)J"⟩, 32) := ⟨⟨by decide +kernel, by decide +kernel⟩, lw_t4 (List.mem_of_getElem? (i := 141) rfl), lw_t5 (List.mem_of_getElem? (i := 237) rfl), lw_t5 (List.mem_of_getElem? (i := 238) rfl)⟩
theorem lw_p61 : lw_okq (⟨"ClockWardModel", "isAsSeen", "(II)Z"⟩, 32) := ⟨⟨by decide +kernel, by decide +kernel⟩, lw_t4 (List.mem_of_getElem? (i := 141) rfl), lw_t6 (List.mem_of_getElem? (i := 23) rfl), lw_t6 (List.mem_of_getElem? (i := 24) rfl)⟩
theorem lw_p62 : lw_okq (⟨"ClockWardModel", "ratesOf", "(I)I"⟩, 32) := ⟨⟨by decide +kernel, by decide +kernel⟩, lw_t4 (List.mem_of_getElem? (i := 141) rfl), lw_t6 (List.mem_of_getElem? (i := 31) rfl), lw_t6 (List.mem_of_getElem? (i := 32) rfl)⟩
def lw_privs_4 : List (MethodName × Nat) := [(⟨"ClockWardModel", "mayBe", "(IIII)Z"⟩, 32), (⟨"ClockWardModel", "isOneMaker", "(II)Z"⟩, 32), (⟨"ClockWardModel", "getsBy", "(III)I"⟩, 32), (⟨"ClockWardModel", "gives", "(III)I"⟩, 32), (⟨"ClockWardModel", "givesOn", "(IIII)V"⟩, 32), (⟨"ClockWardModel", "nightOn", "(I)V"⟩, 32), (⟨"ClockWardModel", "planGoes", "(I)V"⟩, 32), (⟨"ClockWardModel", "copies", "(II)V"⟩, 32), (⟨"ClockWardModel", "compares", "(III)V"⟩, 32), (⟨"ClockWardModel", "rowsOf", "(I)V"⟩, 32), (⟨"ClockWardModel", "givesBy", "(II)Z"⟩, 32), (⟨"ClockWardModel", "isCured", "(II)Z"⟩, 32), (⟨"ClockWardModel", "byRejected", "(III)J"⟩, 32), (⟨"ClockWardModel", "isAsSeen", "(II)Z"⟩, 32), (⟨"ClockWardModel", "ratesOf", "(I)I"⟩, 32)]
theorem lw_r4 : ∀ q ∈ lw_privs_4, lw_okq q := List.forall_mem_cons.mpr ⟨lw_p48, List.forall_mem_cons.mpr ⟨lw_p49, List.forall_mem_cons.mpr ⟨lw_p50, List.forall_mem_cons.mpr ⟨lw_p51, List.forall_mem_cons.mpr ⟨lw_p52, List.forall_mem_cons.mpr ⟨lw_p53, List.forall_mem_cons.mpr ⟨lw_p54, List.forall_mem_cons.mpr ⟨lw_p55, List.forall_mem_cons.mpr ⟨lw_p56, List.forall_mem_cons.mpr ⟨lw_p57, List.forall_mem_cons.mpr ⟨lw_p58, List.forall_mem_cons.mpr ⟨lw_p59, List.forall_mem_cons.mpr ⟨lw_p60, List.forall_mem_cons.mpr ⟨lw_p61, List.forall_mem_cons.mpr ⟨lw_p62, fun _ h => absurd h List.not_mem_nil⟩⟩⟩⟩⟩⟩⟩⟩⟩⟩⟩⟩⟩⟩⟩
def lw_privs : List (MethodName × Nat) := lw_privs_1 ++ (lw_privs_2 ++ (lw_privs_3 ++ (lw_privs_4)))
def lw_tbl : List Cond := k2_sels lw_privs ++ tables_1
theorem lw_privs_ok : ∀ q ∈ lw_privs, lw_okq q := by
  show ∀ q ∈ lw_privs_1 ++ (lw_privs_2 ++ (lw_privs_3 ++ (lw_privs_4))), lw_okq q
  exact List.forall_mem_append.mpr ⟨lw_r1, List.forall_mem_append.mpr ⟨lw_r2, List.forall_mem_append.mpr ⟨lw_r3, lw_r4⟩⟩⟩
-- ===== ONE list of words for every method: the tables' words that hold all through a run =====
def lw_all : List Cond := lw_tbl.filter goodWord
/-- a word of the tables by its place: claim/WORDS.tsv -/
theorem lw_w {w : Cond} (i : Nat) (h : lw_tbl[i]? = some w) (g : goodWord w = true) : w ∈ lw_all := List.mem_filter.mpr ⟨List.mem_of_getElem? h, g⟩
theorem lw_all_tbl {w : Cond} (h : w ∈ lw_all) : w ∈ lw_tbl := (List.mem_filter.mp h).1
theorem lw_self : GoodIn lw_all lw_all := fun w h => ⟨h, good_of_word (List.mem_filter.mp h).2⟩
/-- a class's field words, by their places -/
theorem lw_in (ws : List Cond) (ps : List Nat) (hp : ws = ps.filterMap (fun i => lw_tbl[i]?)) (hg : ws.all goodWord = true) : ∀ w ∈ ws, w ∈ lw_all := by
  intro w h
  have h1 := List.all_eq_true.mp hg w h
  rw [hp] at h
  obtain ⟨i, -, hi⟩ := List.mem_filterMap.mp h
  exact lw_w i hi h1
/-- the words of a contract for the method y with code b, L locals, answer r -/
abbrev ws_ (y : MethodName) (b : ByteArray) (L : Nat) (r : Option FieldType) : List Cond := Cond.code y b L r :: lw_all
theorem lw_meth {y : MethodName} {b : ByteArray} {L : Nat} {r : Option FieldType} (h : Cond.code y b L r ∈ lw_all) : GoodIn lw_all (ws_ y b L r) := by
  intro w hw
  rcases List.mem_cons.mp hw with e | e
  · rw [e]
    exact lw_self _ h
  · exact lw_self _ e
theorem lw_app {a c : List Cond} (ha : ∀ w ∈ a, w ∈ lw_all) (hc : GoodIn lw_all c) : GoodIn lw_all (a ++ c) := by
  intro w hw
  rcases List.mem_append.mp hw with e | e
  · exact lw_self w (ha w e)
  · exact hc w e
/-- what a call through an object asks: cwV n hts (lw_V ..) -/
theorem lw_V {own : String} {idx : Nat} {C : String} {y : MethodName} {b : ByteArray} {L : Nat} {r : Option FieldType} (h1 : Cond.methodLink own idx y ∈ lw_all) (h2 : Cond.instanceMethod y ∈ lw_all) (h3 : Cond.selects C y y ∈ lw_all) (h4 : Cond.initialized C ∈ lw_all) (h5 : Cond.code y b L r ∈ lw_all) : GoodIn lw_all (wsV own idx C y (ws_ y b L r)) := by
  refine lw_app ?_ (lw_meth h5)
  intro w hw
  simp only [List.mem_cons, List.not_mem_nil, or_false] at hw
  rcases hw with e | e | e | e
  · rw [e]; exact h1
  · rw [e]; exact h2
  · rw [e]; exact h3
  · rw [e]; exact h4
/-- what a static call asks: va_cwS n hts (lw_S ..) -/
theorem lw_S {own : String} {idx : Nat} {y : MethodName} {b : ByteArray} {L : Nat} {r : Option FieldType} (h1 : Cond.methodLink own idx y ∈ lw_all) (h2 : Cond.static y ∈ lw_all) (h3 : Cond.initialized y.cls ∈ lw_all) (h4 : Cond.code y b L r ∈ lw_all) : GoodIn lw_all (va_wsS own idx y (ws_ y b L r)) := by
  refine lw_app ?_ (lw_meth h4)
  intro w hw
  simp only [List.mem_cons, List.not_mem_nil, or_false] at hw
  rcases hw with e | e | e
  · rw [e]; exact h1
  · rw [e]; exact h2
  · rw [e]; exact h3
/-- the words of a contract for a method WITH HANDLERS (hh: its table) -/
abbrev wsW_ (y : MethodName) (b : ByteArray) (L : Nat) (r : Option FieldType) (hh : List (Nat × Nat × Nat × Nat)) : List Cond := Cond.codeWith y b L r hh :: lw_all
theorem lw_methW {y : MethodName} {b : ByteArray} {L : Nat} {r : Option FieldType} {hh : List (Nat × Nat × Nat × Nat)} (h : Cond.codeWith y b L r hh ∈ lw_all) : GoodIn lw_all (wsW_ y b L r hh) := by
  intro w hw
  rcases List.mem_cons.mp hw with e | e
  · rw [e]
    exact lw_self _ h
  · exact lw_self _ e
/-- any list of words by their places (lw_in), good -/
theorem lw_good {ws : List Cond} (h : ∀ w ∈ ws, w ∈ lw_all) : GoodIn lw_all ws := fun w hw => lw_self w (h w hw)
/-- what a call of a method with handlers asks: vx_cwVW n hts (lw_VW ..), vx_cwSW n hts (lw_SW ..) -/
theorem lw_VW {own : String} {idx : Nat} {C : String} {y : MethodName} {b : ByteArray} {L : Nat} {r : Option FieldType} {hh : List (Nat × Nat × Nat × Nat)} (h1 : Cond.methodLink own idx y ∈ lw_all) (h2 : Cond.instanceMethod y ∈ lw_all) (h3 : Cond.selects C y y ∈ lw_all) (h4 : Cond.initialized C ∈ lw_all) (h5 : Cond.codeWith y b L r hh ∈ lw_all) : GoodIn lw_all (wsV own idx C y (wsW_ y b L r hh)) := by
  refine lw_app ?_ (lw_methW h5)
  intro w hw
  simp only [List.mem_cons, List.not_mem_nil, or_false] at hw
  rcases hw with e | e | e | e
  · rw [e]; exact h1
  · rw [e]; exact h2
  · rw [e]; exact h3
  · rw [e]; exact h4
theorem lw_SW {own : String} {idx : Nat} {y : MethodName} {b : ByteArray} {L : Nat} {r : Option FieldType} {hh : List (Nat × Nat × Nat × Nat)} (h1 : Cond.methodLink own idx y ∈ lw_all) (h2 : Cond.static y ∈ lw_all) (h3 : Cond.initialized y.cls ∈ lw_all) (h4 : Cond.codeWith y b L r hh ∈ lw_all) : GoodIn lw_all (va_wsS own idx y (wsW_ y b L r hh)) := by
  refine lw_app ?_ (lw_methW h4)
  intro w hw
  simp only [List.mem_cons, List.not_mem_nil, or_false] at hw
  rcases hw with e | e | e
  · rw [e]; exact h1
  · rw [e]; exact h2
  · rw [e]; exact h3
/-- a word by its place in its run of the tables -/
theorem lw_at {r : List Cond} (hr : ∀ w ∈ r, w ∈ lw_tbl) {w : Cond} (i : Nat) (h : r[i]? = some w) : w ∈ lw_tbl := hr w (List.mem_of_getElem? h)
theorem lw_g {w : Cond} (h : w ∈ lw_tbl) (g : goodWord w = true) : w ∈ lw_all := List.mem_filter.mpr ⟨h, g⟩
theorem lw_ms : ∀ w ∈ k2_sels lw_privs, w ∈ lw_tbl := fun w h => show w ∈ k2_sels lw_privs ++ tables_1 from List.mem_append_left _ h
theorem lw_m1 : ∀ w ∈ tables_1_1, w ∈ lw_tbl := fun w h => show w ∈ k2_sels lw_privs ++ tables_1 from List.mem_append_right (k2_sels lw_privs) (show w ∈ tables_1 from List.mem_append_left _ h)
theorem lw_m2 : ∀ w ∈ tables_1_2, w ∈ lw_tbl := fun w h => show w ∈ k2_sels lw_privs ++ tables_1 from List.mem_append_right (k2_sels lw_privs) (show w ∈ tables_1 from List.mem_append_right _ (List.mem_append_left _ h))
theorem lw_m3 : ∀ w ∈ tables_1_3, w ∈ lw_tbl := fun w h => show w ∈ k2_sels lw_privs ++ tables_1 from List.mem_append_right (k2_sels lw_privs) (show w ∈ tables_1 from List.mem_append_right _ (List.mem_append_right _ (List.mem_append_left _ h)))
theorem lw_m4 : ∀ w ∈ tables_1_4, w ∈ lw_tbl := fun w h => show w ∈ k2_sels lw_privs ++ tables_1 from List.mem_append_right (k2_sels lw_privs) (show w ∈ tables_1 from List.mem_append_right _ (List.mem_append_right _ (List.mem_append_right _ (List.mem_append_left _ h))))
theorem lw_m5 : ∀ w ∈ tables_1_5, w ∈ lw_tbl := fun w h => show w ∈ k2_sels lw_privs ++ tables_1 from List.mem_append_right (k2_sels lw_privs) (show w ∈ tables_1 from List.mem_append_right _ (List.mem_append_right _ (List.mem_append_right _ (List.mem_append_right _ (List.mem_append_left _ h)))))
theorem lw_m6 : ∀ w ∈ tables_1_6, w ∈ lw_tbl := fun w h => show w ∈ k2_sels lw_privs ++ tables_1 from List.mem_append_right (k2_sels lw_privs) (show w ∈ tables_1 from List.mem_append_right _ (List.mem_append_right _ (List.mem_append_right _ (List.mem_append_right _ (List.mem_append_right _ h)))))
theorem qs0 : (Cond.selects "ClockWard$Reader" ⟨"ClockWard$Reader", "next", "()V"⟩ ⟨"ClockWard$Reader", "next", "()V"⟩) ∈ lw_all := lw_g (lw_at lw_ms 0 rfl) rfl
theorem qs1 : (Cond.selects "ClockWard$Reader" ⟨"ClockWard$Reader", "isIn", "(CC)Z"⟩ ⟨"ClockWard$Reader", "isIn", "(CC)Z"⟩) ∈ lw_all := lw_g (lw_at lw_ms 1 rfl) rfl
theorem qs2 : (Cond.selects "ClockWard$Reader" ⟨"ClockWard$Reader", "need", "(ZI)V"⟩ ⟨"ClockWard$Reader", "need", "(ZI)V"⟩) ∈ lw_all := lw_g (lw_at lw_ms 2 rfl) rfl
theorem qs3 : (Cond.selects "java/lang/NullPointerException" ⟨"java/lang/NullPointerException", "getExtendedNPEMessage", "()Ljava/lang/String;"⟩ ⟨"java/lang/NullPointerException", "getExtendedNPEMessage", "()Ljava/lang/String;"⟩) ∈ lw_all := lw_g (lw_at lw_ms 3 rfl) rfl
theorem qs4 : (Cond.selects "java/lang/Throwable" ⟨"java/lang/Throwable", "fillInStackTrace", "(I)Ljava/lang/Throwable;"⟩ ⟨"java/lang/Throwable", "fillInStackTrace", "(I)Ljava/lang/Throwable;"⟩) ∈ lw_all := lw_g (lw_at lw_ms 4 rfl) rfl
theorem qs5 : (Cond.selects "ClockWard$Reader" ⟨"ClockWard$Reader", "line", "()V"⟩ ⟨"ClockWard$Reader", "line", "()V"⟩) ∈ lw_all := lw_g (lw_at lw_ms 5 rfl) rfl
theorem qs6 : (Cond.selects "ClockWard$Reader" ⟨"ClockWard$Reader", "is", "(I)Z"⟩ ⟨"ClockWard$Reader", "is", "(I)Z"⟩) ∈ lw_all := lw_g (lw_at lw_ms 6 rfl) rfl
theorem qs7 : (Cond.selects "ClockWard$Reader" ⟨"ClockWard$Reader", "name", "(I)Ljava/lang/String;"⟩ ⟨"ClockWard$Reader", "name", "(I)Ljava/lang/String;"⟩) ∈ lw_all := lw_g (lw_at lw_ms 7 rfl) rfl
theorem qs8 : (Cond.selects "ClockWard$Reader" ⟨"ClockWard$Reader", "told", "(I)V"⟩ ⟨"ClockWard$Reader", "told", "(I)V"⟩) ∈ lw_all := lw_g (lw_at lw_ms 8 rfl) rfl
theorem qs9 : (Cond.selects "ClockWard$Reader" ⟨"ClockWard$Reader", "gift", "()V"⟩ ⟨"ClockWard$Reader", "gift", "()V"⟩) ∈ lw_all := lw_g (lw_at lw_ms 9 rfl) rfl
theorem qs10 : (Cond.selects "ClockWard$Reader" ⟨"ClockWard$Reader", "taken", "(II)I"⟩ ⟨"ClockWard$Reader", "taken", "(II)I"⟩) ∈ lw_all := lw_g (lw_at lw_ms 10 rfl) rfl
theorem qs11 : (Cond.selects "ClockWard$Reader" ⟨"ClockWard$Reader", "looked", "(II)I"⟩ ⟨"ClockWard$Reader", "looked", "(II)I"⟩) ∈ lw_all := lw_g (lw_at lw_ms 11 rfl) rfl
theorem qs12 : (Cond.selects "ClockWard$Reader" ⟨"ClockWard$Reader", "clock", "(I)V"⟩ ⟨"ClockWard$Reader", "clock", "(I)V"⟩) ∈ lw_all := lw_g (lw_at lw_ms 12 rfl) rfl
theorem qs13 : (Cond.selects "ClockWard" ⟨"ClockWard", "isClock", "(I)Z"⟩ ⟨"ClockWard", "isClock", "(I)Z"⟩) ∈ lw_all := lw_g (lw_at lw_ms 13 rfl) rfl
theorem qs14 : (Cond.selects "ClockWard" ⟨"ClockWard", "timeThen", "(LClockWard$Ward;I)I"⟩ ⟨"ClockWard", "timeThen", "(LClockWard$Ward;I)I"⟩) ∈ lw_all := lw_g (lw_at lw_ms 14 rfl) rfl
theorem qs15 : (Cond.selects "ClockWard" ⟨"ClockWard", "isPair", "(II)Z"⟩ ⟨"ClockWard", "isPair", "(II)Z"⟩) ∈ lw_all := lw_g (lw_at lw_ms 15 rfl) rfl
theorem qs16 : (Cond.selects "ClockWard" ⟨"ClockWard", "mostNow", "(II)I"⟩ ⟨"ClockWard", "mostNow", "(II)I"⟩) ∈ lw_all := lw_g (lw_at lw_ms 16 rfl) rfl
theorem qs17 : (Cond.selects "ClockWard" ⟨"ClockWard", "nightGoes", "(LClockWard$Ward;)V"⟩ ⟨"ClockWard", "nightGoes", "(LClockWard$Ward;)V"⟩) ∈ lw_all := lw_g (lw_at lw_ms 17 rfl) rfl
theorem qs18 : (Cond.selects "ClockWard" ⟨"ClockWard", "goes", "(LClockWard$Ward;I)V"⟩ ⟨"ClockWard", "goes", "(LClockWard$Ward;I)V"⟩) ∈ lw_all := lw_g (lw_at lw_ms 18 rfl) rfl
theorem qs19 : (Cond.selects "ClockWard" ⟨"ClockWard", "findBest", "(I)V"⟩ ⟨"ClockWard", "findBest", "(I)V"⟩) ∈ lw_all := lw_g (lw_at lw_ms 19 rfl) rfl
theorem qs20 : (Cond.selects "ClockWard" ⟨"ClockWard", "judges", "(LClockWard$Ward;III)V"⟩ ⟨"ClockWard", "judges", "(LClockWard$Ward;III)V"⟩) ∈ lw_all := lw_g (lw_at lw_ms 20 rfl) rfl
theorem qs21 : (Cond.selects "ClockWard" ⟨"ClockWard", "giftsMany", "()I"⟩ ⟨"ClockWard", "giftsMany", "()I"⟩) ∈ lw_all := lw_g (lw_at lw_ms 21 rfl) rfl
theorem qs22 : (Cond.selects "ClockWard" ⟨"ClockWard", "comes", "(LClockWard$Ward;LClockWard$Ward;I)Z"⟩ ⟨"ClockWard", "comes", "(LClockWard$Ward;LClockWard$Ward;I)Z"⟩) ∈ lw_all := lw_g (lw_at lw_ms 22 rfl) rfl
theorem qs23 : (Cond.selects "ClockWard" ⟨"ClockWard", "giver", "(I)I"⟩ ⟨"ClockWard", "giver", "(I)I"⟩) ∈ lw_all := lw_g (lw_at lw_ms 23 rfl) rfl
theorem qs24 : (Cond.selects "ClockWard" ⟨"ClockWard", "taker", "(I)I"⟩ ⟨"ClockWard", "taker", "(I)I"⟩) ∈ lw_all := lw_g (lw_at lw_ms 24 rfl) rfl
theorem qs25 : (Cond.selects "ClockWard" ⟨"ClockWard", "told", "(I)I"⟩ ⟨"ClockWard", "told", "(I)I"⟩) ∈ lw_all := lw_g (lw_at lw_ms 25 rfl) rfl
theorem qs26 : (Cond.selects "ClockWard" ⟨"ClockWard", "findCure", "(I)I"⟩ ⟨"ClockWard", "findCure", "(I)I"⟩) ∈ lw_all := lw_g (lw_at lw_ms 26 rfl) rfl
theorem qs27 : (Cond.selects "ClockWard" ⟨"ClockWard", "isRight", "(LClockWard$Ward;I)Z"⟩ ⟨"ClockWard", "isRight", "(LClockWard$Ward;I)Z"⟩) ∈ lw_all := lw_g (lw_at lw_ms 27 rfl) rfl
theorem qs28 : (Cond.selects "ClockWard" ⟨"ClockWard", "findOdds", "(II)V"⟩ ⟨"ClockWard", "findOdds", "(II)V"⟩) ∈ lw_all := lw_g (lw_at lw_ms 28 rfl) rfl
theorem qs29 : (Cond.selects "ClockWard" ⟨"ClockWard", "which", "(II)I"⟩ ⟨"ClockWard", "which", "(II)I"⟩) ∈ lw_all := lw_g (lw_at lw_ms 29 rfl) rfl
theorem qs30 : (Cond.selects "ClockWard" ⟨"ClockWard", "isSo", "(III)Z"⟩ ⟨"ClockWard", "isSo", "(III)Z"⟩) ∈ lw_all := lw_g (lw_at lw_ms 30 rfl) rfl
theorem qs31 : (Cond.selects "ClockWard" ⟨"ClockWard", "worstOf", "(II)I"⟩ ⟨"ClockWard", "worstOf", "(II)I"⟩) ∈ lw_all := lw_g (lw_at lw_ms 31 rfl) rfl
theorem qs32 : (Cond.selects "ClockWard" ⟨"ClockWard", "takenOf", "(III)I"⟩ ⟨"ClockWard", "takenOf", "(III)I"⟩) ∈ lw_all := lw_g (lw_at lw_ms 32 rfl) rfl
theorem qs33 : (Cond.selects "ClockWardModel" ⟨"ClockWardModel", "step", "()V"⟩ ⟨"ClockWardModel", "step", "()V"⟩) ∈ lw_all := lw_g (lw_at lw_ms 33 rfl) rfl
theorem qs34 : (Cond.selects "ClockWardModel" ⟨"ClockWardModel", "byteAt", "(I)I"⟩ ⟨"ClockWardModel", "byteAt", "(I)I"⟩) ∈ lw_all := lw_g (lw_at lw_ms 34 rfl) rfl
theorem qs35 : (Cond.selects "ClockWardModel" ⟨"ClockWardModel", "fails", "(I)V"⟩ ⟨"ClockWardModel", "fails", "(I)V"⟩) ∈ lw_all := lw_g (lw_at lw_ms 35 rfl) rfl
theorem qs36 : (Cond.selects "ClockWardModel" ⟨"ClockWardModel", "readLine", "()V"⟩ ⟨"ClockWardModel", "readLine", "()V"⟩) ∈ lw_all := lw_g (lw_at lw_ms 36 rfl) rfl
theorem qs37 : (Cond.selects "ClockWardModel" ⟨"ClockWardModel", "nameHere", "()I"⟩ ⟨"ClockWardModel", "nameHere", "()I"⟩) ∈ lw_all := lw_g (lw_at lw_ms 37 rfl) rfl
theorem qs38 : (Cond.selects "ClockWardModel" ⟨"ClockWardModel", "readClock", "(I)V"⟩ ⟨"ClockWardModel", "readClock", "(I)V"⟩) ∈ lw_all := lw_g (lw_at lw_ms 38 rfl) rfl
theorem qs39 : (Cond.selects "ClockWardModel" ⟨"ClockWardModel", "number", "(II)I"⟩ ⟨"ClockWardModel", "number", "(II)I"⟩) ∈ lw_all := lw_g (lw_at lw_ms 39 rfl) rfl
theorem qs40 : (Cond.selects "ClockWardModel" ⟨"ClockWardModel", "readGift", "()V"⟩ ⟨"ClockWardModel", "readGift", "()V"⟩) ∈ lw_all := lw_g (lw_at lw_ms 40 rfl) rfl
theorem qs41 : (Cond.selects "ClockWardModel" ⟨"ClockWardModel", "clockHere", "()I"⟩ ⟨"ClockWardModel", "clockHere", "()I"⟩) ∈ lw_all := lw_g (lw_at lw_ms 41 rfl) rfl
theorem qs42 : (Cond.selects "ClockWardModel" ⟨"ClockWardModel", "rightOn", "(I)I"⟩ ⟨"ClockWardModel", "rightOn", "(I)I"⟩) ∈ lw_all := lw_g (lw_at lw_ms 42 rfl) rfl
theorem qs43 : (Cond.selects "ClockWardModel" ⟨"ClockWardModel", "isClock", "(I)Z"⟩ ⟨"ClockWardModel", "isClock", "(I)Z"⟩) ∈ lw_all := lw_g (lw_at lw_ms 43 rfl) rfl
theorem qs44 : (Cond.selects "ClockWardModel" ⟨"ClockWardModel", "laterOn", "(II)I"⟩ ⟨"ClockWardModel", "laterOn", "(II)I"⟩) ∈ lw_all := lw_g (lw_at lw_ms 44 rfl) rfl
theorem qs45 : (Cond.selects "ClockWardModel" ⟨"ClockWardModel", "areTwo", "(II)Z"⟩ ⟨"ClockWardModel", "areTwo", "(II)Z"⟩) ∈ lw_all := lw_g (lw_at lw_ms 45 rfl) rfl
theorem qs46 : (Cond.selects "ClockWardModel" ⟨"ClockWardModel", "puts", "(ZIII)I"⟩ ⟨"ClockWardModel", "puts", "(ZIII)I"⟩) ∈ lw_all := lw_g (lw_at lw_ms 46 rfl) rfl
theorem qs47 : (Cond.selects "ClockWardModel" ⟨"ClockWardModel", "mostOf", "(II)I"⟩ ⟨"ClockWardModel", "mostOf", "(II)I"⟩) ∈ lw_all := lw_g (lw_at lw_ms 47 rfl) rfl
theorem qs48 : (Cond.selects "ClockWardModel" ⟨"ClockWardModel", "mayBe", "(IIII)Z"⟩ ⟨"ClockWardModel", "mayBe", "(IIII)Z"⟩) ∈ lw_all := lw_g (lw_at lw_ms 48 rfl) rfl
theorem qs49 : (Cond.selects "ClockWardModel" ⟨"ClockWardModel", "isOneMaker", "(II)Z"⟩ ⟨"ClockWardModel", "isOneMaker", "(II)Z"⟩) ∈ lw_all := lw_g (lw_at lw_ms 49 rfl) rfl
theorem qs50 : (Cond.selects "ClockWardModel" ⟨"ClockWardModel", "getsBy", "(III)I"⟩ ⟨"ClockWardModel", "getsBy", "(III)I"⟩) ∈ lw_all := lw_g (lw_at lw_ms 50 rfl) rfl
theorem qs51 : (Cond.selects "ClockWardModel" ⟨"ClockWardModel", "gives", "(III)I"⟩ ⟨"ClockWardModel", "gives", "(III)I"⟩) ∈ lw_all := lw_g (lw_at lw_ms 51 rfl) rfl
theorem qs52 : (Cond.selects "ClockWardModel" ⟨"ClockWardModel", "givesOn", "(IIII)V"⟩ ⟨"ClockWardModel", "givesOn", "(IIII)V"⟩) ∈ lw_all := lw_g (lw_at lw_ms 52 rfl) rfl
theorem qs53 : (Cond.selects "ClockWardModel" ⟨"ClockWardModel", "nightOn", "(I)V"⟩ ⟨"ClockWardModel", "nightOn", "(I)V"⟩) ∈ lw_all := lw_g (lw_at lw_ms 53 rfl) rfl
theorem qs54 : (Cond.selects "ClockWardModel" ⟨"ClockWardModel", "planGoes", "(I)V"⟩ ⟨"ClockWardModel", "planGoes", "(I)V"⟩) ∈ lw_all := lw_g (lw_at lw_ms 54 rfl) rfl
theorem qs55 : (Cond.selects "ClockWardModel" ⟨"ClockWardModel", "copies", "(II)V"⟩ ⟨"ClockWardModel", "copies", "(II)V"⟩) ∈ lw_all := lw_g (lw_at lw_ms 55 rfl) rfl
theorem qs56 : (Cond.selects "ClockWardModel" ⟨"ClockWardModel", "compares", "(III)V"⟩ ⟨"ClockWardModel", "compares", "(III)V"⟩) ∈ lw_all := lw_g (lw_at lw_ms 56 rfl) rfl
theorem qs57 : (Cond.selects "ClockWardModel" ⟨"ClockWardModel", "rowsOf", "(I)V"⟩ ⟨"ClockWardModel", "rowsOf", "(I)V"⟩) ∈ lw_all := lw_g (lw_at lw_ms 57 rfl) rfl
theorem qs58 : (Cond.selects "ClockWardModel" ⟨"ClockWardModel", "givesBy", "(II)Z"⟩ ⟨"ClockWardModel", "givesBy", "(II)Z"⟩) ∈ lw_all := lw_g (lw_at lw_ms 58 rfl) rfl
theorem qs59 : (Cond.selects "ClockWardModel" ⟨"ClockWardModel", "isCured", "(II)Z"⟩ ⟨"ClockWardModel", "isCured", "(II)Z"⟩) ∈ lw_all := lw_g (lw_at lw_ms 59 rfl) rfl
theorem qs60 : (Cond.selects "ClockWardModel" ⟨"ClockWardModel", "byRejected", "(III)J"⟩ ⟨"ClockWardModel", "byRejected", "(III)J"⟩) ∈ lw_all := lw_g (lw_at lw_ms 60 rfl) rfl
theorem qs61 : (Cond.selects "ClockWardModel" ⟨"ClockWardModel", "isAsSeen", "(II)Z"⟩ ⟨"ClockWardModel", "isAsSeen", "(II)Z"⟩) ∈ lw_all := lw_g (lw_at lw_ms 61 rfl) rfl
theorem qs62 : (Cond.selects "ClockWardModel" ⟨"ClockWardModel", "ratesOf", "(I)I"⟩ ⟨"ClockWardModel", "ratesOf", "(I)I"⟩) ∈ lw_all := lw_g (lw_at lw_ms 62 rfl) rfl
