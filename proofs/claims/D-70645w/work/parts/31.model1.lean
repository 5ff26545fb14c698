set_option maxRecDepth 100000
set_option maxHeartbeats 4000000 in
theorem ct_X7_fault (l : Launch) (G : GG) (h : Nat) (ad : Nat → Nat) (i : Nat → Int32)  : Ct l G yX7_fault (ws_ yX7_fault cX7_fault 1 (some .int)) ({ frames := 0, cells := 0, slots := 0, locals := 0 } : Room) [.ref h] [mO h ad i] (fun _ : Unit => some (.int (i 8))) (fun _ => True) (fun _ => [mO h ad i]) := by
  refine Ct.of rfl rfl ?_
  intro M el eG hnL C T
  subst el
  subst eG
  have C : Cx M cX7_fault "ClockWardModel" ({ frames := 0, cells := 0, slots := 0, locals := 0 } : Room) := C
  refine V.lvs [0] (lv2 := [(0, .ref h)]) rfl ?_
  refine V.aload_n (pc' := 1) C 0 dX7_fault_0 rfl rfl ?_
  refine V.get (pc' := 4) C dX7_fault_1 rfl 0 rfl rfl in_X7 8 rfl q937 rfl ?_
  exact V.iret C T dX7_fault_4 () rfl rfl rfl rfl trivial rfl rfl rfl
set_option maxHeartbeats 4000000 in
theorem ct_X7_torn (l : Launch) (G : GG) (h : Nat) (ad : Nat → Nat) (i : Nat → Int32)  : Ct l G yX7_torn (ws_ yX7_torn cX7_torn 1 (some .int)) ({ frames := 0, cells := 0, slots := 0, locals := 0 } : Room) [.ref h] [mO h ad i] (fun _ : Unit => some (.int (i 31))) (fun _ => True) (fun _ => [mO h ad i]) := by
  refine Ct.of rfl rfl ?_
  intro M el eG hnL C T
  subst el
  subst eG
  have C : Cx M cX7_torn "ClockWardModel" ({ frames := 0, cells := 0, slots := 0, locals := 0 } : Room) := C
  refine V.lvs [0] (lv2 := [(0, .ref h)]) rfl ?_
  refine V.aload_n (pc' := 1) C 0 dX7_torn_0 rfl rfl ?_
  refine V.get (pc' := 4) C dX7_torn_1 rfl 0 rfl rfl in_X7 31 rfl q960 rfl ?_
  exact V.iret C T dX7_torn_4 () rfl rfl rfl rfl trivial rfl rfl rfl
set_option maxHeartbeats 4000000 in
theorem ct_X7_rule (l : Launch) (G : GG) (h : Nat) (ad : Nat → Nat) (i : Nat → Int32) (f : Nat → Int32) (N : Nat) (x : Int32) (hN : i 1 = nI N) (hN5 : N ≤ 5) : Ct l G yX7_rule (ws_ yX7_rule cX7_rule 4 (some .int)) ({ frames := 1, cells := 0, slots := 0, locals := 23 } : Room) [.ref h, .int x] [mO h ad i, (ad 0, .inl (G.2 0, 402, .inl f))] (fun _ : Unit => some (.int (a_rule f N x))) (fun _ => True) (fun _ => [mO h ad i, (ad 0, .inl (G.2 0, 402, .inl f))]) := by
  refine Ct.of rfl rfl ?_
  intro M el eG hnL C T
  subst el
  subst eG
  have C : Cx M cX7_rule "ClockWardModel" ({ frames := 1, cells := 0, slots := 0, locals := 23 } : Room) := C
  refine V.lvs [0, 1] (lv2 := [(0, .ref h), (1, .int x)]) rfl ?_
  refine V.iconst (pc' := 1) C dX7_rule_0 rfl kci_0 ?_
  refine V.istore_n (pc' := 2) C [(2, .int 0), (0, .ref h), (1, .int x)] dX7_rule_1 rfl 4 hnL rfl rfl ?_
  refine V.iconst (pc' := 3) C dX7_rule_2 rfl kci_0 ?_
  refine V.istore_n (pc' := 4) C [(3, .int 0), (2, .int 0), (0, .ref h), (1, .int x)] dX7_rule_3 rfl 4 hnL rfl rfl ?_
  have L1 : ∀ c : Nat, c ≤ N → V M 0 0 [mO h ad i, (ad 0, .inl (M.G.2 0, 402, .inl f))] [(0, .ref h), (1, .int x), (2, .int (sumTo f c)), (3, .int (nI c))] [] 4 := by
    refine loopN _ N (fun c hc ih_L1 => ?_)
    refine V.iload_n (pc' := 5) C 3 dX7_rule_4 rfl rfl ?_
    refine V.aload_n (pc' := 6) C 0 dX7_rule_5 rfl rfl ?_
    refine V.get (pc' := 9) C dX7_rule_6 rfl 0 rfl rfl in_X7 1 rfl q930 rfl ?_
    refine V.topI hN ?_
    refine V.icmp_geN (pc' := 12) C c N (by omega) (by omega) 30 dX7_rule_9 rfl rfl (fun h2 => ?_) (fun h2 => ?_)
    · have hx3 : N = c := by omega
      subst hx3
      refine V.iload_n (pc' := 31) C 1 dX7_rule_30 rfl rfl ?_
      by_cases h4 : x = 0
      · subst h4
        refine V.tableIn C 72 dX7_rule_31 (by decide) (by decide) rfl rfl ?_
        refine V.aload_n (pc' := 73) C 0 dX7_rule_72 rfl rfl ?_
        refine V.get (pc' := 76) C dX7_rule_73 rfl 0 rfl rfl in_X7 1 rfl q930 rfl ?_
        refine V.topI hN ?_
        exact V.iret C T dX7_rule_76 () rfl rfl rfl rfl trivial rfl rfl rfl
      by_cases h5 : x = 1
      · subst h5
        refine V.tableIn C 77 dX7_rule_31 (by decide) (by decide) rfl rfl ?_
        refine V.aload_n (pc' := 78) C 0 dX7_rule_77 rfl rfl ?_
        refine V.get (pc' := 81) C dX7_rule_78 rfl 0 rfl rfl in_X7 0 rfl q929 rfl ?_
        refine V.bipush (pc' := 83) C dX7_rule_81 rfl kcb_20 ?_
        refine V.iald (pc' := 84) C 20 dX7_rule_83 rfl 1 rfl (by omega) rfl ?_
        refine V.bipush (pc' := 86) C dX7_rule_84 rfl kcb_40 ?_
        refine V.iadd (pc' := 87) C dX7_rule_86 rfl ?_
        exact V.iret C T dX7_rule_87 () rfl rfl rfl rfl trivial rfl rfl rfl
      by_cases h6 : x = 2
      · subst h6
        refine V.tableIn C 88 dX7_rule_31 (by decide) (by decide) rfl rfl ?_
        refine V.aload_n (pc' := 89) C 0 dX7_rule_88 rfl rfl ?_
        refine V.get (pc' := 92) C dX7_rule_89 rfl 0 rfl rfl in_X7 0 rfl q929 rfl ?_
        refine V.bipush (pc' := 94) C dX7_rule_92 rfl kcb_21 ?_
        refine V.iald (pc' := 95) C 21 dX7_rule_94 rfl 1 rfl (by omega) rfl ?_
        exact V.iret C T dX7_rule_95 () rfl rfl rfl rfl trivial rfl rfl rfl
      by_cases h7 : x = 3
      · subst h7
        refine V.tableIn C 96 dX7_rule_31 (by decide) (by decide) rfl rfl ?_
        refine V.aload_n (pc' := 97) C 0 dX7_rule_96 rfl rfl ?_
        refine V.get (pc' := 100) C dX7_rule_97 rfl 0 rfl rfl in_X7 0 rfl q929 rfl ?_
        refine V.bipush (pc' := 102) C dX7_rule_100 rfl kcb_66 ?_
        refine V.iald (pc' := 103) C 66 dX7_rule_102 rfl 1 rfl (by omega) rfl ?_
        exact V.iret C T dX7_rule_103 () rfl rfl rfl rfl trivial rfl rfl rfl
      by_cases h8 : x = 4
      · subst h8
        refine V.tableIn C 104 dX7_rule_31 (by decide) (by decide) rfl rfl ?_
        refine V.aload_n (pc' := 105) C 0 dX7_rule_104 rfl rfl ?_
        refine V.iconst (pc' := 106) C dX7_rule_105 rfl kci_0 ?_
        refine V.callV (pc' := 109) (wr := []) C (ct_X7_rightOn M.l M.G h ad i f N 0 hN hN5 (by omega)) dX7_rule_106 rfl (lw_V q1092 q1094 qs42 q71 q1095) hyv_X7_rightOn rfl rfl 0 rfl rfl [0, 1] [] [0, 1] rfl rfl rfl (fun _ => [mO h ad i, (ad 0, .inl (M.G.2 0, 402, .inl f))]) (fun _ => rfl) rfl 0 0 rfl rfl (fun _ => [.int (rightTo (pg f 0) N)]) (fun _ => rfl) (fun _ _ => ?_)
        refine V.topI (y := rightTo f N) (by rw [pg_0]) ?_
        exact V.iret C T dX7_rule_109 () rfl rfl rfl rfl trivial rfl rfl rfl
      by_cases h9 : x = 5
      · subst h9
        refine V.tableIn C 110 dX7_rule_31 (by decide) (by decide) rfl rfl ?_
        refine V.iload_n (pc' := 111) C 2 dX7_rule_110 rfl rfl ?_
        exact V.iret C T dX7_rule_111 () rfl rfl rfl rfl trivial rfl rfl rfl
      by_cases h10 : x = 6
      · subst h10
        refine V.tableIn C 112 dX7_rule_31 (by decide) (by decide) rfl rfl ?_
        refine V.aload_n (pc' := 113) C 0 dX7_rule_112 rfl rfl ?_
        refine V.get (pc' := 116) C dX7_rule_113 rfl 0 rfl rfl in_X7 0 rfl q929 rfl ?_
        refine V.bipush (pc' := 118) C dX7_rule_116 rfl kcb_22 ?_
        refine V.iald (pc' := 119) C 22 dX7_rule_118 rfl 1 rfl (by omega) rfl ?_
        exact V.iret C T dX7_rule_119 () rfl rfl rfl rfl trivial rfl rfl rfl
      refine V.tableOut C 120 dX7_rule_31 (by have := lv_neT (a := 0) h4 (by decide); have := lv_neT (a := 1) h5 (by decide); have := lv_neT (a := 2) h6 (by decide); have := lv_neT (a := 3) h7 (by decide); have := lv_neT (a := 4) h8 (by decide); have := lv_neT (a := 5) h9 (by decide); have := lv_neT (a := 6) h10 (by decide); omega) rfl ?_
      refine V.iconst (pc' := 121) C dX7_rule_120 rfl kci_m1 ?_
      exact V.iret C T dX7_rule_121 () rfl rfl (by unfold a_rule; rw [if_neg h4, if_neg h5, if_neg h6, if_neg h7, if_neg h8, if_neg h9, if_neg h10]) rfl trivial rfl rfl rfl
    · refine V.iload_n (pc' := 13) C 2 dX7_rule_12 rfl rfl ?_
      refine V.aload_n (pc' := 14) C 0 dX7_rule_13 rfl rfl ?_
      refine V.get (pc' := 17) C dX7_rule_14 rfl 0 rfl rfl in_X7 0 rfl q929 rfl ?_
      refine V.bipush (pc' := 19) C dX7_rule_17 rfl kcb_15 ?_
      refine V.iload_n (pc' := 20) C 3 dX7_rule_19 rfl rfl ?_
      refine V.iaddN (pc' := 21) C 15 c dX7_rule_20 rfl ?_
      refine V.iald (pc' := 22) C (15 + c) dX7_rule_21 rfl 1 rfl (by omega) rfl ?_
      refine V.iadd (pc' := 23) C dX7_rule_22 rfl ?_
      refine V.istore_n (pc' := 24) C [(2, .int ((sumTo f c) + (f (15 + c)))), (0, .ref h), (1, .int x), (3, .int (nI c))] dX7_rule_23 rfl 4 hnL rfl rfl ?_
      refine V.iinc (pc' := 27) C (nI (c + 1)) [(3, .int (nI (c + 1))), (2, .int ((sumTo f c) + (f (15 + c)))), (0, .ref h), (1, .int x)] dX7_rule_24 rfl 4 hnL rfl 3 rfl (ii_N c 1 rfl) rfl ?_
      refine V.goto C 4 dX7_rule_27 rfl ?_
      refine V.lvs [2, 3, 1, 0] (lv2 := [(0, .ref h), (1, .int x), (2, .int (sumTo f (c + 1))), (3, .int (nI (c + 1)))]) rfl ?_
      exact ih_L1 (by omega)
  refine V.lvs [2, 3, 1, 0] (lv2 := [(0, .ref h), (1, .int x), (2, .int (sumTo f 0)), (3, .int (nI 0))]) rfl ?_
  exact L1 0 (by omega)
set_option maxHeartbeats 4000000 in
theorem ct_X7_clock (l : Launch) (G : GG) (h : Nat) (ad : Nat → Nat) (i : Nat → Int32) (f : Nat → Int32) (N : Nat) (x : Int32) (y : Int32) (hN : i 1 = nI N) (hN5 : N ≤ 5) : Ct l G yX7_clock (ws_ yX7_clock cX7_clock 3 (some .int)) ({ frames := 2, cells := 0, slots := 0, locals := 46 } : Room) [.ref h, .int x, .int y] [mO h ad i, (ad 0, .inl (G.2 0, 402, .inl f))] (fun _ : Unit => some (.int (a_clock f N x y))) (fun _ => True) (fun _ => [mO h ad i, (ad 0, .inl (G.2 0, 402, .inl f))]) := by
  refine Ct.of rfl rfl ?_
  intro M el eG hnL C T
  subst el
  subst eG
  have C : Cx M cX7_clock "ClockWardModel" ({ frames := 2, cells := 0, slots := 0, locals := 46 } : Room) := C
  refine V.lvs [0, 1, 2] (lv2 := [(0, .ref h), (1, .int x), (2, .int y)]) rfl ?_
  refine V.aload_n (pc' := 1) C 0 dX7_clock_0 rfl rfl ?_
  refine V.iload_n (pc' := 2) C 1 dX7_clock_1 rfl rfl ?_
  refine V.callV (pc' := 5) (wr := [(ad 0, .inl (M.G.2 0, 402, .inl f))]) C (ct_X7_isClock M.l M.G h ad i N x hN hN5) dX7_clock_2 rfl (lw_V q1100 q1102 qs43 q71 q1103) hyv_X7_isClock rfl rfl 0 rfl rfl [0] [1] [1, 0] rfl rfl rfl (fun _ => [mO h ad i, (ad 0, .inl (M.G.2 0, 402, .inl f))]) (fun _ => rfl) rfl 0 0 rfl rfl (fun _ => [.int (bI (isC N x))]) (fun _ => rfl) (fun _ _ => ?_)
  refine V.if_eqB (pc' := 8) C 20 dX7_clock_5 rfl rfl (fun h1 => ?_) (fun h1 => ?_)
  · refine V.iconst (pc' := 21) C dX7_clock_20 rfl kci_m1 ?_
    refine V.goto C 48 dX7_clock_21 rfl ?_
    exact V.iret C T dX7_clock_48 () rfl rfl (if_neg (fun z => h1 z.1)).symm rfl trivial rfl rfl rfl
  · obtain ⟨c, hc, rfl⟩ := isC_nat hN5 h1
    refine V.iload_n (pc' := 9) C 2 dX7_clock_8 rfl rfl ?_
    refine V.i2l (pc' := 10) C dX7_clock_9 rfl ?_
    refine V.lconst (pc' := 11) C dX7_clock_10 rfl kcl_0 ?_
    refine V.ldc2 (pc' := 14) C dX7_clock_11 rfl q1104 ?_
    refine V.callS (pc' := 17) (wr := [mO h ad i, (ad 0, .inl (M.G.2 0, 402, .inl f))]) C (ct_X7_in M.l M.G y 0 4 ) dX7_clock_14 rfl (lw_S q1032 q1033 q71 q1034) hys_X7_in rfl rfl [] [0, 1] [0, 1] rfl rfl rfl (fun _ => [mO h ad i, (ad 0, .inl (M.G.2 0, 402, .inl f))]) (fun _ => rfl) rfl 0 0 rfl rfl (fun _ => [.int (bI (inI y 0 4))]) (fun _ => rfl) (fun _ _ => ?_)
    refine V.if_neB (pc' := 20) C 24 dX7_clock_17 rfl rfl (fun h2 => ?_) (fun h2 => ?_)
    · obtain ⟨w, hw, rfl⟩ := in_nat (m := 4) (by decide) h2
      refine V.iload_n (pc' := 25) C 2 dX7_clock_24 rfl rfl ?_
      refine V.iconst (pc' := 26) C dX7_clock_25 rfl kci_4 ?_
      refine V.icmp_ne (pc' := 29) C 38 dX7_clock_26 rfl rfl (fun h3 => ?_) (fun h3 => ?_)
      · refine V.aload_n (pc' := 39) C 0 dX7_clock_38 rfl rfl ?_
        refine V.get (pc' := 42) C dX7_clock_39 rfl 0 rfl rfl in_X7 0 rfl q929 rfl ?_
        refine V.iconst (pc' := 43) C dX7_clock_42 rfl kci_5 ?_
        refine V.iload_n (pc' := 44) C 2 dX7_clock_43 rfl rfl ?_
        refine V.imulN (pc' := 45) C 5 w dX7_clock_44 rfl ?_
        refine V.iload_n (pc' := 46) C 1 dX7_clock_45 rfl rfl ?_
        refine V.iaddN (pc' := 47) C (5 * w) c dX7_clock_46 rfl ?_
        refine V.iald (pc' := 48) C (5 * w + c) dX7_clock_47 rfl 1 rfl (by omega) rfl ?_
        exact V.iret C T dX7_clock_48 () rfl rfl (Eq.trans (by rw [if_neg h3, cn_nI (by omega), cn_nI (by omega)]) (if_pos ⟨h1, h2⟩).symm) rfl trivial rfl rfl rfl
      · refine V.aload_n (pc' := 30) C 0 dX7_clock_29 rfl rfl ?_
        refine V.iconst (pc' := 31) C dX7_clock_30 rfl kci_0 ?_
        refine V.iload_n (pc' := 32) C 1 dX7_clock_31 rfl rfl ?_
        refine V.callV (pc' := 35) (wr := []) C (ct_X7_laterOn M.l M.G h ad i f 0 c (by omega) (by omega)) dX7_clock_32 rfl (lw_V q1105 q1107 qs44 q71 q1108) hyv_X7_laterOn rfl rfl 0 rfl rfl [0, 1] [] [0, 1] rfl rfl rfl (fun _ => [mO h ad i, (ad 0, .inl (M.G.2 0, 402, .inl f))]) (fun _ => rfl) rfl 0 0 rfl rfl (fun _ => [.int (thenI (pg f 0) c)]) (fun _ => rfl) (fun _ _ => ?_)
        refine V.topI (y := thenI f c) (by rw [pg_0]) ?_
        refine V.goto C 48 dX7_clock_35 rfl ?_
        exact V.iret C T dX7_clock_48 () rfl rfl (Eq.trans (by rw [if_pos h3, cn_nI (by omega)]) (if_pos ⟨h1, h2⟩).symm) rfl trivial rfl rfl rfl
    · refine V.iconst (pc' := 21) C dX7_clock_20 rfl kci_m1 ?_
      refine V.goto C 48 dX7_clock_21 rfl ?_
      exact V.iret C T dX7_clock_48 () rfl rfl (if_neg (fun z => h2 z.2)).symm rfl trivial rfl rfl rfl
set_option maxHeartbeats 4000000 in
theorem ct_X7_got (l : Launch) (G : GG) (h : Nat) (ad : Nat → Nat) (i : Nat → Int32) (f : Nat → Int32) (N : Nat) (x : Int32) (y : Int32) (hN : i 1 = nI N) (hN5 : N ≤ 5) : Ct l G yX7_got (ws_ yX7_got cX7_got 3 (some .int)) ({ frames := 3, cells := 0, slots := 0, locals := 68 } : Room) [.ref h, .int x, .int y] [mO h ad i, (ad 0, .inl (G.2 0, 402, .inl f))] (fun _ : Unit => some (.int (a_got f N x y))) (fun _ => True) (fun _ => [mO h ad i, (ad 0, .inl (G.2 0, 402, .inl f))]) := by
  refine Ct.of rfl rfl ?_
  intro M el eG hnL C T
  subst el
  subst eG
  have C : Cx M cX7_got "ClockWardModel" ({ frames := 3, cells := 0, slots := 0, locals := 68 } : Room) := C
  refine V.lvs [0, 1, 2] (lv2 := [(0, .ref h), (1, .int x), (2, .int y)]) rfl ?_
  refine V.aload_n (pc' := 1) C 0 dX7_got_0 rfl rfl ?_
  refine V.iload_n (pc' := 2) C 1 dX7_got_1 rfl rfl ?_
  refine V.iload_n (pc' := 3) C 2 dX7_got_2 rfl rfl ?_
  refine V.callV (pc' := 6) (wr := [(ad 0, .inl (M.G.2 0, 402, .inl f))]) C (ct_X7_areTwo M.l M.G h ad i N x y hN hN5) dX7_got_3 rfl (lw_V q1116 q1118 qs45 q71 q1119) hyv_X7_areTwo rfl rfl 0 rfl rfl [0] [1] [1, 0] rfl rfl rfl (fun _ => [mO h ad i, (ad 0, .inl (M.G.2 0, 402, .inl f))]) (fun _ => rfl) rfl 0 0 rfl rfl (fun _ => [.int (bI (isTwo N x y))]) (fun _ => rfl) (fun _ _ => ?_)
  refine V.if_eqB (pc' := 9) C 25 dX7_got_6 rfl rfl (fun h1 => ?_) (fun h1 => ?_)
  · refine V.iconst (pc' := 26) C dX7_got_25 rfl kci_m1 ?_
    exact V.iret C T dX7_got_26 () rfl rfl (if_neg (fun z => h1 z)).symm rfl trivial rfl rfl rfl
  · obtain ⟨a, ha, rfl⟩ := isC_nat hN5 h1.1
    obtain ⟨b, hb, rfl⟩ := isC_nat hN5 h1.2.1
    refine V.aload_n (pc' := 10) C 0 dX7_got_9 rfl rfl ?_
    refine V.get (pc' := 13) C dX7_got_10 rfl 0 rfl rfl in_X7 0 rfl q929 rfl ?_
    refine V.bipush (pc' := 15) C dX7_got_13 rfl kcb_23 ?_
    refine V.iconst (pc' := 16) C dX7_got_15 rfl kci_5 ?_
    refine V.iload_n (pc' := 17) C 1 dX7_got_16 rfl rfl ?_
    refine V.imulN (pc' := 18) C 5 a dX7_got_17 rfl ?_
    refine V.iaddN (pc' := 19) C 23 (5 * a) dX7_got_18 rfl ?_
    refine V.iload_n (pc' := 20) C 2 dX7_got_19 rfl rfl ?_
    refine V.iaddN (pc' := 21) C (23 + 5 * a) b dX7_got_20 rfl ?_
    refine V.iald (pc' := 22) C (23 + 5 * a + b) dX7_got_21 rfl 1 rfl (by omega) rfl ?_
    refine V.goto C 26 dX7_got_22 rfl ?_
    exact V.iret C T dX7_got_26 () rfl rfl (Eq.trans (by rw [cn_nI (by omega), cn_nI (by omega)]) (if_pos h1).symm) rfl trivial rfl rfl rfl
set_option maxHeartbeats 4000000 in
theorem ct_X7_feed (l : Launch) (G : GG) (h : Nat) (ad : Nat → Nat) (i : Nat → Int32) (tp : Nat → Int32) (x : Int32) (t : Nat) (ht : i 7 = nI t) (ht2 : t ≤ 160) : Ct l G yX7_feed (ws_ yX7_feed cX7_feed 2 (some .int)) ({ frames := 1, cells := 0, slots := 0, locals := 25 } : Room) [.ref h, .int x] [mO h ad i, (ad 6, .inl (G.2 0, 160, .inl tp))] (fun _ : Unit => some (.int (a_feed t x))) (fun _ => True) (fun _ => [mO h ad (upd i 7 (nI (n_feed t x))), (ad 6, .inl (G.2 0, 160, .inl (g_feed tp t x)))]) := by
  refine Ct.of rfl rfl ?_
  intro M el eG hnL C T
  subst el
  subst eG
  have C : Cx M cX7_feed "ClockWardModel" ({ frames := 1, cells := 0, slots := 0, locals := 25 } : Room) := C
  refine V.lvs [0, 1] (lv2 := [(0, .ref h), (1, .int x)]) rfl ?_
  refine V.iload_n (pc' := 1) C 1 dX7_feed_0 rfl rfl ?_
  refine V.i2l (pc' := 2) C dX7_feed_1 rfl ?_
  refine V.lconst (pc' := 3) C dX7_feed_2 rfl kcl_0 ?_
  refine V.ldc2 (pc' := 6) C dX7_feed_3 rfl q1031 ?_
  refine V.callS (pc' := 9) (wr := [mO h ad i, (ad 6, .inl (M.G.2 0, 160, .inl tp))]) C (ct_X7_in M.l M.G x 0 127 ) dX7_feed_6 rfl (lw_S q1032 q1033 q71 q1034) hys_X7_in rfl rfl [] [0, 1] [0, 1] rfl rfl rfl (fun _ => [mO h ad i, (ad 6, .inl (M.G.2 0, 160, .inl tp))]) (fun _ => rfl) rfl 0 0 rfl rfl (fun _ => [.int (bI (inI x 0 127))]) (fun _ => rfl) (fun _ _ => ?_)
  refine V.if_neB (pc' := 12) C 14 dX7_feed_9 rfl rfl (fun h1 => ?_) (fun h1 => ?_)
  · refine V.aload_n (pc' := 15) C 0 dX7_feed_14 rfl rfl ?_
    refine V.get (pc' := 18) C dX7_feed_15 rfl 0 rfl rfl in_X7 7 rfl q936 rfl ?_
    refine V.topI ht ?_
    refine V.sipush (pc' := 21) C dX7_feed_18 rfl kcs_160 ?_
    refine V.icmp_neN (pc' := 24) C t 160 (by omega) (by omega) 27 dX7_feed_21 rfl rfl (fun h2 => ?_) (fun h2 => ?_)
    · refine V.aload_n (pc' := 28) C 0 dX7_feed_27 rfl rfl ?_
      refine V.get (pc' := 31) C dX7_feed_28 rfl 0 rfl rfl in_X7 6 rfl q935 rfl ?_
      refine V.aload_n (pc' := 32) C 0 dX7_feed_31 rfl rfl ?_
      refine V.get (pc' := 35) C dX7_feed_32 rfl 0 rfl rfl in_X7 7 rfl q936 rfl ?_
      refine V.topI ht ?_
      refine V.iload_n (pc' := 36) C 1 dX7_feed_35 rfl rfl ?_
      refine V.iast (pc' := 37) C t [mO h ad i, (ad 6, .inl (M.G.2 0, 160, .inl (upd tp t x)))] dX7_feed_36 rfl 1 rfl (by omega) rfl x rfl rfl ?_
      refine V.aload_n (pc' := 38) C 0 dX7_feed_37 rfl rfl ?_
      refine V.dup (pc' := 39) C rfl dX7_feed_38 rfl ?_
      refine V.get (pc' := 42) C dX7_feed_39 rfl 0 rfl rfl in_X7 7 rfl q936 rfl ?_
      refine V.topI ht ?_
      refine V.iconst (pc' := 43) C dX7_feed_42 rfl kci_1 ?_
      refine V.iaddN (pc' := 44) C t 1 dX7_feed_43 rfl ?_
      refine V.put (pc' := 47) C [(h, .inr (7, [.ref (ad 0), .int (i 1), .ref (ad 2), .int (i 3), .int (i 4), .int (i 5), .ref (ad 6), .int (nI (t + 1)), .int (i 8), .int (i 9), .int (i 10), .int (i 11), .int (i 12), .int (i 13), .int (i 14), .ref (ad 15), .ref (ad 16), .int (i 17), .int (i 18), .int (i 19), .int (i 20), .int (i 21), .int (i 22), .int (i 23), .ref (ad 24), .int (i 25), .ref (ad 26), .ref (ad 27), .ref (ad 28), .ref (ad 29), .ref (ad 30), .int (i 31)])), (ad 6, .inl (M.G.2 0, 160, .inl (upd tp t x)))] dX7_feed_44 rfl 0 rfl rfl in_X7 tyX7_ok nmX7 7 rfl q936 rfl rfl rfl rfl rfl ?_
      refine V.aload_n (pc' := 48) C 0 dX7_feed_47 rfl rfl ?_
      refine V.get (pc' := 51) C dX7_feed_48 rfl 0 rfl rfl in_X7 7 rfl q936 rfl ?_
      exact V.iret C T dX7_feed_51 () rfl rfl (by unfold a_feed; rw [if_pos h1, if_neg h2]) rfl trivial (by unfold n_feed g_feed; rw [if_pos h1, if_pos h1]; rw [if_neg h2, if_neg h2]; first | rfl | (rw [← ht]; rfl)) rfl rfl
    · refine V.bipush (pc' := 26) C dX7_feed_24 rfl kcb_m3 ?_
      exact V.iret C T dX7_feed_26 () rfl rfl (by unfold a_feed; rw [if_pos h1, if_pos h2]) rfl trivial (by unfold n_feed g_feed; rw [if_pos h1, if_pos h1]; rw [if_pos h2, if_pos h2]; first | rfl | (rw [← ht]; rfl)) rfl rfl
  · refine V.iconst (pc' := 13) C dX7_feed_12 rfl kci_m1 ?_
    exact V.iret C T dX7_feed_13 () rfl rfl (by unfold a_feed; rw [if_neg h1]) rfl trivial (by unfold n_feed g_feed; rw [if_neg h1, if_neg h1]; first | rfl | (rw [← ht]; rfl)) rfl rfl
set_option maxHeartbeats 4000000 in
theorem ct_X7_end (l : Launch) (G : GG) (h : Nat) (ad : Nat → Nat) (i : Nat → Int32) (x : Int32) (t : Nat) (ht : i 7 = nI t) (ht2 : t ≤ 160) : Ct l G yX7_end (ws_ yX7_end cX7_end 3 (some .int)) ({ frames := 1, cells := 0, slots := 0, locals := 25 } : Room) [.ref h, .int x] [mO h ad i] (fun _ : Unit => some (.int (a_end t x))) (fun _ => True) (fun _ => [mO h ad (upd i 7 (nI (n_end t x)))]) := by
  refine Ct.of rfl rfl ?_
  intro M el eG hnL C T
  subst el
  subst eG
  have C : Cx M cX7_end "ClockWardModel" ({ frames := 1, cells := 0, slots := 0, locals := 25 } : Room) := C
  refine V.lvs [0, 1] (lv2 := [(0, .ref h), (1, .int x)]) rfl ?_
  refine V.iload_n (pc' := 1) C 1 dX7_end_0 rfl rfl ?_
  refine V.i2l (pc' := 2) C dX7_end_1 rfl ?_
  refine V.lconst (pc' := 3) C dX7_end_2 rfl kcl_0 ?_
  refine V.aload_n (pc' := 4) C 0 dX7_end_3 rfl rfl ?_
  refine V.get (pc' := 7) C dX7_end_4 rfl 0 rfl rfl in_X7 7 rfl q936 rfl ?_
  refine V.topI ht ?_
  refine V.i2l (pc' := 8) C dX7_end_7 rfl ?_
  refine V.callS (pc' := 11) (wr := [mO h ad i]) C (ct_X7_in M.l M.G x 0 (nI t) ) dX7_end_8 rfl (lw_S q1032 q1033 q71 q1034) hys_X7_in rfl rfl [] [0] [0] rfl rfl rfl (fun _ => [mO h ad i]) (fun _ => rfl) rfl 0 0 rfl rfl (fun _ => [.int (bI (inI x 0 (nI t)))]) (fun _ => rfl) (fun _ _ => ?_)
  refine V.if_neB (pc' := 14) C 16 dX7_end_11 rfl rfl (fun h1 => ?_) (fun h1 => ?_)
  · obtain ⟨j, hj, rfl⟩ := inI_nat (by omega) h1
    refine V.aload_n (pc' := 17) C 0 dX7_end_16 rfl rfl ?_
    refine V.get (pc' := 20) C dX7_end_17 rfl 0 rfl rfl in_X7 7 rfl q936 rfl ?_
    refine V.topI ht ?_
    refine V.istore_n (pc' := 21) C [(2, .int (nI t)), (0, .ref h), (1, .int (nI j))] dX7_end_20 rfl 3 hnL rfl rfl ?_
    refine V.aload_n (pc' := 22) C 1 dX7_end_21 rfl rfl ?_
    refine V.iload_n (pc' := 23) C 2 dX7_end_22 rfl rfl ?_
    refine V.put (pc' := 26) C [(h, .inr (7, [.ref (ad 0), .int (i 1), .ref (ad 2), .int (i 3), .int (i 4), .int (i 5), .ref (ad 6), .int (nI j), .int (i 8), .int (i 9), .int (i 10), .int (i 11), .int (i 12), .int (i 13), .int (i 14), .ref (ad 15), .ref (ad 16), .int (i 17), .int (i 18), .int (i 19), .int (i 20), .int (i 21), .int (i 22), .int (i 23), .ref (ad 24), .int (i 25), .ref (ad 26), .ref (ad 27), .ref (ad 28), .ref (ad 29), .ref (ad 30), .int (i 31)]))] dX7_end_23 rfl 0 rfl rfl in_X7 tyX7_ok nmX7 7 rfl q936 rfl rfl rfl rfl rfl ?_
    refine V.iload_n (pc' := 27) C 0 dX7_end_26 rfl rfl ?_
    exact V.iret C T dX7_end_27 () rfl rfl (by unfold a_end; rw [if_pos h1]) rfl trivial (by unfold n_end; rw [if_pos h1, cn_nI (by omega)]; first | rfl | (rw [← ht]; rfl)) rfl rfl
  · refine V.iconst (pc' := 15) C dX7_end_14 rfl kci_m1 ?_
    exact V.iret C T dX7_end_15 () rfl rfl (by unfold a_end; rw [if_neg h1]) rfl trivial (by unfold n_end; rw [if_neg h1]; first | rfl | (rw [← ht]; rfl)) rfl rfl
set_option maxHeartbeats 4000000 in
theorem ct_X7_gift (l : Launch) (G : GG) (h : Nat) (ad : Nat → Nat) (i : Nat → Int32) (f : Nat → Int32) (x : Int32) (y : Int32) (n : Nat) (hpl : okPl f n) : Ct l G yX7_gift (ws_ yX7_gift cX7_gift 3 (some .int)) ({ frames := 1, cells := 0, slots := 0, locals := 25 } : Room) [.ref h, .int x, .int y] [mO h ad i, (ad 0, .inl (G.2 0, 402, .inl f))] (fun _ : Unit => some (.int (a_gift f x y))) (fun _ => True) (fun _ => [mO h ad i, (ad 0, .inl (G.2 0, 402, .inl f))]) := by
  refine Ct.of rfl rfl ?_
  intro M el eG hnL C T
  subst el
  subst eG
  have C : Cx M cX7_gift "ClockWardModel" ({ frames := 1, cells := 0, slots := 0, locals := 25 } : Room) := C
  have hn6 := hpl.2.1
  refine V.lvs [0, 1, 2] (lv2 := [(0, .ref h), (1, .int x), (2, .int y)]) rfl ?_
  refine V.iload_n (pc' := 1) C 1 dX7_gift_0 rfl rfl ?_
  refine V.i2l (pc' := 2) C dX7_gift_1 rfl ?_
  refine V.lconst (pc' := 3) C dX7_gift_2 rfl kcl_0 ?_
  refine V.aload_n (pc' := 4) C 0 dX7_gift_3 rfl rfl ?_
  refine V.get (pc' := 7) C dX7_gift_4 rfl 0 rfl rfl in_X7 0 rfl q929 rfl ?_
  refine V.bipush (pc' := 9) C dX7_gift_7 rfl kcb_66 ?_
  refine V.iald (pc' := 10) C 66 dX7_gift_9 rfl 1 rfl (by omega) rfl ?_
  refine V.topI hpl.1 ?_
  refine V.iconst (pc' := 11) C dX7_gift_10 rfl kci_1 ?_
  refine V.isub (pc' := 12) C dX7_gift_11 rfl ?_
  refine V.i2l (pc' := 13) C dX7_gift_12 rfl ?_
  refine V.callS (pc' := 16) (wr := [mO h ad i, (ad 0, .inl (M.G.2 0, 402, .inl f))]) C (ct_X7_in M.l M.G x 0 ((nI n) - 1) ) dX7_gift_13 rfl (lw_S q1032 q1033 q71 q1034) hys_X7_in rfl rfl [] [0, 1] [0, 1] rfl rfl rfl (fun _ => [mO h ad i, (ad 0, .inl (M.G.2 0, 402, .inl f))]) (fun _ => rfl) rfl 0 0 rfl rfl (fun _ => [.int (bI (inI x 0 ((nI n) - 1)))]) (fun _ => rfl) (fun _ _ => ?_)
  refine V.if_eqB (pc' := 19) C 47 dX7_gift_16 rfl rfl (fun h1 => ?_) (fun h1 => ?_)
  · refine V.iconst (pc' := 48) C dX7_gift_47 rfl kci_m1 ?_
    exact V.iret C T dX7_gift_48 () rfl rfl (by unfold a_gift; rw [hpl.1]; exact (if_neg (fun z => h1 z.1)).symm) rfl trivial rfl rfl rfl
  · obtain ⟨a, ha, rfl⟩ := inC_nat (by omega) h1
    refine V.iload_n (pc' := 20) C 2 dX7_gift_19 rfl rfl ?_
    refine V.i2l (pc' := 21) C dX7_gift_20 rfl ?_
    refine V.lconst (pc' := 22) C dX7_gift_21 rfl kcl_0 ?_
    refine V.ldc2 (pc' := 25) C dX7_gift_22 rfl q1124 ?_
    refine V.callS (pc' := 28) (wr := [mO h ad i, (ad 0, .inl (M.G.2 0, 402, .inl f))]) C (ct_X7_in M.l M.G y 0 2 ) dX7_gift_25 rfl (lw_S q1032 q1033 q71 q1034) hys_X7_in rfl rfl [] [0, 1] [0, 1] rfl rfl rfl (fun _ => [mO h ad i, (ad 0, .inl (M.G.2 0, 402, .inl f))]) (fun _ => rfl) rfl 0 0 rfl rfl (fun _ => [.int (bI (inI y 0 2))]) (fun _ => rfl) (fun _ _ => ?_)
    refine V.if_eqB (pc' := 31) C 47 dX7_gift_28 rfl rfl (fun h2 => ?_) (fun h2 => ?_)
    · refine V.iconst (pc' := 48) C dX7_gift_47 rfl kci_m1 ?_
      exact V.iret C T dX7_gift_48 () rfl rfl (by unfold a_gift; rw [hpl.1]; exact (if_neg (fun z => h2 z.2)).symm) rfl trivial rfl rfl rfl
    · obtain ⟨b, hb, rfl⟩ := in_nat (m := 2) (by decide) h2
      refine V.aload_n (pc' := 32) C 0 dX7_gift_31 rfl rfl ?_
      refine V.get (pc' := 35) C dX7_gift_32 rfl 0 rfl rfl in_X7 0 rfl q929 rfl ?_
      refine V.bipush (pc' := 37) C dX7_gift_35 rfl kcb_48 ?_
      refine V.iconst (pc' := 38) C dX7_gift_37 rfl kci_3 ?_
      refine V.iload_n (pc' := 39) C 1 dX7_gift_38 rfl rfl ?_
      refine V.imulN (pc' := 40) C 3 a dX7_gift_39 rfl ?_
      refine V.iaddN (pc' := 41) C 48 (3 * a) dX7_gift_40 rfl ?_
      refine V.iload_n (pc' := 42) C 2 dX7_gift_41 rfl rfl ?_
      refine V.iaddN (pc' := 43) C (48 + 3 * a) b dX7_gift_42 rfl ?_
      refine V.iald (pc' := 44) C (48 + 3 * a + b) dX7_gift_43 rfl 1 rfl (by omega) rfl ?_
      refine V.goto C 48 dX7_gift_44 rfl ?_
      exact V.iret C T dX7_gift_48 () rfl rfl (by unfold a_gift; rw [hpl.1]; exact (Eq.trans (by rw [cn_nI (by omega), cn_nI (by omega)]) (if_pos ⟨h1, h2⟩).symm)) rfl trivial rfl rfl rfl
set_option maxHeartbeats 4000000 in
theorem ct_X7_puts (l : Launch) (G : GG) (h : Nat) (ad : Nat → Nat) (i : Nat → Int32) (f : Nat → Int32) (c : Prop) (hc : Decidable c) (k : Nat) (x : Int32) (v : Int32) (less : Int32) (hx : c → x = nI k ∧ k < 402) : Ct l G yX7_puts (ws_ yX7_puts cX7_puts 6 (some .int)) ({ frames := 0, cells := 0, slots := 0, locals := 0 } : Room) [.ref h, .int (bI (c)), .int x, .int v, .int less] [mO h ad i, (ad 0, .inl (G.2 0, 402, .inl f))] (fun _ : Unit => some (.int (if c then f k + less else -1))) (fun _ => True) (fun _ => [mO h ad i, (ad 0, .inl (G.2 0, 402, .inl (if c then upd f k (v - less) else f)))]) := by
  refine Ct.of rfl rfl ?_
  intro M el eG hnL C T
  subst el
  subst eG
  have C : Cx M cX7_puts "ClockWardModel" ({ frames := 0, cells := 0, slots := 0, locals := 0 } : Room) := C
  refine V.lvs [0, 1, 2, 3, 4] (lv2 := [(0, .ref h), (1, .int (bI (c))), (2, .int x), (3, .int v), (4, .int less)]) rfl ?_
  refine V.iload_n (pc' := 1) C 1 dX7_puts_0 rfl rfl ?_
  refine V.if_neB (pc' := 4) C 6 dX7_puts_1 rfl rfl (fun h1 => ?_) (fun h1 => ?_)
  · obtain ⟨hx1, hx2⟩ := hx h1
    refine V.aload_n (pc' := 7) C 0 dX7_puts_6 rfl rfl ?_
    refine V.get (pc' := 10) C dX7_puts_7 rfl 0 rfl rfl in_X7 0 rfl q929 rfl ?_
    refine V.iload_n (pc' := 11) C 2 dX7_puts_10 rfl rfl ?_
    refine V.topI (y := nI k) hx1 ?_
    refine V.iald (pc' := 12) C k dX7_puts_11 rfl 1 rfl (by omega) rfl ?_
    refine V.iload (pc' := 14) C 4 dX7_puts_12 rfl rfl ?_
    refine V.iadd (pc' := 15) C dX7_puts_14 rfl ?_
    refine V.istore (pc' := 17) C [(5, .int ((f k) + less)), (0, .ref h), (1, .int (bI (c))), (2, .int x), (3, .int v), (4, .int less)] dX7_puts_15 rfl 6 hnL rfl rfl ?_
    refine V.aload_n (pc' := 18) C 1 dX7_puts_17 rfl rfl ?_
    refine V.get (pc' := 21) C dX7_puts_18 rfl 0 rfl rfl in_X7 0 rfl q929 rfl ?_
    refine V.iload_n (pc' := 22) C 3 dX7_puts_21 rfl rfl ?_
    refine V.topI (y := nI k) hx1 ?_
    refine V.iload_n (pc' := 23) C 4 dX7_puts_22 rfl rfl ?_
    refine V.iload (pc' := 25) C 5 dX7_puts_23 rfl rfl ?_
    refine V.isub (pc' := 26) C dX7_puts_25 rfl ?_
    refine V.iast (pc' := 27) C k [mO h ad i, (ad 0, .inl (M.G.2 0, 402, .inl (upd f k (v - less))))] dX7_puts_26 rfl 1 rfl (by omega) rfl (v - less) rfl rfl ?_
    refine V.iload (pc' := 29) C 0 dX7_puts_27 rfl rfl ?_
    exact V.iret C T dX7_puts_29 () rfl rfl (if_pos h1).symm rfl trivial (by rw [if_pos h1]) rfl rfl
  · refine V.iconst (pc' := 5) C dX7_puts_4 rfl kci_m1 ?_
    exact V.iret C T dX7_puts_5 () rfl rfl (if_neg h1).symm rfl trivial (by rw [if_neg h1]) rfl rfl
set_option maxHeartbeats 4000000 in
theorem ct_X7_alter (l : Launch) (G : GG) (h : Nat) (ad : Nat → Nat) (i : Nat → Int32) (f : Nat → Int32) (N : Nat) (x : Int32) (y : Int32) (v : Int32) (hN : i 1 = nI N) (hN5 : N ≤ 5) : Ct l G yX7_alter (ws_ yX7_alter cX7_alter 5 (some .int)) ({ frames := 2, cells := 0, slots := 0, locals := 46 } : Room) [.ref h, .int x, .int y, .int v] [mO h ad i, (ad 0, .inl (G.2 0, 402, .inl f))] (fun _ : Unit => some (.int (a_alter f N x y v))) (fun _ => True) (fun _ => [mO h ad i, (ad 0, .inl (G.2 0, 402, .inl (g_alter f N x y v)))]) := by
  refine Ct.of rfl rfl ?_
  intro M el eG hnL C T
  subst el
  subst eG
  have C : Cx M cX7_alter "ClockWardModel" ({ frames := 2, cells := 0, slots := 0, locals := 46 } : Room) := C
  refine V.lvs [0, 1, 2, 3] (lv2 := [(0, .ref h), (1, .int x), (2, .int y), (3, .int v)]) rfl ?_
  refine V.iload_n (pc' := 1) C 2 dX7_alter_0 rfl rfl ?_
  have J3 : ∀ (x2 : Int32), x2 = (if y = 0 then 3 else if y = 1 then 3 else if y = 2 then 6 else 99) → V M 0 0 [mO h ad i, (ad 0, .inl (M.G.2 0, 402, .inl f))] [(0, .ref h), (1, .int x), (2, .int y), (3, .int v)] [.int x2] 29 := by
    intro x2 ex2
    subst ex2
    refine V.istore (pc' := 31) C [(4, .int (if y = 0 then 3 else if y = 1 then 3 else if y = 2 then 6 else 99)), (0, .ref h), (1, .int x), (2, .int y), (3, .int v)] dX7_alter_29 rfl 5 hnL rfl rfl ?_
    refine V.aload_n (pc' := 32) C 1 dX7_alter_31 rfl rfl ?_
    refine V.aload_n (pc' := 33) C 1 dX7_alter_32 rfl rfl ?_
    refine V.iload_n (pc' := 34) C 2 dX7_alter_33 rfl rfl ?_
    refine V.callV (pc' := 37) (wr := [(ad 0, .inl (M.G.2 0, 402, .inl f))]) C (ct_X7_isClock M.l M.G h ad i N x hN hN5) dX7_alter_34 rfl (lw_V q1100 q1102 qs43 q71 q1103) hyv_X7_isClock rfl rfl 0 rfl rfl [0] [1] [1, 0] rfl rfl rfl (fun _ => [mO h ad i, (ad 0, .inl (M.G.2 0, 402, .inl f))]) (fun _ => rfl) rfl 0 0 rfl rfl (fun _ => [.int (bI (isC N x)), .ref h]) (fun _ => rfl) (fun _ _ => ?_)
    have J6 : ∀ (x5 : Int32), x5 = (if isC N x then if inI y 0 3 then if inI v 0 (if y = 0 then 3 else if y = 1 then 3 else if y = 2 then 6 else 99) then 1 else 0 else 0 else 0) → V M 0 0 [mO h ad i, (ad 0, .inl (M.G.2 0, 402, .inl f))] [(4, .int (if y = 0 then 3 else if y = 1 then 3 else if y = 2 then 6 else 99)), (0, .ref h), (1, .int x), (2, .int y), (3, .int v)] [.int x5, .ref h] 69 := by
      intro x5 ex5
      have ex5 : x5 = bI ((isC N x) ∧ ((inI y 0 3) ∧ (inI v 0 (if y = 0 then 3 else if y = 1 then 3 else if y = 2 then 6 else 99)))) := ex5.trans (it_a (it_a it_10))
      subst ex5
      refine V.iconst (pc' := 70) C dX7_alter_69 rfl kci_5 ?_
      refine V.iload_n (pc' := 71) C 3 dX7_alter_70 rfl rfl ?_
      refine V.imul (pc' := 72) C dX7_alter_71 rfl ?_
      refine V.iload_n (pc' := 73) C 2 dX7_alter_72 rfl rfl ?_
      refine V.iadd (pc' := 74) C dX7_alter_73 rfl ?_
      refine V.iload_n (pc' := 75) C 4 dX7_alter_74 rfl rfl ?_
      refine V.iconst (pc' := 76) C dX7_alter_75 rfl kci_0 ?_
      refine V.callV (pc' := 79) (wr := []) C (ct_X7_puts M.l M.G h ad i f ((isC N x) ∧ ((inI y 0 3) ∧ (inI v 0 (if y = 0 then 3 else if y = 1 then 3 else if y = 2 then 6 else 99)))) inferInstance (5 * cn y + cn x) ((5 * y) + x) v 0 (fun z => alt_ix hN5 z)) dX7_alter_76 rfl (lw_V q1130 q1132 qs46 q71 q1133) hyv_X7_puts rfl rfl 0 rfl rfl [0, 1] [] [0, 1] rfl rfl rfl (fun _ => [mO h ad i, (ad 0, .inl (M.G.2 0, 402, .inl (if (isC N x) ∧ ((inI y 0 3) ∧ (inI v 0 (if y = 0 then 3 else if y = 1 then 3 else if y = 2 then 6 else 99))) then upd f (5 * cn y + cn x) (v - 0) else f)))]) (fun _ => rfl) rfl 0 0 rfl rfl (fun _ => [.int (if (isC N x) ∧ ((inI y 0 3) ∧ (inI v 0 (if y = 0 then 3 else if y = 1 then 3 else if y = 2 then 6 else 99))) then f (5 * cn y + cn x) + 0 else -1)]) (fun _ => rfl) (fun _ _ => ?_)
      exact V.iret C T dX7_alter_79 () rfl rfl (by unfold a_alter; rw [Int32.add_zero]) rfl trivial (by unfold g_alter; rw [Int32.sub_zero]) rfl rfl
    refine V.if_eqB (pc' := 40) C 68 dX7_alter_37 rfl rfl (fun h4 => ?_) (fun h4 => ?_)
    · refine V.iconst (pc' := 69) C dX7_alter_68 rfl kci_0 ?_
      exact J6 _ (by rw [if_neg h4])
    · refine V.iload_n (pc' := 41) C 3 dX7_alter_40 rfl rfl ?_
      refine V.i2l (pc' := 42) C dX7_alter_41 rfl ?_
      refine V.lconst (pc' := 43) C dX7_alter_42 rfl kcl_0 ?_
      refine V.ldc2 (pc' := 46) C dX7_alter_43 rfl q1129 ?_
      refine V.callS (pc' := 49) (wr := [mO h ad i, (ad 0, .inl (M.G.2 0, 402, .inl f))]) C (ct_X7_in M.l M.G y 0 3 ) dX7_alter_46 rfl (lw_S q1032 q1033 q71 q1034) hys_X7_in rfl rfl [] [0, 1] [0, 1] rfl rfl rfl (fun _ => [mO h ad i, (ad 0, .inl (M.G.2 0, 402, .inl f))]) (fun _ => rfl) rfl 0 0 rfl rfl (fun _ => [.int (bI (inI y 0 3)), .ref h]) (fun _ => rfl) (fun _ _ => ?_)
      refine V.if_eqB (pc' := 52) C 68 dX7_alter_49 rfl rfl (fun h5 => ?_) (fun h5 => ?_)
      · refine V.iconst (pc' := 69) C dX7_alter_68 rfl kci_0 ?_
        exact J6 _ (by rw [if_pos h4, if_neg h5])
      · refine V.iload_n (pc' := 53) C 4 dX7_alter_52 rfl rfl ?_
        refine V.i2l (pc' := 54) C dX7_alter_53 rfl ?_
        refine V.lconst (pc' := 55) C dX7_alter_54 rfl kcl_0 ?_
        refine V.iload (pc' := 57) C 0 dX7_alter_55 rfl rfl ?_
        refine V.i2l (pc' := 58) C dX7_alter_57 rfl ?_
        refine V.callS (pc' := 61) (wr := [mO h ad i, (ad 0, .inl (M.G.2 0, 402, .inl f))]) C (ct_X7_in M.l M.G v 0 (if y = 0 then 3 else if y = 1 then 3 else if y = 2 then 6 else 99) ) dX7_alter_58 rfl (lw_S q1032 q1033 q71 q1034) hys_X7_in rfl rfl [] [0, 1] [0, 1] rfl rfl rfl (fun _ => [mO h ad i, (ad 0, .inl (M.G.2 0, 402, .inl f))]) (fun _ => rfl) rfl 0 0 rfl rfl (fun _ => [.int (bI (inI v 0 (if y = 0 then 3 else if y = 1 then 3 else if y = 2 then 6 else 99))), .ref h]) (fun _ => rfl) (fun _ _ => ?_)
        refine V.if_eqB (pc' := 64) C 68 dX7_alter_61 rfl rfl (fun h6 => ?_) (fun h6 => ?_)
        · refine V.iconst (pc' := 69) C dX7_alter_68 rfl kci_0 ?_
          exact J6 _ (by rw [if_pos h4, if_pos h5, if_neg h6])
        · refine V.iconst (pc' := 65) C dX7_alter_64 rfl kci_1 ?_
          refine V.goto C 69 dX7_alter_65 rfl ?_
          exact J6 _ (by rw [if_pos h4, if_pos h5, if_pos h6])
  refine V.if_ne (pc' := 4) C 8 dX7_alter_1 rfl rfl (fun h1 => ?_) (fun h1 => ?_)
  · refine V.iload_n (pc' := 9) C 2 dX7_alter_8 rfl rfl ?_
    refine V.iconst (pc' := 10) C dX7_alter_9 rfl kci_1 ?_
    refine V.icmp_ne (pc' := 13) C 17 dX7_alter_10 rfl rfl (fun h2 => ?_) (fun h2 => ?_)
    · refine V.iload_n (pc' := 18) C 2 dX7_alter_17 rfl rfl ?_
      refine V.iconst (pc' := 19) C dX7_alter_18 rfl kci_2 ?_
      refine V.icmp_ne (pc' := 22) C 27 dX7_alter_19 rfl rfl (fun h3 => ?_) (fun h3 => ?_)
      · refine V.bipush (pc' := 29) C dX7_alter_27 rfl kcb_99 ?_
        exact J3 _ (by rw [if_neg h1, if_neg h2, if_neg h3])
      · refine V.bipush (pc' := 24) C dX7_alter_22 rfl kcb_6 ?_
        refine V.goto C 29 dX7_alter_24 rfl ?_
        exact J3 _ (by rw [if_neg h1, if_neg h2, if_pos h3])
    · refine V.iconst (pc' := 14) C dX7_alter_13 rfl kci_3 ?_
      refine V.goto C 29 dX7_alter_14 rfl ?_
      exact J3 _ (by rw [if_neg h1, if_pos h2])
  · refine V.iconst (pc' := 5) C dX7_alter_4 rfl kci_3 ?_
    refine V.goto C 29 dX7_alter_5 rfl ?_
    exact J3 _ (by rw [if_pos h1])
set_option maxHeartbeats 4000000 in
theorem ct_X7_floor (l : Launch) (G : GG) (h : Nat) (ad : Nat → Nat) (i : Nat → Int32) (f : Nat → Int32) (v : Int32)  : Ct l G yX7_floor (ws_ yX7_floor cX7_floor 2 (some .int)) ({ frames := 1, cells := 0, slots := 0, locals := 25 } : Room) [.ref h, .int v] [mO h ad i, (ad 0, .inl (G.2 0, 402, .inl f))] (fun _ : Unit => some (.int (a_floor f v))) (fun _ => True) (fun _ => [mO h ad i, (ad 0, .inl (G.2 0, 402, .inl (g_floor f v)))]) := by
  refine Ct.of rfl rfl ?_
  intro M el eG hnL C T
  subst el
  subst eG
  have C : Cx M cX7_floor "ClockWardModel" ({ frames := 1, cells := 0, slots := 0, locals := 25 } : Room) := C
  refine V.lvs [0, 1] (lv2 := [(0, .ref h), (1, .int v)]) rfl ?_
  refine V.aload_n (pc' := 1) C 0 dX7_floor_0 rfl rfl ?_
  refine V.iload_n (pc' := 2) C 1 dX7_floor_1 rfl rfl ?_
  refine V.i2l (pc' := 3) C dX7_floor_2 rfl ?_
  refine V.lconst (pc' := 4) C dX7_floor_3 rfl kcl_0 ?_
  refine V.ldc2 (pc' := 7) C dX7_floor_4 rfl q1138 ?_
  refine V.callS (pc' := 10) (wr := [mO h ad i, (ad 0, .inl (M.G.2 0, 402, .inl f))]) C (ct_X7_in M.l M.G v 0 50 ) dX7_floor_7 rfl (lw_S q1032 q1033 q71 q1034) hys_X7_in rfl rfl [] [0, 1] [0, 1] rfl rfl rfl (fun _ => [mO h ad i, (ad 0, .inl (M.G.2 0, 402, .inl f))]) (fun _ => rfl) rfl 0 0 rfl rfl (fun _ => [.int (bI (inI v 0 50)), .ref h]) (fun _ => rfl) (fun _ _ => ?_)
  refine V.bipush (pc' := 12) C dX7_floor_10 rfl kcb_20 ?_
  refine V.iload_n (pc' := 13) C 1 dX7_floor_12 rfl rfl ?_
  refine V.bipush (pc' := 15) C dX7_floor_13 rfl kcb_40 ?_
  refine V.callV (pc' := 18) (wr := []) C (ct_X7_puts M.l M.G h ad i f (inI v 0 50) inferInstance 20 20 v 40 (fun _ => ⟨rfl, by decide⟩)) dX7_floor_15 rfl (lw_V q1130 q1132 qs46 q71 q1133) hyv_X7_puts rfl rfl 0 rfl rfl [0, 1] [] [0, 1] rfl rfl rfl (fun _ => [mO h ad i, (ad 0, .inl (M.G.2 0, 402, .inl (if inI v 0 50 then upd f 20 (v - 40) else f)))]) (fun _ => rfl) rfl 0 0 rfl rfl (fun _ => [.int (if inI v 0 50 then f 20 + 40 else -1)]) (fun _ => rfl) (fun _ _ => ?_)
  exact V.iret C T dX7_floor_18 () rfl rfl rfl rfl trivial rfl rfl rfl
set_option maxHeartbeats 4000000 in
theorem ct_X7_cut (l : Launch) (G : GG) (h : Nat) (ad : Nat → Nat) (i : Nat → Int32) (f : Nat → Int32) (v : Int32)  : Ct l G yX7_cut (ws_ yX7_cut cX7_cut 2 (some .int)) ({ frames := 1, cells := 0, slots := 0, locals := 25 } : Room) [.ref h, .int v] [mO h ad i, (ad 0, .inl (G.2 0, 402, .inl f))] (fun _ : Unit => some (.int (a_cut f v))) (fun _ => True) (fun _ => [mO h ad i, (ad 0, .inl (G.2 0, 402, .inl (g_cut f v)))]) := by
  refine Ct.of rfl rfl ?_
  intro M el eG hnL C T
  subst el
  subst eG
  have C : Cx M cX7_cut "ClockWardModel" ({ frames := 1, cells := 0, slots := 0, locals := 25 } : Room) := C
  refine V.lvs [0, 1] (lv2 := [(0, .ref h), (1, .int v)]) rfl ?_
  refine V.aload_n (pc' := 1) C 0 dX7_cut_0 rfl rfl ?_
  refine V.iload_n (pc' := 2) C 1 dX7_cut_1 rfl rfl ?_
  refine V.i2l (pc' := 3) C dX7_cut_2 rfl ?_
  refine V.lconst (pc' := 4) C dX7_cut_3 rfl kcl_0 ?_
  refine V.aload_n (pc' := 5) C 0 dX7_cut_4 rfl rfl ?_
  refine V.get (pc' := 8) C dX7_cut_5 rfl 0 rfl rfl in_X7 0 rfl q929 rfl ?_
  refine V.bipush (pc' := 10) C dX7_cut_8 rfl kcb_66 ?_
  refine V.iald (pc' := 11) C 66 dX7_cut_10 rfl 1 rfl (by omega) rfl ?_
  refine V.i2l (pc' := 12) C dX7_cut_11 rfl ?_
  refine V.callS (pc' := 15) (wr := [mO h ad i, (ad 0, .inl (M.G.2 0, 402, .inl f))]) C (ct_X7_in M.l M.G v 0 (f 66) ) dX7_cut_12 rfl (lw_S q1032 q1033 q71 q1034) hys_X7_in rfl rfl [] [0, 1] [0, 1] rfl rfl rfl (fun _ => [mO h ad i, (ad 0, .inl (M.G.2 0, 402, .inl f))]) (fun _ => rfl) rfl 0 0 rfl rfl (fun _ => [.int (bI (inI v 0 (f 66))), .ref h]) (fun _ => rfl) (fun _ _ => ?_)
  refine V.bipush (pc' := 17) C dX7_cut_15 rfl kcb_66 ?_
  refine V.iload_n (pc' := 18) C 1 dX7_cut_17 rfl rfl ?_
  refine V.iconst (pc' := 19) C dX7_cut_18 rfl kci_0 ?_
  refine V.callV (pc' := 22) (wr := []) C (ct_X7_puts M.l M.G h ad i f (inI v 0 (f 66)) inferInstance 66 66 v 0 (fun _ => ⟨rfl, by decide⟩)) dX7_cut_19 rfl (lw_V q1130 q1132 qs46 q71 q1133) hyv_X7_puts rfl rfl 0 rfl rfl [0, 1] [] [0, 1] rfl rfl rfl (fun _ => [mO h ad i, (ad 0, .inl (M.G.2 0, 402, .inl (if inI v 0 (f 66) then upd f 66 (v - 0) else f)))]) (fun _ => rfl) rfl 0 0 rfl rfl (fun _ => [.int (if inI v 0 (f 66) then f 66 + 0 else -1)]) (fun _ => rfl) (fun _ _ => ?_)
  exact V.iret C T dX7_cut_22 () rfl rfl (by unfold a_cut; rw [Int32.add_zero]) rfl trivial (by unfold g_cut; rw [Int32.sub_zero]) rfl rfl
set_option maxHeartbeats 4000000 in
theorem ct_X7_plan (l : Launch) (G : GG) (h : Nat) (ad : Nat → Nat) (i : Nat → Int32) (f : Nat → Int32) (N : Nat) (x : Int32) (y : Int32) (n : Int32) (p : Nat) (hN : i 1 = nI N) (hN5 : N ≤ 5) (hp : f 66 = nI p) (hp6 : p ≤ 6) : Ct l G yX7_plan (ws_ yX7_plan cX7_plan 5 (some .int)) ({ frames := 3, cells := 0, slots := 0, locals := 68 } : Room) [.ref h, .int x, .int y, .int n] [mO h ad i, (ad 0, .inl (G.2 0, 402, .inl f))] (fun _ : Unit => some (.int (a_plan p N x y n))) (fun _ => True) (fun _ => [mO h ad i, (ad 0, .inl (G.2 0, 402, .inl (g_plan f p N x y n)))]) := by
  refine Ct.of rfl rfl ?_
  intro M el eG hnL C T
  subst el
  subst eG
  have C : Cx M cX7_plan "ClockWardModel" ({ frames := 3, cells := 0, slots := 0, locals := 68 } : Room) := C
  refine V.lvs [0, 1, 2, 3] (lv2 := [(0, .ref h), (1, .int x), (2, .int y), (3, .int n)]) rfl ?_
  refine V.aload_n (pc' := 1) C 0 dX7_plan_0 rfl rfl ?_
  refine V.iload_n (pc' := 2) C 1 dX7_plan_1 rfl rfl ?_
  refine V.iload_n (pc' := 3) C 2 dX7_plan_2 rfl rfl ?_
  refine V.callV (pc' := 6) (wr := [(ad 0, .inl (M.G.2 0, 402, .inl f))]) C (ct_X7_areTwo M.l M.G h ad i N x y hN hN5) dX7_plan_3 rfl (lw_V q1116 q1118 qs45 q71 q1119) hyv_X7_areTwo rfl rfl 0 rfl rfl [0] [1] [1, 0] rfl rfl rfl (fun _ => [mO h ad i, (ad 0, .inl (M.G.2 0, 402, .inl f))]) (fun _ => rfl) rfl 0 0 rfl rfl (fun _ => [.int (bI (isTwo N x y))]) (fun _ => rfl) (fun _ _ => ?_)
  refine V.if_eqB (pc' := 9) C 21 dX7_plan_6 rfl rfl (fun h1 => ?_) (fun h1 => ?_)
  · refine V.iconst (pc' := 22) C dX7_plan_21 rfl kci_m1 ?_
    exact V.iret C T dX7_plan_22 () rfl rfl (if_neg (fun z => h1 z.1)).symm rfl trivial (by unfold g_plan; rw [if_neg (fun z => h1 z.1)]) rfl rfl
  · refine V.iload_n (pc' := 10) C 3 dX7_plan_9 rfl rfl ?_
    refine V.i2l (pc' := 11) C dX7_plan_10 rfl ?_
    refine V.lconst (pc' := 12) C dX7_plan_11 rfl kcl_1 ?_
    refine V.ldc2 (pc' := 15) C dX7_plan_12 rfl q1143 ?_
    refine V.callS (pc' := 18) (wr := [mO h ad i, (ad 0, .inl (M.G.2 0, 402, .inl f))]) C (ct_X7_in M.l M.G n 1 9 ) dX7_plan_15 rfl (lw_S q1032 q1033 q71 q1034) hys_X7_in rfl rfl [] [0, 1] [0, 1] rfl rfl rfl (fun _ => [mO h ad i, (ad 0, .inl (M.G.2 0, 402, .inl f))]) (fun _ => rfl) rfl 0 0 rfl rfl (fun _ => [.int (bI (inI n 1 9))]) (fun _ => rfl) (fun _ _ => ?_)
    refine V.if_neB (pc' := 21) C 23 dX7_plan_18 rfl rfl (fun h2 => ?_) (fun h2 => ?_)
    · refine V.aload_n (pc' := 24) C 0 dX7_plan_23 rfl rfl ?_
      refine V.get (pc' := 27) C dX7_plan_24 rfl 0 rfl rfl in_X7 0 rfl q929 rfl ?_
      refine V.bipush (pc' := 29) C dX7_plan_27 rfl kcb_66 ?_
      refine V.iald (pc' := 30) C 66 dX7_plan_29 rfl 1 rfl (by omega) rfl ?_
      refine V.topI hp ?_
      refine V.bipush (pc' := 32) C dX7_plan_30 rfl kcb_6 ?_
      refine V.icmp_neN (pc' := 35) C p 6 (by omega) (by omega) 38 dX7_plan_32 rfl rfl (fun h3 => ?_) (fun h3 => ?_)
      · refine V.bipush (pc' := 40) C dX7_plan_38 rfl kcb_48 ?_
        refine V.iconst (pc' := 41) C dX7_plan_40 rfl kci_3 ?_
        refine V.aload_n (pc' := 42) C 0 dX7_plan_41 rfl rfl ?_
        refine V.get (pc' := 45) C dX7_plan_42 rfl 0 rfl rfl in_X7 0 rfl q929 rfl ?_
        refine V.bipush (pc' := 47) C dX7_plan_45 rfl kcb_66 ?_
        refine V.iald (pc' := 48) C 66 dX7_plan_47 rfl 1 rfl (by omega) rfl ?_
        refine V.topI hp ?_
        refine V.imulN (pc' := 49) C 3 p dX7_plan_48 rfl ?_
        refine V.iaddN (pc' := 50) C 48 (3 * p) dX7_plan_49 rfl ?_
        refine V.istore (pc' := 52) C [(4, .int (nI (48 + 3 * p))), (0, .ref h), (1, .int x), (2, .int y), (3, .int n)] dX7_plan_50 rfl 5 hnL rfl rfl ?_
        refine V.aload_n (pc' := 53) C 1 dX7_plan_52 rfl rfl ?_
        refine V.get (pc' := 56) C dX7_plan_53 rfl 0 rfl rfl in_X7 0 rfl q929 rfl ?_
        refine V.iload (pc' := 58) C 0 dX7_plan_56 rfl rfl ?_
        refine V.iload_n (pc' := 59) C 2 dX7_plan_58 rfl rfl ?_
        refine V.iast (pc' := 60) C (48 + 3 * p) [mO h ad i, (ad 0, .inl (M.G.2 0, 402, .inl (upd f (48 + 3 * p) x)))] dX7_plan_59 rfl 1 rfl (by omega) rfl x rfl rfl ?_
        refine V.aload_n (pc' := 61) C 1 dX7_plan_60 rfl rfl ?_
        refine V.get (pc' := 64) C dX7_plan_61 rfl 0 rfl rfl in_X7 0 rfl q929 rfl ?_
        refine V.iload (pc' := 66) C 0 dX7_plan_64 rfl rfl ?_
        refine V.iconst (pc' := 67) C dX7_plan_66 rfl kci_1 ?_
        refine V.iaddN (pc' := 68) C (48 + 3 * p) 1 dX7_plan_67 rfl ?_
        refine V.iload_n (pc' := 69) C 3 dX7_plan_68 rfl rfl ?_
        refine V.iast (pc' := 70) C (48 + 3 * p + 1) [mO h ad i, (ad 0, .inl (M.G.2 0, 402, .inl (upd (upd f (48 + 3 * p) x) (48 + 3 * p + 1) y)))] dX7_plan_69 rfl 1 rfl (by omega) rfl y rfl rfl ?_
        refine V.aload_n (pc' := 71) C 1 dX7_plan_70 rfl rfl ?_
        refine V.get (pc' := 74) C dX7_plan_71 rfl 0 rfl rfl in_X7 0 rfl q929 rfl ?_
        refine V.iload (pc' := 76) C 0 dX7_plan_74 rfl rfl ?_
        refine V.iconst (pc' := 77) C dX7_plan_76 rfl kci_2 ?_
        refine V.iaddN (pc' := 78) C (48 + 3 * p) 2 dX7_plan_77 rfl ?_
        refine V.iload_n (pc' := 79) C 4 dX7_plan_78 rfl rfl ?_
        refine V.iast (pc' := 80) C (48 + 3 * p + 2) [mO h ad i, (ad 0, .inl (M.G.2 0, 402, .inl (upd (upd (upd f (48 + 3 * p) x) (48 + 3 * p + 1) y) (48 + 3 * p + 2) n)))] dX7_plan_79 rfl 1 rfl (by omega) rfl n rfl rfl ?_
        refine V.aload_n (pc' := 81) C 1 dX7_plan_80 rfl rfl ?_
        refine V.get (pc' := 84) C dX7_plan_81 rfl 0 rfl rfl in_X7 0 rfl q929 rfl ?_
        refine V.bipush (pc' := 86) C dX7_plan_84 rfl kcb_66 ?_
        refine V.dup2 (pc' := 87) C rfl rfl dX7_plan_86 rfl ?_
        refine V.iald (pc' := 88) C 66 dX7_plan_87 rfl 1 rfl (by omega) rfl ?_
        refine V.topI (y := nI p) (by rw [upd_n (by omega), upd_n (by omega), upd_n (by omega)]; exact hp) ?_
        refine V.iconst (pc' := 89) C dX7_plan_88 rfl kci_1 ?_
        refine V.iaddN (pc' := 90) C p 1 dX7_plan_89 rfl ?_
        refine V.iast (pc' := 91) C 66 [mO h ad i, (ad 0, .inl (M.G.2 0, 402, .inl (upd (upd (upd (upd f (48 + 3 * p) x) (48 + 3 * p + 1) y) (48 + 3 * p + 2) n) 66 (nI (p + 1)))))] dX7_plan_90 rfl 1 rfl (by omega) rfl (nI (p + 1)) rfl rfl ?_
        refine V.aload_n (pc' := 92) C 1 dX7_plan_91 rfl rfl ?_
        refine V.get (pc' := 95) C dX7_plan_92 rfl 0 rfl rfl in_X7 0 rfl q929 rfl ?_
        refine V.bipush (pc' := 97) C dX7_plan_95 rfl kcb_66 ?_
        refine V.iald (pc' := 98) C 66 dX7_plan_97 rfl 1 rfl (by omega) rfl ?_
        refine V.topI (y := nI (p + 1)) (upd_s _ _ _) ?_
        exact V.iret C T dX7_plan_98 () rfl rfl (Eq.trans (by rw [if_neg h3]) (if_pos ⟨h1, h2⟩).symm) rfl trivial (by unfold g_plan; rw [if_pos ⟨h1, h2⟩, if_neg h3]) rfl rfl
      · refine V.bipush (pc' := 37) C dX7_plan_35 rfl kcb_m3 ?_
        exact V.iret C T dX7_plan_37 () rfl rfl (Eq.trans (by rw [if_pos h3]) (if_pos ⟨h1, h2⟩).symm) rfl trivial (by unfold g_plan; rw [if_pos ⟨h1, h2⟩, if_pos h3]) rfl rfl
    · refine V.iconst (pc' := 22) C dX7_plan_21 rfl kci_m1 ?_
      exact V.iret C T dX7_plan_22 () rfl rfl (if_neg (fun z => h2 z.2)).symm rfl trivial (by unfold g_plan; rw [if_neg (fun z => h2 z.2)]) rfl rfl
set_option maxHeartbeats 4000000 in
theorem ct_X7_mostOf (l : Launch) (G : GG) (h : Nat) (ad : Nat → Nat) (i : Nat → Int32) (f : Nat → Int32) (a : Nat) (b : Nat) (ha : a < 5) (hb : b < 5) : Ct l G yX7_mostOf (ws_ yX7_mostOf cX7_mostOf 5 (some .int)) ({ frames := 3, cells := 0, slots := 0, locals := 70 } : Room) [.ref h, .int (nI a), .int (nI b)] [mO h ad i, (ad 0, .inl (G.2 0, 402, .inl f))] (fun _ : Unit => some (.int (mostTo f a b 9))) (fun _ => True) (fun _ => [mO h ad i, (ad 0, .inl (G.2 0, 402, .inl f))]) := by
  refine Ct.of rfl rfl ?_
  intro M el eG hnL C T
  subst el
  subst eG
  have C : Cx M cX7_mostOf "ClockWardModel" ({ frames := 3, cells := 0, slots := 0, locals := 70 } : Room) := C
  refine V.lvs [0, 1, 2] (lv2 := [(0, .ref h), (1, .int (nI a)), (2, .int (nI b))]) rfl ?_
  refine V.iconst (pc' := 1) C dX7_mostOf_0 rfl kci_0 ?_
  refine V.istore_n (pc' := 2) C [(3, .int 0), (0, .ref h), (1, .int (nI a)), (2, .int (nI b))] dX7_mostOf_1 rfl 5 hnL rfl rfl ?_
  refine V.iconst (pc' := 3) C dX7_mostOf_2 rfl kci_1 ?_
  refine V.istore (pc' := 5) C [(4, .int 1), (3, .int 0), (0, .ref h), (1, .int (nI a)), (2, .int (nI b))] dX7_mostOf_3 rfl 5 hnL rfl rfl ?_
  have L1 : ∀ k : Nat, k ≤ 9 → V M 0 0 [mO h ad i, (ad 0, .inl (M.G.2 0, 402, .inl f))] [(0, .ref h), (1, .int (nI a)), (2, .int (nI b)), (3, .int (mostTo f a b k)), (4, .int (nI (k + 1)))] [] 5 := by
    refine loopN _ 9 (fun k hk ih_L1 => ?_)
    refine V.iload (pc' := 7) C 4 dX7_mostOf_5 rfl rfl ?_
    refine V.bipush (pc' := 9) C dX7_mostOf_7 rfl kcb_9 ?_
    refine V.icmp_gtN (pc' := 12) C (k + 1) 9 (by omega) (by omega) 37 dX7_mostOf_9 rfl rfl (fun h2 => ?_) (fun h2 => ?_)
    · have hx3 : 9 = k := by omega
      subst hx3
      refine V.iload_n (pc' := 38) C 3 dX7_mostOf_37 rfl rfl ?_
      exact V.iret C T dX7_mostOf_38 () rfl rfl rfl rfl trivial rfl rfl rfl
    · refine V.aload_n (pc' := 13) C 0 dX7_mostOf_12 rfl rfl ?_
      refine V.iconst (pc' := 14) C dX7_mostOf_13 rfl kci_0 ?_
      refine V.iload_n (pc' := 15) C 1 dX7_mostOf_14 rfl rfl ?_
      refine V.iload_n (pc' := 16) C 2 dX7_mostOf_15 rfl rfl ?_
      refine V.iload (pc' := 18) C 4 dX7_mostOf_16 rfl rfl ?_
      refine V.callV (pc' := 21) (wr := []) C (ct_X7_mayBe M.l M.G h ad i f 0 a b (nI (k + 1)) (by omega) (by omega) (by omega)) dX7_mostOf_18 rfl (lw_V q1156 q1158 qs48 q71 q1159) hyv_X7_mayBe rfl rfl 0 rfl rfl [0, 1] [] [0, 1] rfl rfl rfl (fun _ => [mO h ad i, (ad 0, .inl (M.G.2 0, 402, .inl f))]) (fun _ => rfl) rfl 0 0 rfl rfl (fun _ => [.int (bI (may2 f (pg f 0) a b (nI (k + 1))))]) (fun _ => rfl) (fun _ _ => ?_)
      refine V.topI (y := bI (may2 f f a b (nI (k + 1)))) (bI_iff (by rw [pg_0])) ?_
      have J6 : ∀ (x5 : Int32), x5 = (if may2 f f a b (nI (k + 1)) then nI (k + 1) else mostTo f a b k) → V M 0 0 [mO h ad i, (ad 0, .inl (M.G.2 0, 402, .inl f))] [(0, .ref h), (1, .int (nI a)), (2, .int (nI b)), (3, .int (mostTo f a b k)), (4, .int (nI (k + 1)))] [.int x5] 30 := by
        intro x5 ex5
        subst ex5
        refine V.istore_n (pc' := 31) C [(3, .int (if may2 f f a b (nI (k + 1)) then nI (k + 1) else mostTo f a b k)), (0, .ref h), (1, .int (nI a)), (2, .int (nI b)), (4, .int (nI (k + 1)))] dX7_mostOf_30 rfl 5 hnL rfl rfl ?_
        refine V.iinc (pc' := 34) C (nI (k + 1 + 1)) [(4, .int (nI (k + 1 + 1))), (3, .int (if may2 f f a b (nI (k + 1)) then nI (k + 1) else mostTo f a b k)), (0, .ref h), (1, .int (nI a)), (2, .int (nI b))] dX7_mostOf_31 rfl 5 hnL rfl 4 rfl (ii_N (k + 1) 1 rfl) rfl ?_
        refine V.goto C 5 dX7_mostOf_34 rfl ?_
        refine V.lvs [2, 3, 4, 1, 0] (lv2 := [(0, .ref h), (1, .int (nI a)), (2, .int (nI b)), (3, .int (mostTo f a b (k + 1))), (4, .int (nI ((k + 1) + 1)))]) rfl ?_
        exact ih_L1 (by omega)
      refine V.if_eqB (pc' := 24) C 29 dX7_mostOf_21 rfl rfl (fun h4 => ?_) (fun h4 => ?_)
      · refine V.iload_n (pc' := 30) C 3 dX7_mostOf_29 rfl rfl ?_
        exact J6 _ (by rw [if_neg h4])
      · refine V.iload (pc' := 26) C 4 dX7_mostOf_24 rfl rfl ?_
        refine V.goto C 30 dX7_mostOf_26 rfl ?_
        exact J6 _ (by rw [if_pos h4])
  refine V.lvs [2, 3, 4, 1, 0] (lv2 := [(0, .ref h), (1, .int (nI a)), (2, .int (nI b)), (3, .int (mostTo f a b 0)), (4, .int (nI (0 + 1)))]) rfl ?_
  exact L1 0 (by omega)
set_option maxHeartbeats 4000000 in
theorem ct_X7_most (l : Launch) (G : GG) (h : Nat) (ad : Nat → Nat) (i : Nat → Int32) (f : Nat → Int32) (N : Nat) (x : Int32) (y : Int32) (hN : i 1 = nI N) (hN5 : N ≤ 5) : Ct l G yX7_most (ws_ yX7_most cX7_most 3 (some .int)) ({ frames := 4, cells := 0, slots := 0, locals := 94 } : Room) [.ref h, .int x, .int y] [mO h ad i, (ad 0, .inl (G.2 0, 402, .inl f))] (fun _ : Unit => some (.int (a_most f N x y))) (fun _ => True) (fun _ => [mO h ad i, (ad 0, .inl (G.2 0, 402, .inl f))]) := by
  refine Ct.of rfl rfl ?_
  intro M el eG hnL C T
  subst el
  subst eG
  have C : Cx M cX7_most "ClockWardModel" ({ frames := 4, cells := 0, slots := 0, locals := 94 } : Room) := C
  refine V.lvs [0, 1, 2] (lv2 := [(0, .ref h), (1, .int x), (2, .int y)]) rfl ?_
  refine V.aload_n (pc' := 1) C 0 dX7_most_0 rfl rfl ?_
  refine V.iload_n (pc' := 2) C 1 dX7_most_1 rfl rfl ?_
  refine V.iload_n (pc' := 3) C 2 dX7_most_2 rfl rfl ?_
  refine V.callV (pc' := 6) (wr := [(ad 0, .inl (M.G.2 0, 402, .inl f))]) C (ct_X7_areTwo M.l M.G h ad i N x y hN hN5) dX7_most_3 rfl (lw_V q1116 q1118 qs45 q71 q1119) hyv_X7_areTwo rfl rfl 0 rfl rfl [0] [1] [1, 0] rfl rfl rfl (fun _ => [mO h ad i, (ad 0, .inl (M.G.2 0, 402, .inl f))]) (fun _ => rfl) rfl 0 0 rfl rfl (fun _ => [.int (bI (isTwo N x y))]) (fun _ => rfl) (fun _ _ => ?_)
  refine V.if_eqB (pc' := 9) C 18 dX7_most_6 rfl rfl (fun h1 => ?_) (fun h1 => ?_)
  · refine V.iconst (pc' := 19) C dX7_most_18 rfl kci_m1 ?_
    exact V.iret C T dX7_most_19 () rfl rfl (if_neg (fun z => h1 z)).symm rfl trivial rfl rfl rfl
  · obtain ⟨a, ha, rfl⟩ := isC_nat hN5 h1.1
    obtain ⟨b, hb, rfl⟩ := isC_nat hN5 h1.2.1
    refine V.aload_n (pc' := 10) C 0 dX7_most_9 rfl rfl ?_
    refine V.iload_n (pc' := 11) C 1 dX7_most_10 rfl rfl ?_
    refine V.iload_n (pc' := 12) C 2 dX7_most_11 rfl rfl ?_
    refine V.callV (pc' := 15) (wr := []) C (ct_X7_mostOf M.l M.G h ad i f a b (by omega) (by omega)) dX7_most_12 rfl (lw_V q1152 q1154 qs47 q71 q1155) hyv_X7_mostOf rfl rfl 0 rfl rfl [0, 1] [] [0, 1] rfl rfl rfl (fun _ => [mO h ad i, (ad 0, .inl (M.G.2 0, 402, .inl f))]) (fun _ => rfl) rfl 0 0 rfl rfl (fun _ => [.int (mostTo f a b 9)]) (fun _ => rfl) (fun _ _ => ?_)
    refine V.goto C 19 dX7_most_15 rfl ?_
    exact V.iret C T dX7_most_19 () rfl rfl (Eq.trans (by rw [cn_nI (by omega), cn_nI (by omega)]) (if_pos h1).symm) rfl trivial rfl rfl rfl
set_option maxHeartbeats 4000000 in
theorem ct_X7_gives (l : Launch) (G : GG) (h : Nat) (ad : Nat → Nat) (i : Nat → Int32) (f : Nat → Int32) (N : Nat) (x : Int32) (y : Int32) (n : Int32) (hN : i 1 = nI N) (hN5 : N ≤ 5) : Ct l G yX7_gives (ws_ yX7_gives cX7_gives 4 (some .int)) ({ frames := 3, cells := 0, slots := 0, locals := 70 } : Room) [.ref h, .int x, .int y, .int n] [mO h ad i, (ad 0, .inl (G.2 0, 402, .inl f))] (fun _ : Unit => some (.int (a_give f N x y n))) (fun _ => True) (fun _ => [mO h ad i, (ad 0, .inl (G.2 0, 402, .inl (g_give f N x y n)))]) := by
  refine Ct.of rfl rfl ?_
  intro M el eG hnL C T
  subst el
  subst eG
  have C : Cx M cX7_gives "ClockWardModel" ({ frames := 3, cells := 0, slots := 0, locals := 70 } : Room) := C
  refine V.lvs [0, 1, 2, 3] (lv2 := [(0, .ref h), (1, .int x), (2, .int y), (3, .int n)]) rfl ?_
  refine V.aload_n (pc' := 1) C 0 dX7_gives_0 rfl rfl ?_
  refine V.iload_n (pc' := 2) C 1 dX7_gives_1 rfl rfl ?_
  refine V.iload_n (pc' := 3) C 2 dX7_gives_2 rfl rfl ?_
  refine V.callV (pc' := 6) (wr := [(ad 0, .inl (M.G.2 0, 402, .inl f))]) C (ct_X7_areTwo M.l M.G h ad i N x y hN hN5) dX7_gives_3 rfl (lw_V q1116 q1118 qs45 q71 q1119) hyv_X7_areTwo rfl rfl 0 rfl rfl [0] [1] [1, 0] rfl rfl rfl (fun _ => [mO h ad i, (ad 0, .inl (M.G.2 0, 402, .inl f))]) (fun _ => rfl) rfl 0 0 rfl rfl (fun _ => [.int (bI (isTwo N x y))]) (fun _ => rfl) (fun _ _ => ?_)
  refine V.if_eqB (pc' := 9) C 21 dX7_gives_6 rfl rfl (fun h1 => ?_) (fun h1 => ?_)
  · refine V.iconst (pc' := 22) C dX7_gives_21 rfl kci_m1 ?_
    exact V.iret C T dX7_gives_22 () rfl rfl (by unfold a_give; rw [if_neg (fun z => h1 z.1)]) rfl trivial (by unfold g_give; rw [if_neg (fun z => h1 z.1)]) rfl rfl
  · obtain ⟨a, ha, rfl⟩ := isC_nat hN5 h1.1
    obtain ⟨b, hb, rfl⟩ := isC_nat hN5 h1.2.1
    refine V.iload_n (pc' := 10) C 3 dX7_gives_9 rfl rfl ?_
    refine V.i2l (pc' := 11) C dX7_gives_10 rfl ?_
    refine V.lconst (pc' := 12) C dX7_gives_11 rfl kcl_1 ?_
    refine V.ldc2 (pc' := 15) C dX7_gives_12 rfl q1143 ?_
    refine V.callS (pc' := 18) (wr := [mO h ad i, (ad 0, .inl (M.G.2 0, 402, .inl f))]) C (ct_X7_in M.l M.G n 1 9 ) dX7_gives_15 rfl (lw_S q1032 q1033 q71 q1034) hys_X7_in rfl rfl [] [0, 1] [0, 1] rfl rfl rfl (fun _ => [mO h ad i, (ad 0, .inl (M.G.2 0, 402, .inl f))]) (fun _ => rfl) rfl 0 0 rfl rfl (fun _ => [.int (bI (inI n 1 9))]) (fun _ => rfl) (fun _ _ => ?_)
    refine V.if_neB (pc' := 21) C 23 dX7_gives_18 rfl rfl (fun h2 => ?_) (fun h2 => ?_)
    · refine V.aload_n (pc' := 24) C 0 dX7_gives_23 rfl rfl ?_
      refine V.iconst (pc' := 25) C dX7_gives_24 rfl kci_0 ?_
      refine V.iload_n (pc' := 26) C 1 dX7_gives_25 rfl rfl ?_
      refine V.iload_n (pc' := 27) C 2 dX7_gives_26 rfl rfl ?_
      refine V.iload_n (pc' := 28) C 3 dX7_gives_27 rfl rfl ?_
      refine V.callV (pc' := 31) (wr := []) C (ct_X7_mayBe M.l M.G h ad i f 0 a b n (by omega) (by omega) (by omega)) dX7_gives_28 rfl (lw_V q1156 q1158 qs48 q71 q1159) hyv_X7_mayBe rfl rfl 0 rfl rfl [0, 1] [] [0, 1] rfl rfl rfl (fun _ => [mO h ad i, (ad 0, .inl (M.G.2 0, 402, .inl f))]) (fun _ => rfl) rfl 0 0 rfl rfl (fun _ => [.int (bI (may2 f (pg f 0) a b n))]) (fun _ => rfl) (fun _ _ => ?_)
      refine V.topI (y := bI (may2 f f a b n)) (bI_iff (by rw [pg_0])) ?_
      refine V.if_neB (pc' := 34) C 37 dX7_gives_31 rfl rfl (fun h3 => ?_) (fun h3 => ?_)
      · refine V.aload_n (pc' := 38) C 0 dX7_gives_37 rfl rfl ?_
        refine V.iconst (pc' := 39) C dX7_gives_38 rfl kci_0 ?_
        refine V.iload_n (pc' := 40) C 1 dX7_gives_39 rfl rfl ?_
        refine V.iload_n (pc' := 41) C 2 dX7_gives_40 rfl rfl ?_
        refine V.iload_n (pc' := 42) C 3 dX7_gives_41 rfl rfl ?_
        refine V.callV (pc' := 45) (wr := []) C (ct_X7_givesOn M.l M.G h ad i f 0 a b n (by omega) (by omega) (by omega)) dX7_gives_42 rfl (lw_V q1176 q1178 qs52 q71 q1179) hyv_X7_givesOn rfl rfl 0 rfl rfl [0, 1] [] [0, 1] rfl rfl rfl (fun _ => [mO h ad i, (ad 0, .inl (M.G.2 0, 402, .inl (pp f 0 (give2 f (pg f 0) a b n))))]) (fun _ => rfl) rfl 0 0 rfl rfl (fun _ => []) (fun _ => rfl) (fun _ _ => ?_)
        refine V.weq (ws2 := [mO h ad i, (ad 0, .inl (M.G.2 0, 402, .inl (give2 f f a b n)))]) (by rw [pp_0, pg_0]) ?_
        refine V.aload_n (pc' := 46) C 0 dX7_gives_45 rfl rfl ?_
        refine V.get (pc' := 49) C dX7_gives_46 rfl 0 rfl rfl in_X7 0 rfl q929 rfl ?_
        refine V.bipush (pc' := 51) C dX7_gives_49 rfl kcb_15 ?_
        refine V.iload_n (pc' := 52) C 2 dX7_gives_51 rfl rfl ?_
        refine V.iaddN (pc' := 53) C 15 b dX7_gives_52 rfl ?_
        refine V.iald (pc' := 54) C (15 + b) dX7_gives_53 rfl 1 rfl (by omega) rfl ?_
        exact V.iret C T dX7_gives_54 () rfl rfl (by unfold a_give; rw [if_pos ⟨h1, h2⟩, cn_nI (by omega), cn_nI (by omega), if_pos h3]) rfl trivial (by unfold g_give; rw [if_pos ⟨h1, h2⟩, cn_nI (by omega), cn_nI (by omega), if_pos h3]) rfl rfl
      · refine V.bipush (pc' := 36) C dX7_gives_34 rfl kcb_m2 ?_
        exact V.iret C T dX7_gives_36 () rfl rfl (by unfold a_give; rw [if_pos ⟨h1, h2⟩, cn_nI (by omega), cn_nI (by omega), if_neg h3]) rfl trivial (by unfold g_give; rw [if_pos ⟨h1, h2⟩, cn_nI (by omega), cn_nI (by omega), if_neg h3]) rfl rfl
    · refine V.iconst (pc' := 22) C dX7_gives_21 rfl kci_m1 ?_
      exact V.iret C T dX7_gives_22 () rfl rfl (by unfold a_give; rw [if_neg (fun z => h2 z.2)]) rfl trivial (by unfold g_give; rw [if_neg (fun z => h2 z.2)]) rfl rfl
set_option maxHeartbeats 4000000 in
theorem ct_X7_give (l : Launch) (G : GG) (h : Nat) (ad : Nat → Nat) (i : Nat → Int32) (f : Nat → Int32) (N : Nat) (x : Int32) (y : Int32) (n : Int32) (hN : i 1 = nI N) (hN5 : N ≤ 5) : Ct l G yX7_give (ws_ yX7_give cX7_give 4 (some .int)) ({ frames := 4, cells := 0, slots := 0, locals := 93 } : Room) [.ref h, .int x, .int y, .int n] [mO h ad i, (ad 0, .inl (G.2 0, 402, .inl f))] (fun _ : Unit => some (.int (a_give f N x y n))) (fun _ => True) (fun _ => [mO h ad i, (ad 0, .inl (G.2 0, 402, .inl (g_give f N x y n)))]) := by
  refine Ct.of rfl rfl ?_
  intro M el eG hnL C T
  subst el
  subst eG
  have C : Cx M cX7_give "ClockWardModel" ({ frames := 4, cells := 0, slots := 0, locals := 93 } : Room) := C
  refine V.lvs [0, 1, 2, 3] (lv2 := [(0, .ref h), (1, .int x), (2, .int y), (3, .int n)]) rfl ?_
  refine V.aload_n (pc' := 1) C 0 dX7_give_0 rfl rfl ?_
  refine V.iload_n (pc' := 2) C 1 dX7_give_1 rfl rfl ?_
  refine V.iload_n (pc' := 3) C 2 dX7_give_2 rfl rfl ?_
  refine V.iload_n (pc' := 4) C 3 dX7_give_3 rfl rfl ?_
  refine V.callV (pc' := 7) (wr := []) C (ct_X7_gives M.l M.G h ad i f N x y n hN hN5) dX7_give_4 rfl (lw_V q1172 q1174 qs51 q71 q1175) hyv_X7_gives rfl rfl 0 rfl rfl [0, 1] [] [0, 1] rfl rfl rfl (fun _ => [mO h ad i, (ad 0, .inl (M.G.2 0, 402, .inl (g_give f N x y n)))]) (fun _ => rfl) rfl 0 0 rfl rfl (fun _ => [.int (a_give f N x y n)]) (fun _ => rfl) (fun _ _ => ?_)
  exact V.iret C T dX7_give_7 () rfl rfl rfl rfl trivial rfl rfl rfl
set_option maxHeartbeats 4000000 in
theorem ct_X7_nights (l : Launch) (G : GG) (h : Nat) (ad : Nat → Nat) (i : Nat → Int32) (f : Nat → Int32) (N : Nat) (x : Int32) (hN : i 1 = nI N) (hN5 : N ≤ 5) : Ct l G yX7_nights (ws_ yX7_nights cX7_nights 3 (some .int)) ({ frames := 3, cells := 0, slots := 0, locals := 67 } : Room) [.ref h, .int x] [mO h ad i, (ad 0, .inl (G.2 0, 402, .inl f))] (fun _ : Unit => some (.int (a_nights f N x))) (fun _ => True) (fun _ => [mO h ad i, (ad 0, .inl (G.2 0, 402, .inl (g_nights f N x)))]) := by
  refine Ct.of rfl rfl ?_
  intro M el eG hnL C T
  subst el
  subst eG
  have C : Cx M cX7_nights "ClockWardModel" ({ frames := 3, cells := 0, slots := 0, locals := 67 } : Room) := C
  refine V.lvs [0, 1] (lv2 := [(0, .ref h), (1, .int x)]) rfl ?_
  refine V.iload_n (pc' := 1) C 1 dX7_nights_0 rfl rfl ?_
  refine V.i2l (pc' := 2) C dX7_nights_1 rfl ?_
  refine V.lconst (pc' := 3) C dX7_nights_2 rfl kcl_0 ?_
  refine V.ldc2 (pc' := 6) C dX7_nights_3 rfl q1184 ?_
  refine V.callS (pc' := 9) (wr := [mO h ad i, (ad 0, .inl (M.G.2 0, 402, .inl f))]) C (ct_X7_in M.l M.G x 0 30 ) dX7_nights_6 rfl (lw_S q1032 q1033 q71 q1034) hys_X7_in rfl rfl [] [0, 1] [0, 1] rfl rfl rfl (fun _ => [mO h ad i, (ad 0, .inl (M.G.2 0, 402, .inl f))]) (fun _ => rfl) rfl 0 0 rfl rfl (fun _ => [.int (bI (inI x 0 30))]) (fun _ => rfl) (fun _ _ => ?_)
  refine V.if_neB (pc' := 12) C 14 dX7_nights_9 rfl rfl (fun h1 => ?_) (fun h1 => ?_)
  · obtain ⟨m, hm, rfl⟩ := in_nat (m := 30) (by decide) h1
    refine V.aload_n (pc' := 15) C 0 dX7_nights_14 rfl rfl ?_
    refine V.get (pc' := 18) C dX7_nights_15 rfl 0 rfl rfl in_X7 0 rfl q929 rfl ?_
    refine V.bipush (pc' := 20) C dX7_nights_18 rfl kcb_21 ?_
    refine V.iald (pc' := 21) C 21 dX7_nights_20 rfl 1 rfl (by omega) rfl ?_
    refine V.iload_n (pc' := 22) C 1 dX7_nights_21 rfl rfl ?_
    refine V.iadd (pc' := 23) C dX7_nights_22 rfl ?_
    refine V.sipush (pc' := 26) C dX7_nights_23 rfl kcs_999 ?_
    refine V.icmp_le (pc' := 29) C 32 dX7_nights_26 rfl rfl (fun h2 => ?_) (fun h2 => ?_)
    · refine V.iconst (pc' := 33) C dX7_nights_32 rfl kci_0 ?_
      refine V.istore_n (pc' := 34) C [(2, .int 0), (0, .ref h), (1, .int (nI m))] dX7_nights_33 rfl 3 hnL rfl rfl ?_
      have L3 : ∀ k : Nat, k ≤ m → V M 0 0 [mO h ad i, (ad 0, .inl (M.G.2 0, 402, .inl (nightsTo f N k)))] [(0, .ref h), (1, .int (nI m)), (2, .int (nI k))] [] 34 := by
        refine loopN _ m (fun k hk ih_L3 => ?_)
        refine V.iload_n (pc' := 35) C 2 dX7_nights_34 rfl rfl ?_
        refine V.iload_n (pc' := 36) C 1 dX7_nights_35 rfl rfl ?_
        refine V.icmp_geN (pc' := 39) C k m (by omega) (by omega) 50 dX7_nights_36 rfl rfl (fun h4 => ?_) (fun h4 => ?_)
        · have hx5 : m = k := by omega
          subst hx5
          refine V.aload_n (pc' := 51) C 0 dX7_nights_50 rfl rfl ?_
          refine V.iconst (pc' := 52) C dX7_nights_51 rfl kci_0 ?_
          refine V.callV (pc' := 55) (wr := []) C (ct_X7_rightOn M.l M.G h ad i (nightsTo f N m) N 0 hN hN5 (by omega)) dX7_nights_52 rfl (lw_V q1092 q1094 qs42 q71 q1095) hyv_X7_rightOn rfl rfl 0 rfl rfl [0, 1] [] [0, 1] rfl rfl rfl (fun _ => [mO h ad i, (ad 0, .inl (M.G.2 0, 402, .inl (nightsTo f N m)))]) (fun _ => rfl) rfl 0 0 rfl rfl (fun _ => [.int (rightTo (pg (nightsTo f N m) 0) N)]) (fun _ => rfl) (fun _ _ => ?_)
          refine V.topI (y := rightTo (nightsTo f N m) N) (by rw [pg_0]) ?_
          exact V.iret C T dX7_nights_55 () rfl rfl (by unfold a_nights; rw [if_pos h1, if_pos h2, cn_nI (by omega)]) rfl trivial (by unfold g_nights; rw [if_pos h1, if_pos h2, cn_nI (by omega)]) rfl rfl
        · refine V.aload_n (pc' := 40) C 0 dX7_nights_39 rfl rfl ?_
          refine V.iconst (pc' := 41) C dX7_nights_40 rfl kci_0 ?_
          refine V.callV (pc' := 44) (wr := []) C (ct_X7_nightOn M.l M.G h ad i (nightsTo f N k) N 0 hN hN5 (by omega)) dX7_nights_41 rfl (lw_V q1185 q1187 qs53 q71 q1188) hyv_X7_nightOn rfl rfl 0 rfl rfl [0, 1] [] [0, 1] rfl rfl rfl (fun _ => [mO h ad i, (ad 0, .inl (M.G.2 0, 402, .inl (pp (nightsTo f N k) 0 (night (pg (nightsTo f N k) 0) N))))]) (fun _ => rfl) rfl 0 0 rfl rfl (fun _ => []) (fun _ => rfl) (fun _ _ => ?_)
          refine V.weq (ws2 := [mO h ad i, (ad 0, .inl (M.G.2 0, 402, .inl (night (nightsTo f N k) N)))]) (by rw [pp_0, pg_0]) ?_
          refine V.iinc (pc' := 47) C (nI (k + 1)) [(2, .int (nI (k + 1))), (0, .ref h), (1, .int (nI m))] dX7_nights_44 rfl 3 hnL rfl 2 rfl (ii_N k 1 rfl) rfl ?_
          refine V.goto C 34 dX7_nights_47 rfl ?_
          refine V.lvs [1, 2, 0] (lv2 := [(0, .ref h), (1, .int (nI m)), (2, .int (nI (k + 1)))]) rfl ?_
          refine V.weq (ws2 := [mO h ad i, (ad 0, .inl (M.G.2 0, 402, .inl (nightsTo f N (k + 1))))]) rfl ?_
          exact ih_L3 (by omega)
      refine V.lvs [1, 2, 0] (lv2 := [(0, .ref h), (1, .int (nI m)), (2, .int (nI 0))]) rfl ?_
      refine V.weq (ws2 := [mO h ad i, (ad 0, .inl (M.G.2 0, 402, .inl (nightsTo f N 0)))]) rfl ?_
      exact L3 0 (by omega)
    · refine V.bipush (pc' := 31) C dX7_nights_29 rfl kcb_m3 ?_
      exact V.iret C T dX7_nights_31 () rfl rfl (by unfold a_nights; rw [if_pos h1, if_neg h2]) rfl trivial (by unfold g_nights; rw [if_pos h1, if_neg h2]) rfl rfl
  · refine V.iconst (pc' := 13) C dX7_nights_12 rfl kci_m1 ?_
    exact V.iret C T dX7_nights_13 () rfl rfl (by unfold a_nights; rw [if_neg h1]) rfl trivial (by unfold g_nights; rw [if_neg h1]) rfl rfl
