set_option maxRecDepth 100000
set_option maxHeartbeats 4000000 in
theorem ct_J7_bitCount (l : Launch) (G : GG) (x : Int32)  : Ct l G yJ7_bitCount (ws_ yJ7_bitCount cJ7_bitCount 1 (some .int)) ({ frames := 0, cells := 0, slots := 0, locals := 0 } : Room) [.int x] [] (fun _ : Unit => some (.int (bitCnt x))) (fun _ => True) (fun _ => []) := by
  refine Ct.of rfl rfl ?_
  intro M el eG hnL C T
  subst el
  subst eG
  have C : Cx M cJ7_bitCount "java/lang/Integer" ({ frames := 0, cells := 0, slots := 0, locals := 0 } : Room) := C
  refine V.lvs [0] (lv2 := [(0, .int x)]) rfl ?_
  refine V.iload_n (pc' := 1) C 0 dJ7_bitCount_0 rfl rfl ?_
  refine V.iload_n (pc' := 2) C 0 dJ7_bitCount_1 rfl rfl ?_
  refine V.iconst (pc' := 3) C dJ7_bitCount_2 rfl kci_1 ?_
  refine V.iushr (pc' := 4) C dJ7_bitCount_3 rfl ?_
  refine V.ldcw (pc' := 7) C dJ7_bitCount_4 rfl q674 ?_
  refine V.iand (pc' := 8) C dJ7_bitCount_7 rfl ?_
  refine V.isub (pc' := 9) C dJ7_bitCount_8 rfl ?_
  refine V.istore_n (pc' := 10) C [(0, .int (x - (((x.toUInt32 >>> ((1 : Int32).toUInt32 &&& Int32.toUInt32 31)).toInt32) &&& 1431655765)))] dJ7_bitCount_9 rfl 1 hnL rfl rfl ?_
  refine V.iload_n (pc' := 11) C 0 dJ7_bitCount_10 rfl rfl ?_
  refine V.ldcw (pc' := 14) C dJ7_bitCount_11 rfl q675 ?_
  refine V.iand (pc' := 15) C dJ7_bitCount_14 rfl ?_
  refine V.iload_n (pc' := 16) C 0 dJ7_bitCount_15 rfl rfl ?_
  refine V.iconst (pc' := 17) C dJ7_bitCount_16 rfl kci_2 ?_
  refine V.iushr (pc' := 18) C dJ7_bitCount_17 rfl ?_
  refine V.ldcw (pc' := 21) C dJ7_bitCount_18 rfl q675 ?_
  refine V.iand (pc' := 22) C dJ7_bitCount_21 rfl ?_
  refine V.iadd (pc' := 23) C dJ7_bitCount_22 rfl ?_
  refine V.istore_n (pc' := 24) C [(0, .int (((x - (((x.toUInt32 >>> ((1 : Int32).toUInt32 &&& Int32.toUInt32 31)).toInt32) &&& 1431655765)) &&& 858993459) + ((((x - (((x.toUInt32 >>> ((1 : Int32).toUInt32 &&& Int32.toUInt32 31)).toInt32) &&& 1431655765)).toUInt32 >>> ((2 : Int32).toUInt32 &&& Int32.toUInt32 31)).toInt32) &&& 858993459)))] dJ7_bitCount_23 rfl 1 hnL rfl rfl ?_
  refine V.iload_n (pc' := 25) C 0 dJ7_bitCount_24 rfl rfl ?_
  refine V.iload_n (pc' := 26) C 0 dJ7_bitCount_25 rfl rfl ?_
  refine V.iconst (pc' := 27) C dJ7_bitCount_26 rfl kci_4 ?_
  refine V.iushr (pc' := 28) C dJ7_bitCount_27 rfl ?_
  refine V.iadd (pc' := 29) C dJ7_bitCount_28 rfl ?_
  refine V.ldcw (pc' := 32) C dJ7_bitCount_29 rfl q676 ?_
  refine V.iand (pc' := 33) C dJ7_bitCount_32 rfl ?_
  refine V.istore_n (pc' := 34) C [(0, .int (((((x - (((x.toUInt32 >>> ((1 : Int32).toUInt32 &&& Int32.toUInt32 31)).toInt32) &&& 1431655765)) &&& 858993459) + ((((x - (((x.toUInt32 >>> ((1 : Int32).toUInt32 &&& Int32.toUInt32 31)).toInt32) &&& 1431655765)).toUInt32 >>> ((2 : Int32).toUInt32 &&& Int32.toUInt32 31)).toInt32) &&& 858993459)) + (((((x - (((x.toUInt32 >>> ((1 : Int32).toUInt32 &&& Int32.toUInt32 31)).toInt32) &&& 1431655765)) &&& 858993459) + ((((x - (((x.toUInt32 >>> ((1 : Int32).toUInt32 &&& Int32.toUInt32 31)).toInt32) &&& 1431655765)).toUInt32 >>> ((2 : Int32).toUInt32 &&& Int32.toUInt32 31)).toInt32) &&& 858993459)).toUInt32 >>> ((4 : Int32).toUInt32 &&& Int32.toUInt32 31)).toInt32)) &&& 252645135))] dJ7_bitCount_33 rfl 1 hnL rfl rfl ?_
  refine V.iload_n (pc' := 35) C 0 dJ7_bitCount_34 rfl rfl ?_
  refine V.iload_n (pc' := 36) C 0 dJ7_bitCount_35 rfl rfl ?_
  refine V.bipush (pc' := 38) C dJ7_bitCount_36 rfl kcb_8 ?_
  refine V.iushr (pc' := 39) C dJ7_bitCount_38 rfl ?_
  refine V.iadd (pc' := 40) C dJ7_bitCount_39 rfl ?_
  refine V.istore_n (pc' := 41) C [(0, .int ((((((x - (((x.toUInt32 >>> ((1 : Int32).toUInt32 &&& Int32.toUInt32 31)).toInt32) &&& 1431655765)) &&& 858993459) + ((((x - (((x.toUInt32 >>> ((1 : Int32).toUInt32 &&& Int32.toUInt32 31)).toInt32) &&& 1431655765)).toUInt32 >>> ((2 : Int32).toUInt32 &&& Int32.toUInt32 31)).toInt32) &&& 858993459)) + (((((x - (((x.toUInt32 >>> ((1 : Int32).toUInt32 &&& Int32.toUInt32 31)).toInt32) &&& 1431655765)) &&& 858993459) + ((((x - (((x.toUInt32 >>> ((1 : Int32).toUInt32 &&& Int32.toUInt32 31)).toInt32) &&& 1431655765)).toUInt32 >>> ((2 : Int32).toUInt32 &&& Int32.toUInt32 31)).toInt32) &&& 858993459)).toUInt32 >>> ((4 : Int32).toUInt32 &&& Int32.toUInt32 31)).toInt32)) &&& 252645135) + (((((((x - (((x.toUInt32 >>> ((1 : Int32).toUInt32 &&& Int32.toUInt32 31)).toInt32) &&& 1431655765)) &&& 858993459) + ((((x - (((x.toUInt32 >>> ((1 : Int32).toUInt32 &&& Int32.toUInt32 31)).toInt32) &&& 1431655765)).toUInt32 >>> ((2 : Int32).toUInt32 &&& Int32.toUInt32 31)).toInt32) &&& 858993459)) + (((((x - (((x.toUInt32 >>> ((1 : Int32).toUInt32 &&& Int32.toUInt32 31)).toInt32) &&& 1431655765)) &&& 858993459) + ((((x - (((x.toUInt32 >>> ((1 : Int32).toUInt32 &&& Int32.toUInt32 31)).toInt32) &&& 1431655765)).toUInt32 >>> ((2 : Int32).toUInt32 &&& Int32.toUInt32 31)).toInt32) &&& 858993459)).toUInt32 >>> ((4 : Int32).toUInt32 &&& Int32.toUInt32 31)).toInt32)) &&& 252645135).toUInt32 >>> ((8 : Int32).toUInt32 &&& Int32.toUInt32 31)).toInt32)))] dJ7_bitCount_40 rfl 1 hnL rfl rfl ?_
  refine V.iload_n (pc' := 42) C 0 dJ7_bitCount_41 rfl rfl ?_
  refine V.iload_n (pc' := 43) C 0 dJ7_bitCount_42 rfl rfl ?_
  refine V.bipush (pc' := 45) C dJ7_bitCount_43 rfl kcb_16 ?_
  refine V.iushr (pc' := 46) C dJ7_bitCount_45 rfl ?_
  refine V.iadd (pc' := 47) C dJ7_bitCount_46 rfl ?_
  refine V.istore_n (pc' := 48) C [(0, .int (((((((x - (((x.toUInt32 >>> ((1 : Int32).toUInt32 &&& Int32.toUInt32 31)).toInt32) &&& 1431655765)) &&& 858993459) + ((((x - (((x.toUInt32 >>> ((1 : Int32).toUInt32 &&& Int32.toUInt32 31)).toInt32) &&& 1431655765)).toUInt32 >>> ((2 : Int32).toUInt32 &&& Int32.toUInt32 31)).toInt32) &&& 858993459)) + (((((x - (((x.toUInt32 >>> ((1 : Int32).toUInt32 &&& Int32.toUInt32 31)).toInt32) &&& 1431655765)) &&& 858993459) + ((((x - (((x.toUInt32 >>> ((1 : Int32).toUInt32 &&& Int32.toUInt32 31)).toInt32) &&& 1431655765)).toUInt32 >>> ((2 : Int32).toUInt32 &&& Int32.toUInt32 31)).toInt32) &&& 858993459)).toUInt32 >>> ((4 : Int32).toUInt32 &&& Int32.toUInt32 31)).toInt32)) &&& 252645135) + (((((((x - (((x.toUInt32 >>> ((1 : Int32).toUInt32 &&& Int32.toUInt32 31)).toInt32) &&& 1431655765)) &&& 858993459) + ((((x - (((x.toUInt32 >>> ((1 : Int32).toUInt32 &&& Int32.toUInt32 31)).toInt32) &&& 1431655765)).toUInt32 >>> ((2 : Int32).toUInt32 &&& Int32.toUInt32 31)).toInt32) &&& 858993459)) + (((((x - (((x.toUInt32 >>> ((1 : Int32).toUInt32 &&& Int32.toUInt32 31)).toInt32) &&& 1431655765)) &&& 858993459) + ((((x - (((x.toUInt32 >>> ((1 : Int32).toUInt32 &&& Int32.toUInt32 31)).toInt32) &&& 1431655765)).toUInt32 >>> ((2 : Int32).toUInt32 &&& Int32.toUInt32 31)).toInt32) &&& 858993459)).toUInt32 >>> ((4 : Int32).toUInt32 &&& Int32.toUInt32 31)).toInt32)) &&& 252645135).toUInt32 >>> ((8 : Int32).toUInt32 &&& Int32.toUInt32 31)).toInt32)) + ((((((((x - (((x.toUInt32 >>> ((1 : Int32).toUInt32 &&& Int32.toUInt32 31)).toInt32) &&& 1431655765)) &&& 858993459) + ((((x - (((x.toUInt32 >>> ((1 : Int32).toUInt32 &&& Int32.toUInt32 31)).toInt32) &&& 1431655765)).toUInt32 >>> ((2 : Int32).toUInt32 &&& Int32.toUInt32 31)).toInt32) &&& 858993459)) + (((((x - (((x.toUInt32 >>> ((1 : Int32).toUInt32 &&& Int32.toUInt32 31)).toInt32) &&& 1431655765)) &&& 858993459) + ((((x - (((x.toUInt32 >>> ((1 : Int32).toUInt32 &&& Int32.toUInt32 31)).toInt32) &&& 1431655765)).toUInt32 >>> ((2 : Int32).toUInt32 &&& Int32.toUInt32 31)).toInt32) &&& 858993459)).toUInt32 >>> ((4 : Int32).toUInt32 &&& Int32.toUInt32 31)).toInt32)) &&& 252645135) + (((((((x - (((x.toUInt32 >>> ((1 : Int32).toUInt32 &&& Int32.toUInt32 31)).toInt32) &&& 1431655765)) &&& 858993459) + ((((x - (((x.toUInt32 >>> ((1 : Int32).toUInt32 &&& Int32.toUInt32 31)).toInt32) &&& 1431655765)).toUInt32 >>> ((2 : Int32).toUInt32 &&& Int32.toUInt32 31)).toInt32) &&& 858993459)) + (((((x - (((x.toUInt32 >>> ((1 : Int32).toUInt32 &&& Int32.toUInt32 31)).toInt32) &&& 1431655765)) &&& 858993459) + ((((x - (((x.toUInt32 >>> ((1 : Int32).toUInt32 &&& Int32.toUInt32 31)).toInt32) &&& 1431655765)).toUInt32 >>> ((2 : Int32).toUInt32 &&& Int32.toUInt32 31)).toInt32) &&& 858993459)).toUInt32 >>> ((4 : Int32).toUInt32 &&& Int32.toUInt32 31)).toInt32)) &&& 252645135).toUInt32 >>> ((8 : Int32).toUInt32 &&& Int32.toUInt32 31)).toInt32)).toUInt32 >>> ((16 : Int32).toUInt32 &&& Int32.toUInt32 31)).toInt32)))] dJ7_bitCount_47 rfl 1 hnL rfl rfl ?_
  refine V.iload_n (pc' := 49) C 0 dJ7_bitCount_48 rfl rfl ?_
  refine V.bipush (pc' := 51) C dJ7_bitCount_49 rfl kcb_63 ?_
  refine V.iand (pc' := 52) C dJ7_bitCount_51 rfl ?_
  exact V.iret C T dJ7_bitCount_52 () rfl rfl rfl rfl trivial rfl rfl rfl
set_option maxHeartbeats 4000000 in
theorem ct_X1_gains (l : Launch) (G : GG) (b : Nat) (ci : Nat) (q : vw_C) (r : Int32) (hci : CL[ci]? = some q) : Ct l G yX1_gains (ws_ yX1_gains cX1_gains 2 (some .int)) ({ frames := 0, cells := 0, slots := 0, locals := 0 } : Room) [.ref b, .int r] [(b, .inr (ci, []))] (fun _ : Unit => some (.int (r - 3))) (fun _ => True) (fun _ => [(b, .inr (ci, []))]) := by
  refine Ct.of rfl rfl ?_
  intro M el eG hnL C T
  subst el
  subst eG
  have C : Cx M cX1_gains "ClockWard$Plain" ({ frames := 0, cells := 0, slots := 0, locals := 0 } : Room) := C
  refine V.lvs [0, 1] (lv2 := [(0, .ref b), (1, .int r)]) rfl ?_
  refine V.iload_n (pc' := 1) C 1 dX1_gains_0 rfl rfl ?_
  refine V.iconst (pc' := 2) C dX1_gains_1 rfl kci_3 ?_
  refine V.isub (pc' := 3) C dX1_gains_2 rfl ?_
  exact V.iret C T dX1_gains_3 () rfl rfl rfl rfl trivial rfl rfl rfl
set_option maxHeartbeats 4000000 in
theorem ct_X2_gains (l : Launch) (G : GG) (b : Nat) (ci : Nat) (q : vw_C) (r : Int32) (hci : CL[ci]? = some q) : Ct l G yX2_gains (ws_ yX2_gains cX2_gains 2 (some .int)) ({ frames := 1, cells := 0, slots := 0, locals := 21 } : Room) [.ref b, .int r] [(b, .inr (ci, []))] (fun _ : Unit => some (.int (2 * (r - 3)))) (fun _ => True) (fun _ => [(b, .inr (ci, []))]) := by
  refine Ct.of rfl rfl ?_
  intro M el eG hnL C T
  subst el
  subst eG
  have C : Cx M cX2_gains "ClockWard$Cuckoo" ({ frames := 1, cells := 0, slots := 0, locals := 21 } : Room) := C
  refine V.lvs [0, 1] (lv2 := [(0, .ref b), (1, .int r)]) rfl ?_
  refine V.iconst (pc' := 1) C dX2_gains_0 rfl kci_2 ?_
  refine V.aload_n (pc' := 2) C 0 dX2_gains_1 rfl rfl ?_
  refine V.iload_n (pc' := 3) C 1 dX2_gains_2 rfl rfl ?_
  refine V.callSU (pc' := 6) (wr := []) C (ct_X1_gains M.l M.G b ci q r hci) dX2_gains_3 rfl q556 q548 q111 q546 q65 q561 ⟨by decide, hys_X1_gains.2.2⟩ rfl rfl 0 rfl hci [0] [] [0] rfl rfl rfl (fun _ => [(b, .inr (ci, []))]) (fun _ => rfl) rfl 0 0 rfl rfl (fun _ => [.int (r - 3), .int 2]) (fun _ => rfl) (fun _ _ => ?_)
  refine V.imul (pc' := 7) C dX2_gains_6 rfl ?_
  exact V.iret C T dX2_gains_7 () rfl rfl rfl rfl trivial rfl rfl rfl
set_option maxHeartbeats 4000000 in
theorem ct_X3_gains (l : Launch) (G : GG) (b : Nat) (ci : Nat) (q : vw_C) (r : Int32) (hci : CL[ci]? = some q) : Ct l G yX3_gains (ws_ yX3_gains cX3_gains 2 (some .int)) ({ frames := 2, cells := 0, slots := 0, locals := 42 } : Room) [.ref b, .int r] [(b, .inr (ci, []))] (fun _ : Unit => some (.int (2 * (r - 3) - 1))) (fun _ => True) (fun _ => [(b, .inr (ci, []))]) := by
  refine Ct.of rfl rfl ?_
  intro M el eG hnL C T
  subst el
  subst eG
  have C : Cx M cX3_gains "ClockWard$Tower" ({ frames := 2, cells := 0, slots := 0, locals := 42 } : Room) := C
  refine V.lvs [0, 1] (lv2 := [(0, .ref b), (1, .int r)]) rfl ?_
  refine V.aload_n (pc' := 1) C 0 dX3_gains_0 rfl rfl ?_
  refine V.iload_n (pc' := 2) C 1 dX3_gains_1 rfl rfl ?_
  refine V.callSU (pc' := 5) (wr := []) C (ct_X2_gains M.l M.G b ci q r hci) dX3_gains_2 rfl q560 q1336 q118 q554 q66 q555 ⟨by decide, hys_X2_gains.2.2⟩ rfl rfl 0 rfl hci [0] [] [0] rfl rfl rfl (fun _ => [(b, .inr (ci, []))]) (fun _ => rfl) rfl 0 0 rfl rfl (fun _ => [.int (2 * (r - 3))]) (fun _ => rfl) (fun _ _ => ?_)
  refine V.iconst (pc' := 6) C dX3_gains_5 rfl kci_1 ?_
  refine V.isub (pc' := 7) C dX3_gains_6 rfl ?_
  exact V.iret C T dX3_gains_7 () rfl rfl rfl rfl trivial rfl rfl rfl
set_option maxHeartbeats 4000000 in
theorem ct_X4_gains (l : Launch) (G : GG) (b : Nat) (ci : Nat) (q : vw_C) (r : Int32) (hci : CL[ci]? = some q) : Ct l G yX4_gains (ws_ yX4_gains cX4_gains 2 (some .int)) ({ frames := 1, cells := 0, slots := 0, locals := 21 } : Room) [.ref b, .int r] [(b, .inr (ci, []))] (fun _ : Unit => some (.int (-(r - 3)))) (fun _ => True) (fun _ => [(b, .inr (ci, []))]) := by
  refine Ct.of rfl rfl ?_
  intro M el eG hnL C T
  subst el
  subst eG
  have C : Cx M cX4_gains "ClockWard$Back" ({ frames := 1, cells := 0, slots := 0, locals := 21 } : Room) := C
  refine V.lvs [0, 1] (lv2 := [(0, .ref b), (1, .int r)]) rfl ?_
  refine V.aload_n (pc' := 1) C 0 dX4_gains_0 rfl rfl ?_
  refine V.iload_n (pc' := 2) C 1 dX4_gains_1 rfl rfl ?_
  refine V.callSU (pc' := 5) (wr := []) C (ct_X1_gains M.l M.G b ci q r hci) dX4_gains_2 rfl q552 q548 q125 q546 q65 q561 ⟨by decide, hys_X1_gains.2.2⟩ rfl rfl 0 rfl hci [0] [] [0] rfl rfl rfl (fun _ => [(b, .inr (ci, []))]) (fun _ => rfl) rfl 0 0 rfl rfl (fun _ => [.int (r - 3)]) (fun _ => rfl) (fun _ _ => ?_)
  refine V.ineg (pc' := 6) C dX4_gains_5 rfl ?_
  exact V.iret C T dX4_gains_6 () rfl rfl rfl rfl trivial rfl rfl rfl
