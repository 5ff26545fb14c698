set_option maxRecDepth 100000
set_option maxHeartbeats 4000000 in
theorem ct_X0_takenXN0 (l : Launch) (G : GG) (ad : Nat → Nat) (i : Nat → Int32) (j : Nat → Int64) (k : Nat) (p : Int32) (htr : l.stackTraces = false) (hk : k < 4) : CtX l G yX0_takenOf (ws_ yX0_takenOf cX0_takenOf 5 (some .int)) ({ frames := 8, cells := 3, slots := 1010, locals := 10300 } : Room) [.ref (ad 0), .int (nI k), .int 0, .int p] [xO ad i j, (ad 32, .inl (G.2 6, 4, .inr (.inr (.inr (.inr (fun q => some (ad (33 + q)))))))), (ad (33 + k), .inr (6, [.null]))] (fun u : Nat => some (.int 0)) (fun u : Nat => some (u, "java/lang/NullPointerException")) (fun _ => True) (fun u => [xO ad i j, (ad 32, .inl (G.2 6, 4, .inr (.inr (.inr (.inr (fun q => some (ad (33 + q)))))))), (ad (33 + k), .inr (6, [.null]))]) := by
  refine CtX.of rfl rfl ?_
  intro M el eG hnL C E T
  subst el
  subst eG
  have C : Cx M cX0_takenOf "ClockWard" ({ frames := 8, cells := 3, slots := 1010, locals := 10300 } : Room) := C
  refine V.lvs [0, 1, 2, 3] (lv2 := [(0, .ref (ad 0)), (1, .int (nI k)), (2, .int 0), (3, .int p)]) rfl ?_
  refine V.aload_n (pc' := 1) C 0 dX0_takenOf_0 rfl rfl ?_
  refine V.get (pc' := 4) C dX0_takenOf_1 rfl 0 rfl rfl in_X0 22 rfl q205 rfl ?_
  refine V.iload_n (pc' := 5) C 1 dX0_takenOf_4 rfl rfl ?_
  refine V.aald (pc' := 6) C k dX0_takenOf_5 rfl 1 6 rfl rfl (by omega) rfl rfl ?_
  refine V.getN (pc' := 9) C dX0_takenOf_6 rfl 2 rfl rfl in_X6 0 rfl q178 rfl ?_
  refine V.astoreN (pc' := 11) C [(4, .null), (0, .ref (ad 0)), (1, .int (nI k)), (2, .int 0), (3, .int p)] dX0_takenOf_9 rfl 5 hnL rfl rfl ?_
  refine V.iload_n (pc' := 12) C 3 dX0_takenOf_11 rfl rfl ?_
  refine V.if_ne (pc' := 15) C 25 dX0_takenOf_12 rfl rfl (fun h1 => absurd h1 (by decide)) (fun _ => ?_)
  refine V.aloadN (pc' := 17) C 0 dX0_takenOf_15 rfl rfl ?_
  refine V.castNull (pc' := 20) C dX0_takenOf_17 rfl q888 ?_
  refine V.iload_n (pc' := 21) C 4 dX0_takenOf_20 rfl rfl ?_
  refine V.baldNull C dX0_takenOf_21 ?_
  refine VN.npe C htr rfl rfl rfl rfl (fun xa2 => ?_)
  exact VT.out C E T xa2 rfl trivial rfl rfl rfl
set_option maxHeartbeats 4000000 in
theorem ct_X0_takenXN1 (l : Launch) (G : GG) (ad : Nat → Nat) (i : Nat → Int32) (j : Nat → Int64) (k : Nat) (p : Int32) (htr : l.stackTraces = false) (hk : k < 4) : CtX l G yX0_takenOf (ws_ yX0_takenOf cX0_takenOf 5 (some .int)) ({ frames := 8, cells := 3, slots := 1010, locals := 10300 } : Room) [.ref (ad 0), .int (nI k), .int 1, .int p] [xO ad i j, (ad 32, .inl (G.2 6, 4, .inr (.inr (.inr (.inr (fun q => some (ad (33 + q)))))))), (ad (33 + k), .inr (6, [.null]))] (fun u : Nat => some (.int 0)) (fun u : Nat => some (u, "java/lang/NullPointerException")) (fun _ => True) (fun u => [xO ad i j, (ad 32, .inl (G.2 6, 4, .inr (.inr (.inr (.inr (fun q => some (ad (33 + q)))))))), (ad (33 + k), .inr (6, [.null]))]) := by
  refine CtX.of rfl rfl ?_
  intro M el eG hnL C E T
  subst el
  subst eG
  have C : Cx M cX0_takenOf "ClockWard" ({ frames := 8, cells := 3, slots := 1010, locals := 10300 } : Room) := C
  refine V.lvs [0, 1, 2, 3] (lv2 := [(0, .ref (ad 0)), (1, .int (nI k)), (2, .int 1), (3, .int p)]) rfl ?_
  refine V.aload_n (pc' := 1) C 0 dX0_takenOf_0 rfl rfl ?_
  refine V.get (pc' := 4) C dX0_takenOf_1 rfl 0 rfl rfl in_X0 22 rfl q205 rfl ?_
  refine V.iload_n (pc' := 5) C 1 dX0_takenOf_4 rfl rfl ?_
  refine V.aald (pc' := 6) C k dX0_takenOf_5 rfl 1 6 rfl rfl (by omega) rfl rfl ?_
  refine V.getN (pc' := 9) C dX0_takenOf_6 rfl 2 rfl rfl in_X6 0 rfl q178 rfl ?_
  refine V.astoreN (pc' := 11) C [(4, .null), (0, .ref (ad 0)), (1, .int (nI k)), (2, .int 1), (3, .int p)] dX0_takenOf_9 rfl 5 hnL rfl rfl ?_
  refine V.iload_n (pc' := 12) C 3 dX0_takenOf_11 rfl rfl ?_
  refine V.if_ne (pc' := 15) C 25 dX0_takenOf_12 rfl rfl (fun _ => ?_) (fun h1 => absurd h1 (by decide))
  refine V.iload_n (pc' := 26) C 3 dX0_takenOf_25 rfl rfl ?_
  refine V.iconst (pc' := 27) C dX0_takenOf_26 rfl kci_1 ?_
  refine V.icmp_neN (pc' := 30) C 1 1 (by omega) (by omega) 40 dX0_takenOf_27 rfl rfl (fun h2 => absurd h2 (by decide)) (fun _ => ?_)
  refine V.aloadN (pc' := 32) C 0 dX0_takenOf_30 rfl rfl ?_
  refine V.castNull (pc' := 35) C dX0_takenOf_32 rfl q889 ?_
  refine V.iload_n (pc' := 36) C 4 dX0_takenOf_35 rfl rfl ?_
  refine V.saldNull C dX0_takenOf_36 ?_
  refine VN.npe C htr rfl rfl rfl rfl (fun xa3 => ?_)
  exact VT.out C E T xa3 rfl trivial rfl rfl rfl
set_option maxHeartbeats 4000000 in
theorem ct_X0_takenXN2 (l : Launch) (G : GG) (ad : Nat → Nat) (i : Nat → Int32) (j : Nat → Int64) (k : Nat) (p : Int32) (htr : l.stackTraces = false) (hk : k < 4) : CtX l G yX0_takenOf (ws_ yX0_takenOf cX0_takenOf 5 (some .int)) ({ frames := 8, cells := 3, slots := 1010, locals := 10300 } : Room) [.ref (ad 0), .int (nI k), .int 2, .int p] [xO ad i j, (ad 32, .inl (G.2 6, 4, .inr (.inr (.inr (.inr (fun q => some (ad (33 + q)))))))), (ad (33 + k), .inr (6, [.null]))] (fun u : Nat => some (.int 0)) (fun u : Nat => some (u, "java/lang/NullPointerException")) (fun _ => True) (fun u => [xO ad i j, (ad 32, .inl (G.2 6, 4, .inr (.inr (.inr (.inr (fun q => some (ad (33 + q)))))))), (ad (33 + k), .inr (6, [.null]))]) := by
  refine CtX.of rfl rfl ?_
  intro M el eG hnL C E T
  subst el
  subst eG
  have C : Cx M cX0_takenOf "ClockWard" ({ frames := 8, cells := 3, slots := 1010, locals := 10300 } : Room) := C
  refine V.lvs [0, 1, 2, 3] (lv2 := [(0, .ref (ad 0)), (1, .int (nI k)), (2, .int 2), (3, .int p)]) rfl ?_
  refine V.aload_n (pc' := 1) C 0 dX0_takenOf_0 rfl rfl ?_
  refine V.get (pc' := 4) C dX0_takenOf_1 rfl 0 rfl rfl in_X0 22 rfl q205 rfl ?_
  refine V.iload_n (pc' := 5) C 1 dX0_takenOf_4 rfl rfl ?_
  refine V.aald (pc' := 6) C k dX0_takenOf_5 rfl 1 6 rfl rfl (by omega) rfl rfl ?_
  refine V.getN (pc' := 9) C dX0_takenOf_6 rfl 2 rfl rfl in_X6 0 rfl q178 rfl ?_
  refine V.astoreN (pc' := 11) C [(4, .null), (0, .ref (ad 0)), (1, .int (nI k)), (2, .int 2), (3, .int p)] dX0_takenOf_9 rfl 5 hnL rfl rfl ?_
  refine V.iload_n (pc' := 12) C 3 dX0_takenOf_11 rfl rfl ?_
  refine V.if_ne (pc' := 15) C 25 dX0_takenOf_12 rfl rfl (fun _ => ?_) (fun h1 => absurd h1 (by decide))
  refine V.iload_n (pc' := 26) C 3 dX0_takenOf_25 rfl rfl ?_
  refine V.iconst (pc' := 27) C dX0_takenOf_26 rfl kci_1 ?_
  refine V.icmp_neN (pc' := 30) C 2 1 (by omega) (by omega) 40 dX0_takenOf_27 rfl rfl (fun _ => ?_) (fun h2 => absurd h2 (by decide))
  refine V.aloadN (pc' := 42) C 0 dX0_takenOf_40 rfl rfl ?_
  refine V.castNull (pc' := 45) C dX0_takenOf_42 rfl q890 ?_
  refine V.iload_n (pc' := 46) C 4 dX0_takenOf_45 rfl rfl ?_
  refine V.ialdNull C dX0_takenOf_46 ?_
  refine VN.npe C htr rfl rfl rfl rfl (fun xa3 => ?_)
  exact VT.out C E T xa3 rfl trivial rfl rfl rfl
set_option maxHeartbeats 4000000 in
theorem ct_X0_takenB0 (l : Launch) (G : GG) (ad : Nat → Nat) (i : Nat → Int32) (j : Nat → Int64) (k : Nat) (a : Nat) (n : Nat) (f : Nat → Int32) (p : Int32) (hk : k < 4) (hn : n ≤ 40) (hin : ¬ (p < 0 ∨ n ≤ p.toNatClampNeg)) : Ct l G yX0_takenOf (ws_ yX0_takenOf cX0_takenOf 5 (some .int)) ({ frames := 0, cells := 0, slots := 0, locals := 0 } : Room) [.ref (ad 0), .int (nI k), .int 0, .int p] [xO ad i j, (ad 32, .inl (G.2 6, 4, .inr (.inr (.inr (.inr (fun q => some (ad (33 + q)))))))), (ad (33 + k), .inr (6, [.ref a])), (a, .inl (G.2 1, n, .inl f))] (fun _ : Unit => some (.int (f p.toNatClampNeg))) (fun _ => True) (fun _ => [xO ad i j, (ad 32, .inl (G.2 6, 4, .inr (.inr (.inr (.inr (fun q => some (ad (33 + q)))))))), (ad (33 + k), .inr (6, [.ref a])), (a, .inl (G.2 1, n, .inl f))]) := by
  refine Ct.of rfl rfl ?_
  intro M el eG hnL C T
  subst el
  subst eG
  have C : Cx M cX0_takenOf "ClockWard" ({ frames := 0, cells := 0, slots := 0, locals := 0 } : Room) := C
  refine V.lvs [0, 1, 2, 3] (lv2 := [(0, .ref (ad 0)), (1, .int (nI k)), (2, .int 0), (3, .int p)]) rfl ?_
  refine V.aload_n (pc' := 1) C 0 dX0_takenOf_0 rfl rfl ?_
  refine V.get (pc' := 4) C dX0_takenOf_1 rfl 0 rfl rfl in_X0 22 rfl q205 rfl ?_
  refine V.iload_n (pc' := 5) C 1 dX0_takenOf_4 rfl rfl ?_
  refine V.aald (pc' := 6) C k dX0_takenOf_5 rfl 1 6 rfl rfl (by omega) rfl rfl ?_
  refine V.getN (pc' := 9) C dX0_takenOf_6 rfl 2 rfl rfl in_X6 0 rfl q178 rfl ?_
  refine V.astore (pc' := 11) C [(4, .ref a), (0, .ref (ad 0)), (1, .int (nI k)), (2, .int 0), (3, .int p)] dX0_takenOf_9 rfl 5 hnL rfl rfl ?_
  refine V.iload_n (pc' := 12) C 3 dX0_takenOf_11 rfl rfl ?_
  refine V.if_ne (pc' := 15) C 25 dX0_takenOf_12 rfl rfl (fun h1 => absurd h1 (by decide)) (fun _ => ?_)
  refine V.aload (pc' := 17) C 0 dX0_takenOf_15 rfl rfl ?_
  refine V.castYes (pc' := 20) C dX0_takenOf_17 rfl 3 1 rfl rfl (fun U z => va_nm_byte z) q888 ?_
  refine V.iload_n (pc' := 21) C 4 dX0_takenOf_20 rfl rfl ?_
  have hj2 : p.toNatClampNeg < n := Nat.not_le.mp (fun z => hin (Or.inr z))
  refine V.steq (st2 := [.int (nI p.toNatClampNeg), .ref a]) (by rw [cl_nI hn hin]) ?_
  refine V.bald (pc' := 22) C p.toNatClampNeg dX0_takenOf_21 rfl 3 rfl (by omega) (ble40 hn) ?_
  refine V.goto C 47 dX0_takenOf_22 rfl ?_
  exact V.iret C T dX0_takenOf_47 () rfl rfl rfl rfl trivial rfl rfl rfl
set_option maxHeartbeats 4000000 in
theorem ct_X0_takenXB0 (l : Launch) (G : GG) (ad : Nat → Nat) (i : Nat → Int32) (j : Nat → Int64) (k : Nat) (a : Nat) (n : Nat) (f : Nat → Int32) (p : Int32) (htr : l.stackTraces = false) (hk : k < 4) (hn : n ≤ 40) (hout : p < 0 ∨ n ≤ p.toNatClampNeg) : CtX l G yX0_takenOf (ws_ yX0_takenOf cX0_takenOf 5 (some .int)) ({ frames := 8, cells := 3, slots := 1010, locals := 10300 } : Room) [.ref (ad 0), .int (nI k), .int 0, .int p] [xO ad i j, (ad 32, .inl (G.2 6, 4, .inr (.inr (.inr (.inr (fun q => some (ad (33 + q)))))))), (ad (33 + k), .inr (6, [.ref a])), (a, .inl (G.2 1, n, .inl f))] (fun u : Nat => some (.int 0)) (fun u : Nat => some (u, "java/lang/ArrayIndexOutOfBoundsException")) (fun _ => True) (fun u => [xO ad i j, (ad 32, .inl (G.2 6, 4, .inr (.inr (.inr (.inr (fun q => some (ad (33 + q)))))))), (ad (33 + k), .inr (6, [.ref a])), (a, .inl (G.2 1, n, .inl f))]) := by
  refine CtX.of rfl rfl ?_
  intro M el eG hnL C E T
  subst el
  subst eG
  have C : Cx M cX0_takenOf "ClockWard" ({ frames := 8, cells := 3, slots := 1010, locals := 10300 } : Room) := C
  refine V.lvs [0, 1, 2, 3] (lv2 := [(0, .ref (ad 0)), (1, .int (nI k)), (2, .int 0), (3, .int p)]) rfl ?_
  refine V.aload_n (pc' := 1) C 0 dX0_takenOf_0 rfl rfl ?_
  refine V.get (pc' := 4) C dX0_takenOf_1 rfl 0 rfl rfl in_X0 22 rfl q205 rfl ?_
  refine V.iload_n (pc' := 5) C 1 dX0_takenOf_4 rfl rfl ?_
  refine V.aald (pc' := 6) C k dX0_takenOf_5 rfl 1 6 rfl rfl (by omega) rfl rfl ?_
  refine V.getN (pc' := 9) C dX0_takenOf_6 rfl 2 rfl rfl in_X6 0 rfl q178 rfl ?_
  refine V.astore (pc' := 11) C [(4, .ref a), (0, .ref (ad 0)), (1, .int (nI k)), (2, .int 0), (3, .int p)] dX0_takenOf_9 rfl 5 hnL rfl rfl ?_
  refine V.iload_n (pc' := 12) C 3 dX0_takenOf_11 rfl rfl ?_
  refine V.if_ne (pc' := 15) C 25 dX0_takenOf_12 rfl rfl (fun h1 => absurd h1 (by decide)) (fun _ => ?_)
  refine V.aload (pc' := 17) C 0 dX0_takenOf_15 rfl rfl ?_
  refine V.castYes (pc' := 20) C dX0_takenOf_17 rfl 3 1 rfl rfl (fun U z => va_nm_byte z) q888 ?_
  refine V.iload_n (pc' := 21) C 4 dX0_takenOf_20 rfl rfl ?_
  refine V.baldOut C dX0_takenOf_21 3 1 rfl rfl (fun z => z hout) ?_
  refine VN.idx C htr (by omega) rfl rfl rfl rfl (fun xa2 => ?_)
  exact VT.out C E T xa2 rfl trivial rfl rfl rfl
set_option maxHeartbeats 4000000 in
theorem ct_X0_takenXB1 (l : Launch) (G : GG) (ad : Nat → Nat) (i : Nat → Int32) (j : Nat → Int64) (k : Nat) (a : Nat) (n : Nat) (f : Nat → Int32) (p : Int32) (htr : l.stackTraces = false) (hk : k < 4) (hn : n ≤ 40) : CtX l G yX0_takenOf (ws_ yX0_takenOf cX0_takenOf 5 (some .int)) ({ frames := 8, cells := 3, slots := 1010, locals := 10300 } : Room) [.ref (ad 0), .int (nI k), .int 1, .int p] [xO ad i j, (ad 32, .inl (G.2 6, 4, .inr (.inr (.inr (.inr (fun q => some (ad (33 + q)))))))), (ad (33 + k), .inr (6, [.ref a])), (a, .inl (G.2 1, n, .inl f))] (fun u : Nat => some (.int 0)) (fun u : Nat => some (u, "java/lang/ClassCastException")) (fun _ => True) (fun u => [xO ad i j, (ad 32, .inl (G.2 6, 4, .inr (.inr (.inr (.inr (fun q => some (ad (33 + q)))))))), (ad (33 + k), .inr (6, [.ref a])), (a, .inl (G.2 1, n, .inl f))]) := by
  refine CtX.of rfl rfl ?_
  intro M el eG hnL C E T
  subst el
  subst eG
  have C : Cx M cX0_takenOf "ClockWard" ({ frames := 8, cells := 3, slots := 1010, locals := 10300 } : Room) := C
  refine V.lvs [0, 1, 2, 3] (lv2 := [(0, .ref (ad 0)), (1, .int (nI k)), (2, .int 1), (3, .int p)]) rfl ?_
  refine V.aload_n (pc' := 1) C 0 dX0_takenOf_0 rfl rfl ?_
  refine V.get (pc' := 4) C dX0_takenOf_1 rfl 0 rfl rfl in_X0 22 rfl q205 rfl ?_
  refine V.iload_n (pc' := 5) C 1 dX0_takenOf_4 rfl rfl ?_
  refine V.aald (pc' := 6) C k dX0_takenOf_5 rfl 1 6 rfl rfl (by omega) rfl rfl ?_
  refine V.getN (pc' := 9) C dX0_takenOf_6 rfl 2 rfl rfl in_X6 0 rfl q178 rfl ?_
  refine V.astore (pc' := 11) C [(4, .ref a), (0, .ref (ad 0)), (1, .int (nI k)), (2, .int 1), (3, .int p)] dX0_takenOf_9 rfl 5 hnL rfl rfl ?_
  refine V.iload_n (pc' := 12) C 3 dX0_takenOf_11 rfl rfl ?_
  refine V.if_ne (pc' := 15) C 25 dX0_takenOf_12 rfl rfl (fun _ => ?_) (fun h1 => absurd h1 (by decide))
  refine V.iload_n (pc' := 26) C 3 dX0_takenOf_25 rfl rfl ?_
  refine V.iconst (pc' := 27) C dX0_takenOf_26 rfl kci_1 ?_
  refine V.icmp_neN (pc' := 30) C 1 1 (by omega) (by omega) 40 dX0_takenOf_27 rfl rfl (fun h2 => absurd h2 (by decide)) (fun _ => ?_)
  refine V.aload (pc' := 32) C 0 dX0_takenOf_30 rfl rfl ?_
  refine V.castNo C htr dX0_takenOf_32 3 1 rfl rfl (fun U z => va_nm_byte z) q889 (by decide) (by decide) (by decide) rfl rfl rfl rfl (fun xa3 => ?_)
  exact VT.out C E T xa3 rfl trivial rfl rfl rfl
set_option maxHeartbeats 4000000 in
theorem ct_X0_takenXB2 (l : Launch) (G : GG) (ad : Nat → Nat) (i : Nat → Int32) (j : Nat → Int64) (k : Nat) (a : Nat) (n : Nat) (f : Nat → Int32) (p : Int32) (htr : l.stackTraces = false) (hk : k < 4) (hn : n ≤ 40) : CtX l G yX0_takenOf (ws_ yX0_takenOf cX0_takenOf 5 (some .int)) ({ frames := 8, cells := 3, slots := 1010, locals := 10300 } : Room) [.ref (ad 0), .int (nI k), .int 2, .int p] [xO ad i j, (ad 32, .inl (G.2 6, 4, .inr (.inr (.inr (.inr (fun q => some (ad (33 + q)))))))), (ad (33 + k), .inr (6, [.ref a])), (a, .inl (G.2 1, n, .inl f))] (fun u : Nat => some (.int 0)) (fun u : Nat => some (u, "java/lang/ClassCastException")) (fun _ => True) (fun u => [xO ad i j, (ad 32, .inl (G.2 6, 4, .inr (.inr (.inr (.inr (fun q => some (ad (33 + q)))))))), (ad (33 + k), .inr (6, [.ref a])), (a, .inl (G.2 1, n, .inl f))]) := by
  refine CtX.of rfl rfl ?_
  intro M el eG hnL C E T
  subst el
  subst eG
  have C : Cx M cX0_takenOf "ClockWard" ({ frames := 8, cells := 3, slots := 1010, locals := 10300 } : Room) := C
  refine V.lvs [0, 1, 2, 3] (lv2 := [(0, .ref (ad 0)), (1, .int (nI k)), (2, .int 2), (3, .int p)]) rfl ?_
  refine V.aload_n (pc' := 1) C 0 dX0_takenOf_0 rfl rfl ?_
  refine V.get (pc' := 4) C dX0_takenOf_1 rfl 0 rfl rfl in_X0 22 rfl q205 rfl ?_
  refine V.iload_n (pc' := 5) C 1 dX0_takenOf_4 rfl rfl ?_
  refine V.aald (pc' := 6) C k dX0_takenOf_5 rfl 1 6 rfl rfl (by omega) rfl rfl ?_
  refine V.getN (pc' := 9) C dX0_takenOf_6 rfl 2 rfl rfl in_X6 0 rfl q178 rfl ?_
  refine V.astore (pc' := 11) C [(4, .ref a), (0, .ref (ad 0)), (1, .int (nI k)), (2, .int 2), (3, .int p)] dX0_takenOf_9 rfl 5 hnL rfl rfl ?_
  refine V.iload_n (pc' := 12) C 3 dX0_takenOf_11 rfl rfl ?_
  refine V.if_ne (pc' := 15) C 25 dX0_takenOf_12 rfl rfl (fun _ => ?_) (fun h1 => absurd h1 (by decide))
  refine V.iload_n (pc' := 26) C 3 dX0_takenOf_25 rfl rfl ?_
  refine V.iconst (pc' := 27) C dX0_takenOf_26 rfl kci_1 ?_
  refine V.icmp_neN (pc' := 30) C 2 1 (by omega) (by omega) 40 dX0_takenOf_27 rfl rfl (fun _ => ?_) (fun h2 => absurd h2 (by decide))
  refine V.aload (pc' := 42) C 0 dX0_takenOf_40 rfl rfl ?_
  refine V.castNo C htr dX0_takenOf_42 3 1 rfl rfl (fun U z => va_nm_byte z) q890 (by decide) (by decide) (by decide) rfl rfl rfl rfl (fun xa3 => ?_)
  exact VT.out C E T xa3 rfl trivial rfl rfl rfl
set_option maxHeartbeats 4000000 in
theorem ct_X0_takenXS0 (l : Launch) (G : GG) (ad : Nat → Nat) (i : Nat → Int32) (j : Nat → Int64) (k : Nat) (a : Nat) (n : Nat) (f : Nat → Int32) (p : Int32) (htr : l.stackTraces = false) (hk : k < 4) (hn : n ≤ 40) : CtX l G yX0_takenOf (ws_ yX0_takenOf cX0_takenOf 5 (some .int)) ({ frames := 8, cells := 3, slots := 1010, locals := 10300 } : Room) [.ref (ad 0), .int (nI k), .int 0, .int p] [xO ad i j, (ad 32, .inl (G.2 6, 4, .inr (.inr (.inr (.inr (fun q => some (ad (33 + q)))))))), (ad (33 + k), .inr (6, [.ref a])), (a, .inl (G.2 2, n, .inl f))] (fun u : Nat => some (.int 0)) (fun u : Nat => some (u, "java/lang/ClassCastException")) (fun _ => True) (fun u => [xO ad i j, (ad 32, .inl (G.2 6, 4, .inr (.inr (.inr (.inr (fun q => some (ad (33 + q)))))))), (ad (33 + k), .inr (6, [.ref a])), (a, .inl (G.2 2, n, .inl f))]) := by
  refine CtX.of rfl rfl ?_
  intro M el eG hnL C E T
  subst el
  subst eG
  have C : Cx M cX0_takenOf "ClockWard" ({ frames := 8, cells := 3, slots := 1010, locals := 10300 } : Room) := C
  refine V.lvs [0, 1, 2, 3] (lv2 := [(0, .ref (ad 0)), (1, .int (nI k)), (2, .int 0), (3, .int p)]) rfl ?_
  refine V.aload_n (pc' := 1) C 0 dX0_takenOf_0 rfl rfl ?_
  refine V.get (pc' := 4) C dX0_takenOf_1 rfl 0 rfl rfl in_X0 22 rfl q205 rfl ?_
  refine V.iload_n (pc' := 5) C 1 dX0_takenOf_4 rfl rfl ?_
  refine V.aald (pc' := 6) C k dX0_takenOf_5 rfl 1 6 rfl rfl (by omega) rfl rfl ?_
  refine V.getN (pc' := 9) C dX0_takenOf_6 rfl 2 rfl rfl in_X6 0 rfl q178 rfl ?_
  refine V.astore (pc' := 11) C [(4, .ref a), (0, .ref (ad 0)), (1, .int (nI k)), (2, .int 0), (3, .int p)] dX0_takenOf_9 rfl 5 hnL rfl rfl ?_
  refine V.iload_n (pc' := 12) C 3 dX0_takenOf_11 rfl rfl ?_
  refine V.if_ne (pc' := 15) C 25 dX0_takenOf_12 rfl rfl (fun h1 => absurd h1 (by decide)) (fun _ => ?_)
  refine V.aload (pc' := 17) C 0 dX0_takenOf_15 rfl rfl ?_
  refine V.castNo C htr dX0_takenOf_17 3 2 rfl rfl (fun U z => va_nm_short z) q888 (by decide) (by decide) (by decide) rfl rfl rfl rfl (fun xa2 => ?_)
  exact VT.out C E T xa2 rfl trivial rfl rfl rfl
set_option maxHeartbeats 4000000 in
theorem ct_X0_takenS1 (l : Launch) (G : GG) (ad : Nat → Nat) (i : Nat → Int32) (j : Nat → Int64) (k : Nat) (a : Nat) (n : Nat) (f : Nat → Int32) (p : Int32) (hk : k < 4) (hn : n ≤ 40) (hin : ¬ (p < 0 ∨ n ≤ p.toNatClampNeg)) : Ct l G yX0_takenOf (ws_ yX0_takenOf cX0_takenOf 5 (some .int)) ({ frames := 0, cells := 0, slots := 0, locals := 0 } : Room) [.ref (ad 0), .int (nI k), .int 1, .int p] [xO ad i j, (ad 32, .inl (G.2 6, 4, .inr (.inr (.inr (.inr (fun q => some (ad (33 + q)))))))), (ad (33 + k), .inr (6, [.ref a])), (a, .inl (G.2 2, n, .inl f))] (fun _ : Unit => some (.int (f p.toNatClampNeg))) (fun _ => True) (fun _ => [xO ad i j, (ad 32, .inl (G.2 6, 4, .inr (.inr (.inr (.inr (fun q => some (ad (33 + q)))))))), (ad (33 + k), .inr (6, [.ref a])), (a, .inl (G.2 2, n, .inl f))]) := by
  refine Ct.of rfl rfl ?_
  intro M el eG hnL C T
  subst el
  subst eG
  have C : Cx M cX0_takenOf "ClockWard" ({ frames := 0, cells := 0, slots := 0, locals := 0 } : Room) := C
  refine V.lvs [0, 1, 2, 3] (lv2 := [(0, .ref (ad 0)), (1, .int (nI k)), (2, .int 1), (3, .int p)]) rfl ?_
  refine V.aload_n (pc' := 1) C 0 dX0_takenOf_0 rfl rfl ?_
  refine V.get (pc' := 4) C dX0_takenOf_1 rfl 0 rfl rfl in_X0 22 rfl q205 rfl ?_
  refine V.iload_n (pc' := 5) C 1 dX0_takenOf_4 rfl rfl ?_
  refine V.aald (pc' := 6) C k dX0_takenOf_5 rfl 1 6 rfl rfl (by omega) rfl rfl ?_
  refine V.getN (pc' := 9) C dX0_takenOf_6 rfl 2 rfl rfl in_X6 0 rfl q178 rfl ?_
  refine V.astore (pc' := 11) C [(4, .ref a), (0, .ref (ad 0)), (1, .int (nI k)), (2, .int 1), (3, .int p)] dX0_takenOf_9 rfl 5 hnL rfl rfl ?_
  refine V.iload_n (pc' := 12) C 3 dX0_takenOf_11 rfl rfl ?_
  refine V.if_ne (pc' := 15) C 25 dX0_takenOf_12 rfl rfl (fun _ => ?_) (fun h1 => absurd h1 (by decide))
  refine V.iload_n (pc' := 26) C 3 dX0_takenOf_25 rfl rfl ?_
  refine V.iconst (pc' := 27) C dX0_takenOf_26 rfl kci_1 ?_
  refine V.icmp_neN (pc' := 30) C 1 1 (by omega) (by omega) 40 dX0_takenOf_27 rfl rfl (fun h2 => absurd h2 (by decide)) (fun _ => ?_)
  refine V.aload (pc' := 32) C 0 dX0_takenOf_30 rfl rfl ?_
  refine V.castYes (pc' := 35) C dX0_takenOf_32 rfl 3 2 rfl rfl (fun U z => va_nm_short z) q889 ?_
  refine V.iload_n (pc' := 36) C 4 dX0_takenOf_35 rfl rfl ?_
  have hj3 : p.toNatClampNeg < n := Nat.not_le.mp (fun z => hin (Or.inr z))
  refine V.steq (st2 := [.int (nI p.toNatClampNeg), .ref a]) (by rw [cl_nI hn hin]) ?_
  refine V.sald (pc' := 37) C p.toNatClampNeg dX0_takenOf_36 rfl 3 rfl (by omega) (ble40 hn) ?_
  refine V.goto C 47 dX0_takenOf_37 rfl ?_
  exact V.iret C T dX0_takenOf_47 () rfl rfl rfl rfl trivial rfl rfl rfl
set_option maxHeartbeats 4000000 in
theorem ct_X0_takenXS1 (l : Launch) (G : GG) (ad : Nat → Nat) (i : Nat → Int32) (j : Nat → Int64) (k : Nat) (a : Nat) (n : Nat) (f : Nat → Int32) (p : Int32) (htr : l.stackTraces = false) (hk : k < 4) (hn : n ≤ 40) (hout : p < 0 ∨ n ≤ p.toNatClampNeg) : CtX l G yX0_takenOf (ws_ yX0_takenOf cX0_takenOf 5 (some .int)) ({ frames := 8, cells := 3, slots := 1010, locals := 10300 } : Room) [.ref (ad 0), .int (nI k), .int 1, .int p] [xO ad i j, (ad 32, .inl (G.2 6, 4, .inr (.inr (.inr (.inr (fun q => some (ad (33 + q)))))))), (ad (33 + k), .inr (6, [.ref a])), (a, .inl (G.2 2, n, .inl f))] (fun u : Nat => some (.int 0)) (fun u : Nat => some (u, "java/lang/ArrayIndexOutOfBoundsException")) (fun _ => True) (fun u => [xO ad i j, (ad 32, .inl (G.2 6, 4, .inr (.inr (.inr (.inr (fun q => some (ad (33 + q)))))))), (ad (33 + k), .inr (6, [.ref a])), (a, .inl (G.2 2, n, .inl f))]) := by
  refine CtX.of rfl rfl ?_
  intro M el eG hnL C E T
  subst el
  subst eG
  have C : Cx M cX0_takenOf "ClockWard" ({ frames := 8, cells := 3, slots := 1010, locals := 10300 } : Room) := C
  refine V.lvs [0, 1, 2, 3] (lv2 := [(0, .ref (ad 0)), (1, .int (nI k)), (2, .int 1), (3, .int p)]) rfl ?_
  refine V.aload_n (pc' := 1) C 0 dX0_takenOf_0 rfl rfl ?_
  refine V.get (pc' := 4) C dX0_takenOf_1 rfl 0 rfl rfl in_X0 22 rfl q205 rfl ?_
  refine V.iload_n (pc' := 5) C 1 dX0_takenOf_4 rfl rfl ?_
  refine V.aald (pc' := 6) C k dX0_takenOf_5 rfl 1 6 rfl rfl (by omega) rfl rfl ?_
  refine V.getN (pc' := 9) C dX0_takenOf_6 rfl 2 rfl rfl in_X6 0 rfl q178 rfl ?_
  refine V.astore (pc' := 11) C [(4, .ref a), (0, .ref (ad 0)), (1, .int (nI k)), (2, .int 1), (3, .int p)] dX0_takenOf_9 rfl 5 hnL rfl rfl ?_
  refine V.iload_n (pc' := 12) C 3 dX0_takenOf_11 rfl rfl ?_
  refine V.if_ne (pc' := 15) C 25 dX0_takenOf_12 rfl rfl (fun _ => ?_) (fun h1 => absurd h1 (by decide))
  refine V.iload_n (pc' := 26) C 3 dX0_takenOf_25 rfl rfl ?_
  refine V.iconst (pc' := 27) C dX0_takenOf_26 rfl kci_1 ?_
  refine V.icmp_neN (pc' := 30) C 1 1 (by omega) (by omega) 40 dX0_takenOf_27 rfl rfl (fun h2 => absurd h2 (by decide)) (fun _ => ?_)
  refine V.aload (pc' := 32) C 0 dX0_takenOf_30 rfl rfl ?_
  refine V.castYes (pc' := 35) C dX0_takenOf_32 rfl 3 2 rfl rfl (fun U z => va_nm_short z) q889 ?_
  refine V.iload_n (pc' := 36) C 4 dX0_takenOf_35 rfl rfl ?_
  refine V.saldOut C dX0_takenOf_36 3 2 rfl rfl (fun z => z hout) ?_
  refine VN.idx C htr (by omega) rfl rfl rfl rfl (fun xa3 => ?_)
  exact VT.out C E T xa3 rfl trivial rfl rfl rfl
set_option maxHeartbeats 4000000 in
theorem ct_X0_takenXS2 (l : Launch) (G : GG) (ad : Nat → Nat) (i : Nat → Int32) (j : Nat → Int64) (k : Nat) (a : Nat) (n : Nat) (f : Nat → Int32) (p : Int32) (htr : l.stackTraces = false) (hk : k < 4) (hn : n ≤ 40) : CtX l G yX0_takenOf (ws_ yX0_takenOf cX0_takenOf 5 (some .int)) ({ frames := 8, cells := 3, slots := 1010, locals := 10300 } : Room) [.ref (ad 0), .int (nI k), .int 2, .int p] [xO ad i j, (ad 32, .inl (G.2 6, 4, .inr (.inr (.inr (.inr (fun q => some (ad (33 + q)))))))), (ad (33 + k), .inr (6, [.ref a])), (a, .inl (G.2 2, n, .inl f))] (fun u : Nat => some (.int 0)) (fun u : Nat => some (u, "java/lang/ClassCastException")) (fun _ => True) (fun u => [xO ad i j, (ad 32, .inl (G.2 6, 4, .inr (.inr (.inr (.inr (fun q => some (ad (33 + q)))))))), (ad (33 + k), .inr (6, [.ref a])), (a, .inl (G.2 2, n, .inl f))]) := by
  refine CtX.of rfl rfl ?_
  intro M el eG hnL C E T
  subst el
  subst eG
  have C : Cx M cX0_takenOf "ClockWard" ({ frames := 8, cells := 3, slots := 1010, locals := 10300 } : Room) := C
  refine V.lvs [0, 1, 2, 3] (lv2 := [(0, .ref (ad 0)), (1, .int (nI k)), (2, .int 2), (3, .int p)]) rfl ?_
  refine V.aload_n (pc' := 1) C 0 dX0_takenOf_0 rfl rfl ?_
  refine V.get (pc' := 4) C dX0_takenOf_1 rfl 0 rfl rfl in_X0 22 rfl q205 rfl ?_
  refine V.iload_n (pc' := 5) C 1 dX0_takenOf_4 rfl rfl ?_
  refine V.aald (pc' := 6) C k dX0_takenOf_5 rfl 1 6 rfl rfl (by omega) rfl rfl ?_
  refine V.getN (pc' := 9) C dX0_takenOf_6 rfl 2 rfl rfl in_X6 0 rfl q178 rfl ?_
  refine V.astore (pc' := 11) C [(4, .ref a), (0, .ref (ad 0)), (1, .int (nI k)), (2, .int 2), (3, .int p)] dX0_takenOf_9 rfl 5 hnL rfl rfl ?_
  refine V.iload_n (pc' := 12) C 3 dX0_takenOf_11 rfl rfl ?_
  refine V.if_ne (pc' := 15) C 25 dX0_takenOf_12 rfl rfl (fun _ => ?_) (fun h1 => absurd h1 (by decide))
  refine V.iload_n (pc' := 26) C 3 dX0_takenOf_25 rfl rfl ?_
  refine V.iconst (pc' := 27) C dX0_takenOf_26 rfl kci_1 ?_
  refine V.icmp_neN (pc' := 30) C 2 1 (by omega) (by omega) 40 dX0_takenOf_27 rfl rfl (fun _ => ?_) (fun h2 => absurd h2 (by decide))
  refine V.aload (pc' := 42) C 0 dX0_takenOf_40 rfl rfl ?_
  refine V.castNo C htr dX0_takenOf_42 3 2 rfl rfl (fun U z => va_nm_short z) q890 (by decide) (by decide) (by decide) rfl rfl rfl rfl (fun xa3 => ?_)
  exact VT.out C E T xa3 rfl trivial rfl rfl rfl
set_option maxHeartbeats 4000000 in
theorem ct_X0_takenXI0 (l : Launch) (G : GG) (ad : Nat → Nat) (i : Nat → Int32) (j : Nat → Int64) (k : Nat) (a : Nat) (n : Nat) (f : Nat → Int32) (p : Int32) (htr : l.stackTraces = false) (hk : k < 4) (hn : n ≤ 40) : CtX l G yX0_takenOf (ws_ yX0_takenOf cX0_takenOf 5 (some .int)) ({ frames := 8, cells := 3, slots := 1010, locals := 10300 } : Room) [.ref (ad 0), .int (nI k), .int 0, .int p] [xO ad i j, (ad 32, .inl (G.2 6, 4, .inr (.inr (.inr (.inr (fun q => some (ad (33 + q)))))))), (ad (33 + k), .inr (6, [.ref a])), (a, .inl (G.2 0, n, .inl f))] (fun u : Nat => some (.int 0)) (fun u : Nat => some (u, "java/lang/ClassCastException")) (fun _ => True) (fun u => [xO ad i j, (ad 32, .inl (G.2 6, 4, .inr (.inr (.inr (.inr (fun q => some (ad (33 + q)))))))), (ad (33 + k), .inr (6, [.ref a])), (a, .inl (G.2 0, n, .inl f))]) := by
  refine CtX.of rfl rfl ?_
  intro M el eG hnL C E T
  subst el
  subst eG
  have C : Cx M cX0_takenOf "ClockWard" ({ frames := 8, cells := 3, slots := 1010, locals := 10300 } : Room) := C
  refine V.lvs [0, 1, 2, 3] (lv2 := [(0, .ref (ad 0)), (1, .int (nI k)), (2, .int 0), (3, .int p)]) rfl ?_
  refine V.aload_n (pc' := 1) C 0 dX0_takenOf_0 rfl rfl ?_
  refine V.get (pc' := 4) C dX0_takenOf_1 rfl 0 rfl rfl in_X0 22 rfl q205 rfl ?_
  refine V.iload_n (pc' := 5) C 1 dX0_takenOf_4 rfl rfl ?_
  refine V.aald (pc' := 6) C k dX0_takenOf_5 rfl 1 6 rfl rfl (by omega) rfl rfl ?_
  refine V.getN (pc' := 9) C dX0_takenOf_6 rfl 2 rfl rfl in_X6 0 rfl q178 rfl ?_
  refine V.astore (pc' := 11) C [(4, .ref a), (0, .ref (ad 0)), (1, .int (nI k)), (2, .int 0), (3, .int p)] dX0_takenOf_9 rfl 5 hnL rfl rfl ?_
  refine V.iload_n (pc' := 12) C 3 dX0_takenOf_11 rfl rfl ?_
  refine V.if_ne (pc' := 15) C 25 dX0_takenOf_12 rfl rfl (fun h1 => absurd h1 (by decide)) (fun _ => ?_)
  refine V.aload (pc' := 17) C 0 dX0_takenOf_15 rfl rfl ?_
  refine V.castNo C htr dX0_takenOf_17 3 0 rfl rfl (fun U z => va_nm_int z) q888 (by decide) (by decide) (by decide) rfl rfl rfl rfl (fun xa2 => ?_)
  exact VT.out C E T xa2 rfl trivial rfl rfl rfl
set_option maxHeartbeats 4000000 in
theorem ct_X0_takenXI1 (l : Launch) (G : GG) (ad : Nat → Nat) (i : Nat → Int32) (j : Nat → Int64) (k : Nat) (a : Nat) (n : Nat) (f : Nat → Int32) (p : Int32) (htr : l.stackTraces = false) (hk : k < 4) (hn : n ≤ 40) : CtX l G yX0_takenOf (ws_ yX0_takenOf cX0_takenOf 5 (some .int)) ({ frames := 8, cells := 3, slots := 1010, locals := 10300 } : Room) [.ref (ad 0), .int (nI k), .int 1, .int p] [xO ad i j, (ad 32, .inl (G.2 6, 4, .inr (.inr (.inr (.inr (fun q => some (ad (33 + q)))))))), (ad (33 + k), .inr (6, [.ref a])), (a, .inl (G.2 0, n, .inl f))] (fun u : Nat => some (.int 0)) (fun u : Nat => some (u, "java/lang/ClassCastException")) (fun _ => True) (fun u => [xO ad i j, (ad 32, .inl (G.2 6, 4, .inr (.inr (.inr (.inr (fun q => some (ad (33 + q)))))))), (ad (33 + k), .inr (6, [.ref a])), (a, .inl (G.2 0, n, .inl f))]) := by
  refine CtX.of rfl rfl ?_
  intro M el eG hnL C E T
  subst el
  subst eG
  have C : Cx M cX0_takenOf "ClockWard" ({ frames := 8, cells := 3, slots := 1010, locals := 10300 } : Room) := C
  refine V.lvs [0, 1, 2, 3] (lv2 := [(0, .ref (ad 0)), (1, .int (nI k)), (2, .int 1), (3, .int p)]) rfl ?_
  refine V.aload_n (pc' := 1) C 0 dX0_takenOf_0 rfl rfl ?_
  refine V.get (pc' := 4) C dX0_takenOf_1 rfl 0 rfl rfl in_X0 22 rfl q205 rfl ?_
  refine V.iload_n (pc' := 5) C 1 dX0_takenOf_4 rfl rfl ?_
  refine V.aald (pc' := 6) C k dX0_takenOf_5 rfl 1 6 rfl rfl (by omega) rfl rfl ?_
  refine V.getN (pc' := 9) C dX0_takenOf_6 rfl 2 rfl rfl in_X6 0 rfl q178 rfl ?_
  refine V.astore (pc' := 11) C [(4, .ref a), (0, .ref (ad 0)), (1, .int (nI k)), (2, .int 1), (3, .int p)] dX0_takenOf_9 rfl 5 hnL rfl rfl ?_
  refine V.iload_n (pc' := 12) C 3 dX0_takenOf_11 rfl rfl ?_
  refine V.if_ne (pc' := 15) C 25 dX0_takenOf_12 rfl rfl (fun _ => ?_) (fun h1 => absurd h1 (by decide))
  refine V.iload_n (pc' := 26) C 3 dX0_takenOf_25 rfl rfl ?_
  refine V.iconst (pc' := 27) C dX0_takenOf_26 rfl kci_1 ?_
  refine V.icmp_neN (pc' := 30) C 1 1 (by omega) (by omega) 40 dX0_takenOf_27 rfl rfl (fun h2 => absurd h2 (by decide)) (fun _ => ?_)
  refine V.aload (pc' := 32) C 0 dX0_takenOf_30 rfl rfl ?_
  refine V.castNo C htr dX0_takenOf_32 3 0 rfl rfl (fun U z => va_nm_int z) q889 (by decide) (by decide) (by decide) rfl rfl rfl rfl (fun xa3 => ?_)
  exact VT.out C E T xa3 rfl trivial rfl rfl rfl
set_option maxHeartbeats 4000000 in
theorem ct_X0_takenI2 (l : Launch) (G : GG) (ad : Nat → Nat) (i : Nat → Int32) (j : Nat → Int64) (k : Nat) (a : Nat) (n : Nat) (f : Nat → Int32) (p : Int32) (hk : k < 4) (hn : n ≤ 40) (hin : ¬ (p < 0 ∨ n ≤ p.toNatClampNeg)) : Ct l G yX0_takenOf (ws_ yX0_takenOf cX0_takenOf 5 (some .int)) ({ frames := 0, cells := 0, slots := 0, locals := 0 } : Room) [.ref (ad 0), .int (nI k), .int 2, .int p] [xO ad i j, (ad 32, .inl (G.2 6, 4, .inr (.inr (.inr (.inr (fun q => some (ad (33 + q)))))))), (ad (33 + k), .inr (6, [.ref a])), (a, .inl (G.2 0, n, .inl f))] (fun _ : Unit => some (.int (f p.toNatClampNeg))) (fun _ => True) (fun _ => [xO ad i j, (ad 32, .inl (G.2 6, 4, .inr (.inr (.inr (.inr (fun q => some (ad (33 + q)))))))), (ad (33 + k), .inr (6, [.ref a])), (a, .inl (G.2 0, n, .inl f))]) := by
  refine Ct.of rfl rfl ?_
  intro M el eG hnL C T
  subst el
  subst eG
  have C : Cx M cX0_takenOf "ClockWard" ({ frames := 0, cells := 0, slots := 0, locals := 0 } : Room) := C
  refine V.lvs [0, 1, 2, 3] (lv2 := [(0, .ref (ad 0)), (1, .int (nI k)), (2, .int 2), (3, .int p)]) rfl ?_
  refine V.aload_n (pc' := 1) C 0 dX0_takenOf_0 rfl rfl ?_
  refine V.get (pc' := 4) C dX0_takenOf_1 rfl 0 rfl rfl in_X0 22 rfl q205 rfl ?_
  refine V.iload_n (pc' := 5) C 1 dX0_takenOf_4 rfl rfl ?_
  refine V.aald (pc' := 6) C k dX0_takenOf_5 rfl 1 6 rfl rfl (by omega) rfl rfl ?_
  refine V.getN (pc' := 9) C dX0_takenOf_6 rfl 2 rfl rfl in_X6 0 rfl q178 rfl ?_
  refine V.astore (pc' := 11) C [(4, .ref a), (0, .ref (ad 0)), (1, .int (nI k)), (2, .int 2), (3, .int p)] dX0_takenOf_9 rfl 5 hnL rfl rfl ?_
  refine V.iload_n (pc' := 12) C 3 dX0_takenOf_11 rfl rfl ?_
  refine V.if_ne (pc' := 15) C 25 dX0_takenOf_12 rfl rfl (fun _ => ?_) (fun h1 => absurd h1 (by decide))
  refine V.iload_n (pc' := 26) C 3 dX0_takenOf_25 rfl rfl ?_
  refine V.iconst (pc' := 27) C dX0_takenOf_26 rfl kci_1 ?_
  refine V.icmp_neN (pc' := 30) C 2 1 (by omega) (by omega) 40 dX0_takenOf_27 rfl rfl (fun _ => ?_) (fun h2 => absurd h2 (by decide))
  refine V.aload (pc' := 42) C 0 dX0_takenOf_40 rfl rfl ?_
  refine V.castYes (pc' := 45) C dX0_takenOf_42 rfl 3 0 rfl rfl (fun U z => va_nm_int z) q890 ?_
  refine V.iload_n (pc' := 46) C 4 dX0_takenOf_45 rfl rfl ?_
  have hj3 : p.toNatClampNeg < n := Nat.not_le.mp (fun z => hin (Or.inr z))
  refine V.steq (st2 := [.int (nI p.toNatClampNeg), .ref a]) (by rw [cl_nI hn hin]) ?_
  refine V.iald (pc' := 47) C p.toNatClampNeg dX0_takenOf_46 rfl 3 rfl (by omega) (ble40 hn) ?_
  exact V.iret C T dX0_takenOf_47 () rfl rfl rfl rfl trivial rfl rfl rfl
set_option maxHeartbeats 4000000 in
theorem ct_X0_takenXI2 (l : Launch) (G : GG) (ad : Nat → Nat) (i : Nat → Int32) (j : Nat → Int64) (k : Nat) (a : Nat) (n : Nat) (f : Nat → Int32) (p : Int32) (htr : l.stackTraces = false) (hk : k < 4) (hn : n ≤ 40) (hout : p < 0 ∨ n ≤ p.toNatClampNeg) : CtX l G yX0_takenOf (ws_ yX0_takenOf cX0_takenOf 5 (some .int)) ({ frames := 8, cells := 3, slots := 1010, locals := 10300 } : Room) [.ref (ad 0), .int (nI k), .int 2, .int p] [xO ad i j, (ad 32, .inl (G.2 6, 4, .inr (.inr (.inr (.inr (fun q => some (ad (33 + q)))))))), (ad (33 + k), .inr (6, [.ref a])), (a, .inl (G.2 0, n, .inl f))] (fun u : Nat => some (.int 0)) (fun u : Nat => some (u, "java/lang/ArrayIndexOutOfBoundsException")) (fun _ => True) (fun u => [xO ad i j, (ad 32, .inl (G.2 6, 4, .inr (.inr (.inr (.inr (fun q => some (ad (33 + q)))))))), (ad (33 + k), .inr (6, [.ref a])), (a, .inl (G.2 0, n, .inl f))]) := by
  refine CtX.of rfl rfl ?_
  intro M el eG hnL C E T
  subst el
  subst eG
  have C : Cx M cX0_takenOf "ClockWard" ({ frames := 8, cells := 3, slots := 1010, locals := 10300 } : Room) := C
  refine V.lvs [0, 1, 2, 3] (lv2 := [(0, .ref (ad 0)), (1, .int (nI k)), (2, .int 2), (3, .int p)]) rfl ?_
  refine V.aload_n (pc' := 1) C 0 dX0_takenOf_0 rfl rfl ?_
  refine V.get (pc' := 4) C dX0_takenOf_1 rfl 0 rfl rfl in_X0 22 rfl q205 rfl ?_
  refine V.iload_n (pc' := 5) C 1 dX0_takenOf_4 rfl rfl ?_
  refine V.aald (pc' := 6) C k dX0_takenOf_5 rfl 1 6 rfl rfl (by omega) rfl rfl ?_
  refine V.getN (pc' := 9) C dX0_takenOf_6 rfl 2 rfl rfl in_X6 0 rfl q178 rfl ?_
  refine V.astore (pc' := 11) C [(4, .ref a), (0, .ref (ad 0)), (1, .int (nI k)), (2, .int 2), (3, .int p)] dX0_takenOf_9 rfl 5 hnL rfl rfl ?_
  refine V.iload_n (pc' := 12) C 3 dX0_takenOf_11 rfl rfl ?_
  refine V.if_ne (pc' := 15) C 25 dX0_takenOf_12 rfl rfl (fun _ => ?_) (fun h1 => absurd h1 (by decide))
  refine V.iload_n (pc' := 26) C 3 dX0_takenOf_25 rfl rfl ?_
  refine V.iconst (pc' := 27) C dX0_takenOf_26 rfl kci_1 ?_
  refine V.icmp_neN (pc' := 30) C 2 1 (by omega) (by omega) 40 dX0_takenOf_27 rfl rfl (fun _ => ?_) (fun h2 => absurd h2 (by decide))
  refine V.aload (pc' := 42) C 0 dX0_takenOf_40 rfl rfl ?_
  refine V.castYes (pc' := 45) C dX0_takenOf_42 rfl 3 0 rfl rfl (fun U z => va_nm_int z) q890 ?_
  refine V.iload_n (pc' := 46) C 4 dX0_takenOf_45 rfl rfl ?_
  refine V.ialdOut C dX0_takenOf_46 3 0 rfl rfl (fun z => z hout) ?_
  refine VN.idx C htr (by omega) rfl rfl rfl rfl (fun xa3 => ?_)
  exact VT.out C E T xa3 rfl trivial rfl rfl rfl
