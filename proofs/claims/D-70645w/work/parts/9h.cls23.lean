set_option maxRecDepth 100000
set_option maxHeartbeats 4000000 in
theorem ct_X0_layN (l : Launch) (G : GG) (ad : Nat → Nat) (i : Nat → Int32) (j : Nat → Int64) (k : Nat) (y : Int32) (v : Int32) (htr : l.stackTraces = false) (hk : k < 4) : Ct l G yX0_lay (wsW_ yX0_lay cX0_lay 6 (some .int) [(25, 74, 75, 326), (25, 74, 80, 328)]) ({ frames := 8, cells := 3, slots := 1010, locals := 10300 } : Room) [.ref (ad 0), .int (nI k), .int y, .int v] [xO ad i j, (ad 32, .inl (G.2 6, 4, .inr (.inr (.inr (.inr (fun q => some (ad (33 + q)))))))), (ad (33 + k), .inr (6, [.null]))] (fun _ : Unit => some (.int (-11))) (fun _ => True) (fun _ => [xO ad i j, (ad 32, .inl (G.2 6, 4, .inr (.inr (.inr (.inr (fun q => some (ad (33 + q)))))))), (ad (33 + k), .inr (6, [.null]))]) := by
  refine Ct.ofW rfl rfl ?_
  intro M el eG hnL C E T
  subst el
  subst eG
  have C : Cx M cX0_lay "ClockWard" ({ frames := 8, cells := 3, slots := 1010, locals := 10300 } : Room) := C
  refine V.lvs [0, 1, 2, 3] (lv2 := [(0, .ref (ad 0)), (1, .int (nI k)), (2, .int y), (3, .int v)]) rfl ?_
  refine V.iload_n (pc' := 1) C 1 dX0_lay_0 rfl rfl ?_
  refine V.i2l (pc' := 2) C dX0_lay_1 rfl ?_
  refine V.lconst (pc' := 3) C dX0_lay_2 rfl kcl_0 ?_
  refine V.ldc2 (pc' := 6) C dX0_lay_3 rfl q583 ?_
  refine V.callS (pc' := 9) (wr := [xO ad i j, (ad 32, .inl (M.G.2 6, 4, .inr (.inr (.inr (.inr (fun q => some (ad (33 + q)))))))), (ad (33 + k), .inr (6, [.null]))]) C (ct_X0_in M.l M.G (nI k) 0 3 ) dX0_lay_6 rfl (lw_S q261 q262 q64 q263) hys_X0_in rfl rfl [] [0, 1, 2] [0, 1, 2] rfl rfl rfl (fun _ => [xO ad i j, (ad 32, .inl (M.G.2 6, 4, .inr (.inr (.inr (.inr (fun q => some (ad (33 + q)))))))), (ad (33 + k), .inr (6, [.null]))]) (fun _ => rfl) rfl 0 0 rfl rfl (fun _ => [.int (bI (inI (nI k) 0 3))]) (fun _ => rfl) (fun _ _ => ?_)
  refine V.if_neB (pc' := 12) C 14 dX0_lay_9 rfl rfl (fun _ => ?_) (fun h1 => absurd h1 (fun z => z (in_k hk)))
  refine V.aload_n (pc' := 15) C 0 dX0_lay_14 rfl rfl ?_
  refine V.get (pc' := 18) C dX0_lay_15 rfl 0 rfl rfl in_X0 22 rfl q205 rfl ?_
  refine V.iload_n (pc' := 19) C 1 dX0_lay_18 rfl rfl ?_
  refine V.aald (pc' := 20) C k dX0_lay_19 rfl 1 6 rfl rfl (by omega) rfl rfl ?_
  refine V.getN (pc' := 23) C dX0_lay_20 rfl 2 rfl rfl in_X6 0 rfl q178 rfl ?_
  refine V.astoreN (pc' := 25) C [(4, .null), (0, .ref (ad 0)), (1, .int (nI k)), (2, .int y), (3, .int v)] dX0_lay_23 rfl 6 hnL rfl rfl ?_
  refine V.aloadN (pc' := 27) C 0 dX0_lay_25 rfl rfl ?_
  refine V.instNull (pc' := 30) C dX0_lay_27 rfl q888 ?_
  refine V.if_eq (pc' := 33) C 45 dX0_lay_30 rfl rfl (fun _ => ?_) (fun h2 => absurd h2 (by decide))
  refine V.aloadN (pc' := 47) C 0 dX0_lay_45 rfl rfl ?_
  refine V.instNull (pc' := 50) C dX0_lay_47 rfl q889 ?_
  refine V.if_eq (pc' := 53) C 65 dX0_lay_50 rfl rfl (fun _ => ?_) (fun h3 => absurd h3 (by decide))
  refine V.aloadN (pc' := 67) C 0 dX0_lay_65 rfl rfl ?_
  refine V.castNull (pc' := 70) C dX0_lay_67 rfl q890 ?_
  refine V.iload_n (pc' := 71) C 3 dX0_lay_70 rfl rfl ?_
  refine V.iload_n (pc' := 72) C 4 dX0_lay_71 rfl rfl ?_
  refine V.iastNull C dX0_lay_72 ?_
  refine VN.npe C htr rfl rfl rfl rfl (fun xa4 => ?_)
  refine VT.catch_ C E (Or.inr ⟨rfl, by decide, Or.inr ⟨_, q844, q866, rfl⟩⟩) ?_
  refine V.astore (pc' := 77) C [(5, .ref xa4), (4, .null), (0, .ref (ad 0)), (1, .int (nI k)), (2, .int y), (3, .int v)] dX0_lay_75 rfl 6 hnL rfl rfl ?_
  refine V.bipush (pc' := 79) C dX0_lay_77 rfl kcb_m11 ?_
  exact V.iret C T dX0_lay_79 () rfl rfl rfl rfl trivial rfl rfl rfl
set_option maxHeartbeats 4000000 in
theorem ct_X0_layB (l : Launch) (G : GG) (ad : Nat → Nat) (i : Nat → Int32) (j : Nat → Int64) (k : Nat) (a : Nat) (n : Nat) (f : Nat → Int32) (y : Int32) (v : Int32) (htr : l.stackTraces = false) (hk : k < 4) (hn : n ≤ 40) : Ct l G yX0_lay (wsW_ yX0_lay cX0_lay 6 (some .int) [(25, 74, 75, 326), (25, 74, 80, 328)]) ({ frames := 8, cells := 3, slots := 1010, locals := 10300 } : Room) [.ref (ad 0), .int (nI k), .int y, .int v] [xO ad i j, (ad 32, .inl (G.2 6, 4, .inr (.inr (.inr (.inr (fun q => some (ad (33 + q)))))))), (ad (33 + k), .inr (6, [.ref a])), (a, .inl (G.2 1, n, .inl f))] (fun _ : Unit => some (.int (lyA y n))) (fun _ => True) (fun _ => [xO ad i j, (ad 32, .inl (G.2 6, 4, .inr (.inr (.inr (.inr (fun q => some (ad (33 + q)))))))), (ad (33 + k), .inr (6, [.ref a])), (a, .inl (G.2 1, n, .inl (lyF f y n (v.toInt8.toInt32))))]) := by
  refine Ct.ofW rfl rfl ?_
  intro M el eG hnL C E T
  subst el
  subst eG
  have C : Cx M cX0_lay "ClockWard" ({ frames := 8, cells := 3, slots := 1010, locals := 10300 } : Room) := C
  refine V.lvs [0, 1, 2, 3] (lv2 := [(0, .ref (ad 0)), (1, .int (nI k)), (2, .int y), (3, .int v)]) rfl ?_
  refine V.iload_n (pc' := 1) C 1 dX0_lay_0 rfl rfl ?_
  refine V.i2l (pc' := 2) C dX0_lay_1 rfl ?_
  refine V.lconst (pc' := 3) C dX0_lay_2 rfl kcl_0 ?_
  refine V.ldc2 (pc' := 6) C dX0_lay_3 rfl q583 ?_
  refine V.callS (pc' := 9) (wr := [xO ad i j, (ad 32, .inl (M.G.2 6, 4, .inr (.inr (.inr (.inr (fun q => some (ad (33 + q)))))))), (ad (33 + k), .inr (6, [.ref a])), (a, .inl (M.G.2 1, n, .inl f))]) C (ct_X0_in M.l M.G (nI k) 0 3 ) dX0_lay_6 rfl (lw_S q261 q262 q64 q263) hys_X0_in rfl rfl [] [0, 1, 2, 3] [0, 1, 2, 3] rfl rfl rfl (fun _ => [xO ad i j, (ad 32, .inl (M.G.2 6, 4, .inr (.inr (.inr (.inr (fun q => some (ad (33 + q)))))))), (ad (33 + k), .inr (6, [.ref a])), (a, .inl (M.G.2 1, n, .inl f))]) (fun _ => rfl) rfl 0 0 rfl rfl (fun _ => [.int (bI (inI (nI k) 0 3))]) (fun _ => rfl) (fun _ _ => ?_)
  refine V.if_neB (pc' := 12) C 14 dX0_lay_9 rfl rfl (fun _ => ?_) (fun h1 => absurd h1 (fun z => z (in_k hk)))
  refine V.aload_n (pc' := 15) C 0 dX0_lay_14 rfl rfl ?_
  refine V.get (pc' := 18) C dX0_lay_15 rfl 0 rfl rfl in_X0 22 rfl q205 rfl ?_
  refine V.iload_n (pc' := 19) C 1 dX0_lay_18 rfl rfl ?_
  refine V.aald (pc' := 20) C k dX0_lay_19 rfl 1 6 rfl rfl (by omega) rfl rfl ?_
  refine V.getN (pc' := 23) C dX0_lay_20 rfl 2 rfl rfl in_X6 0 rfl q178 rfl ?_
  refine V.astore (pc' := 25) C [(4, .ref a), (0, .ref (ad 0)), (1, .int (nI k)), (2, .int y), (3, .int v)] dX0_lay_23 rfl 6 hnL rfl rfl ?_
  refine V.aload (pc' := 27) C 0 dX0_lay_25 rfl rfl ?_
  refine V.instYes (pc' := 30) C dX0_lay_27 rfl 3 1 rfl rfl (fun U z => va_nm_byte z) q888 ?_
  refine V.if_eq (pc' := 33) C 45 dX0_lay_30 rfl rfl (fun h2 => absurd h2 (by decide)) (fun _ => ?_)
  refine V.aload (pc' := 35) C 0 dX0_lay_33 rfl rfl ?_
  refine V.castYes (pc' := 38) C dX0_lay_35 rfl 3 1 rfl rfl (fun U z => va_nm_byte z) q888 ?_
  refine V.iload_n (pc' := 39) C 3 dX0_lay_38 rfl rfl ?_
  refine V.iload_n (pc' := 40) C 4 dX0_lay_39 rfl rfl ?_
  refine V.i2b (pc' := 41) C dX0_lay_40 rfl ?_
  by_cases h3 : y < 0 ∨ n ≤ y.toNatClampNeg
  · refine V.bastOut C dX0_lay_41 3 1 rfl rfl (fun z => z h3) ?_
    refine VN.idx C htr (by omega) rfl rfl rfl rfl (fun xa5 => ?_)
    refine VT.catch_ C E (Or.inr ⟨rfl, by decide, Or.inl ⟨_, q844, (show ("java/lang/ArrayIndexOutOfBoundsException", "java/lang/NullPointerException") ∈ ncs by decide), (Or.inr ⟨rfl, by decide, Or.inr ⟨_, q869, q1337, rfl⟩⟩)⟩⟩) ?_
    refine V.astore (pc' := 82) C [(5, .ref xa5), (4, .ref a), (0, .ref (ad 0)), (1, .int (nI k)), (2, .int y), (3, .int v)] dX0_lay_80 rfl 6 hnL rfl rfl ?_
    refine V.bipush (pc' := 84) C dX0_lay_82 rfl kcb_m12 ?_
    exact V.iret C T dX0_lay_84 () rfl rfl (by unfold lyA; rw [if_pos h3]) rfl trivial (by unfold lyF; rw [if_pos h3]) rfl rfl
  · have hj6 : y.toNatClampNeg < n := Nat.not_le.mp (fun z => h3 (Or.inr z))
    refine V.steq (st2 := [.int v.toInt8.toInt32, .int (nI y.toNatClampNeg), .ref a]) (by rw [cl_nI hn h3]) ?_
    refine V.bast (pc' := 42) C y.toNatClampNeg [xO ad i j, (ad 32, .inl (M.G.2 6, 4, .inr (.inr (.inr (.inr (fun q => some (ad (33 + q)))))))), (ad (33 + k), .inr (6, [.ref a])), (a, .inl (M.G.2 1, n, .inl (upd f y.toNatClampNeg v.toInt8.toInt32)))] dX0_lay_41 rfl 3 rfl (by omega) (ble40 hn) v.toInt8.toInt32 (pk_vb _) rfl ?_
    refine V.goto C 73 dX0_lay_42 rfl ?_
    refine V.iconst (pc' := 74) C dX0_lay_73 rfl kci_1 ?_
    exact V.iret C T dX0_lay_74 () rfl rfl (by unfold lyA; rw [if_neg h3]) rfl trivial (by unfold lyF; rw [if_neg h3]) rfl rfl
set_option maxHeartbeats 4000000 in
theorem ct_X0_layS (l : Launch) (G : GG) (ad : Nat → Nat) (i : Nat → Int32) (j : Nat → Int64) (k : Nat) (a : Nat) (n : Nat) (f : Nat → Int32) (y : Int32) (v : Int32) (htr : l.stackTraces = false) (hk : k < 4) (hn : n ≤ 40) : Ct l G yX0_lay (wsW_ yX0_lay cX0_lay 6 (some .int) [(25, 74, 75, 326), (25, 74, 80, 328)]) ({ frames := 8, cells := 3, slots := 1010, locals := 10300 } : Room) [.ref (ad 0), .int (nI k), .int y, .int v] [xO ad i j, (ad 32, .inl (G.2 6, 4, .inr (.inr (.inr (.inr (fun q => some (ad (33 + q)))))))), (ad (33 + k), .inr (6, [.ref a])), (a, .inl (G.2 2, n, .inl f))] (fun _ : Unit => some (.int (lyA y n))) (fun _ => True) (fun _ => [xO ad i j, (ad 32, .inl (G.2 6, 4, .inr (.inr (.inr (.inr (fun q => some (ad (33 + q)))))))), (ad (33 + k), .inr (6, [.ref a])), (a, .inl (G.2 2, n, .inl (lyF f y n (v.toInt16.toInt32))))]) := by
  refine Ct.ofW rfl rfl ?_
  intro M el eG hnL C E T
  subst el
  subst eG
  have C : Cx M cX0_lay "ClockWard" ({ frames := 8, cells := 3, slots := 1010, locals := 10300 } : Room) := C
  refine V.lvs [0, 1, 2, 3] (lv2 := [(0, .ref (ad 0)), (1, .int (nI k)), (2, .int y), (3, .int v)]) rfl ?_
  refine V.iload_n (pc' := 1) C 1 dX0_lay_0 rfl rfl ?_
  refine V.i2l (pc' := 2) C dX0_lay_1 rfl ?_
  refine V.lconst (pc' := 3) C dX0_lay_2 rfl kcl_0 ?_
  refine V.ldc2 (pc' := 6) C dX0_lay_3 rfl q583 ?_
  refine V.callS (pc' := 9) (wr := [xO ad i j, (ad 32, .inl (M.G.2 6, 4, .inr (.inr (.inr (.inr (fun q => some (ad (33 + q)))))))), (ad (33 + k), .inr (6, [.ref a])), (a, .inl (M.G.2 2, n, .inl f))]) C (ct_X0_in M.l M.G (nI k) 0 3 ) dX0_lay_6 rfl (lw_S q261 q262 q64 q263) hys_X0_in rfl rfl [] [0, 1, 2, 3] [0, 1, 2, 3] rfl rfl rfl (fun _ => [xO ad i j, (ad 32, .inl (M.G.2 6, 4, .inr (.inr (.inr (.inr (fun q => some (ad (33 + q)))))))), (ad (33 + k), .inr (6, [.ref a])), (a, .inl (M.G.2 2, n, .inl f))]) (fun _ => rfl) rfl 0 0 rfl rfl (fun _ => [.int (bI (inI (nI k) 0 3))]) (fun _ => rfl) (fun _ _ => ?_)
  refine V.if_neB (pc' := 12) C 14 dX0_lay_9 rfl rfl (fun _ => ?_) (fun h1 => absurd h1 (fun z => z (in_k hk)))
  refine V.aload_n (pc' := 15) C 0 dX0_lay_14 rfl rfl ?_
  refine V.get (pc' := 18) C dX0_lay_15 rfl 0 rfl rfl in_X0 22 rfl q205 rfl ?_
  refine V.iload_n (pc' := 19) C 1 dX0_lay_18 rfl rfl ?_
  refine V.aald (pc' := 20) C k dX0_lay_19 rfl 1 6 rfl rfl (by omega) rfl rfl ?_
  refine V.getN (pc' := 23) C dX0_lay_20 rfl 2 rfl rfl in_X6 0 rfl q178 rfl ?_
  refine V.astore (pc' := 25) C [(4, .ref a), (0, .ref (ad 0)), (1, .int (nI k)), (2, .int y), (3, .int v)] dX0_lay_23 rfl 6 hnL rfl rfl ?_
  refine V.aload (pc' := 27) C 0 dX0_lay_25 rfl rfl ?_
  refine V.instNo (pc' := 30) C dX0_lay_27 rfl 3 2 rfl rfl (fun U z => va_nm_short z) q888 (by decide) ?_
  refine V.if_eq (pc' := 33) C 45 dX0_lay_30 rfl rfl (fun _ => ?_) (fun h2 => absurd h2 (by decide))
  refine V.aload (pc' := 47) C 0 dX0_lay_45 rfl rfl ?_
  refine V.instYes (pc' := 50) C dX0_lay_47 rfl 3 2 rfl rfl (fun U z => va_nm_short z) q889 ?_
  refine V.if_eq (pc' := 53) C 65 dX0_lay_50 rfl rfl (fun h3 => absurd h3 (by decide)) (fun _ => ?_)
  refine V.aload (pc' := 55) C 0 dX0_lay_53 rfl rfl ?_
  refine V.castYes (pc' := 58) C dX0_lay_55 rfl 3 2 rfl rfl (fun U z => va_nm_short z) q889 ?_
  refine V.iload_n (pc' := 59) C 3 dX0_lay_58 rfl rfl ?_
  refine V.iload_n (pc' := 60) C 4 dX0_lay_59 rfl rfl ?_
  refine V.i2s (pc' := 61) C dX0_lay_60 rfl ?_
  by_cases h4 : y < 0 ∨ n ≤ y.toNatClampNeg
  · refine V.sastOut C dX0_lay_61 3 2 rfl rfl (fun z => z h4) ?_
    refine VN.idx C htr (by omega) rfl rfl rfl rfl (fun xa6 => ?_)
    refine VT.catch_ C E (Or.inr ⟨rfl, by decide, Or.inl ⟨_, q844, (show ("java/lang/ArrayIndexOutOfBoundsException", "java/lang/NullPointerException") ∈ ncs by decide), (Or.inr ⟨rfl, by decide, Or.inr ⟨_, q869, q1337, rfl⟩⟩)⟩⟩) ?_
    refine V.astore (pc' := 82) C [(5, .ref xa6), (4, .ref a), (0, .ref (ad 0)), (1, .int (nI k)), (2, .int y), (3, .int v)] dX0_lay_80 rfl 6 hnL rfl rfl ?_
    refine V.bipush (pc' := 84) C dX0_lay_82 rfl kcb_m12 ?_
    exact V.iret C T dX0_lay_84 () rfl rfl (by unfold lyA; rw [if_pos h4]) rfl trivial (by unfold lyF; rw [if_pos h4]) rfl rfl
  · have hj7 : y.toNatClampNeg < n := Nat.not_le.mp (fun z => h4 (Or.inr z))
    refine V.steq (st2 := [.int v.toInt16.toInt32, .int (nI y.toNatClampNeg), .ref a]) (by rw [cl_nI hn h4]) ?_
    refine V.sast (pc' := 62) C y.toNatClampNeg [xO ad i j, (ad 32, .inl (M.G.2 6, 4, .inr (.inr (.inr (.inr (fun q => some (ad (33 + q)))))))), (ad (33 + k), .inr (6, [.ref a])), (a, .inl (M.G.2 2, n, .inl (upd f y.toNatClampNeg v.toInt16.toInt32)))] dX0_lay_61 rfl 3 rfl (by omega) (ble40 hn) v.toInt16.toInt32 (pk_vs _) rfl ?_
    refine V.goto C 73 dX0_lay_62 rfl ?_
    refine V.iconst (pc' := 74) C dX0_lay_73 rfl kci_1 ?_
    exact V.iret C T dX0_lay_74 () rfl rfl (by unfold lyA; rw [if_neg h4]) rfl trivial (by unfold lyF; rw [if_neg h4]) rfl rfl
set_option maxHeartbeats 4000000 in
theorem ct_X0_layI (l : Launch) (G : GG) (ad : Nat → Nat) (i : Nat → Int32) (j : Nat → Int64) (k : Nat) (a : Nat) (n : Nat) (f : Nat → Int32) (y : Int32) (v : Int32) (htr : l.stackTraces = false) (hk : k < 4) (hn : n ≤ 40) : Ct l G yX0_lay (wsW_ yX0_lay cX0_lay 6 (some .int) [(25, 74, 75, 326), (25, 74, 80, 328)]) ({ frames := 8, cells := 3, slots := 1010, locals := 10300 } : Room) [.ref (ad 0), .int (nI k), .int y, .int v] [xO ad i j, (ad 32, .inl (G.2 6, 4, .inr (.inr (.inr (.inr (fun q => some (ad (33 + q)))))))), (ad (33 + k), .inr (6, [.ref a])), (a, .inl (G.2 0, n, .inl f))] (fun _ : Unit => some (.int (lyA y n))) (fun _ => True) (fun _ => [xO ad i j, (ad 32, .inl (G.2 6, 4, .inr (.inr (.inr (.inr (fun q => some (ad (33 + q)))))))), (ad (33 + k), .inr (6, [.ref a])), (a, .inl (G.2 0, n, .inl (lyF f y n (v))))]) := by
  refine Ct.ofW rfl rfl ?_
  intro M el eG hnL C E T
  subst el
  subst eG
  have C : Cx M cX0_lay "ClockWard" ({ frames := 8, cells := 3, slots := 1010, locals := 10300 } : Room) := C
  refine V.lvs [0, 1, 2, 3] (lv2 := [(0, .ref (ad 0)), (1, .int (nI k)), (2, .int y), (3, .int v)]) rfl ?_
  refine V.iload_n (pc' := 1) C 1 dX0_lay_0 rfl rfl ?_
  refine V.i2l (pc' := 2) C dX0_lay_1 rfl ?_
  refine V.lconst (pc' := 3) C dX0_lay_2 rfl kcl_0 ?_
  refine V.ldc2 (pc' := 6) C dX0_lay_3 rfl q583 ?_
  refine V.callS (pc' := 9) (wr := [xO ad i j, (ad 32, .inl (M.G.2 6, 4, .inr (.inr (.inr (.inr (fun q => some (ad (33 + q)))))))), (ad (33 + k), .inr (6, [.ref a])), (a, .inl (M.G.2 0, n, .inl f))]) C (ct_X0_in M.l M.G (nI k) 0 3 ) dX0_lay_6 rfl (lw_S q261 q262 q64 q263) hys_X0_in rfl rfl [] [0, 1, 2, 3] [0, 1, 2, 3] rfl rfl rfl (fun _ => [xO ad i j, (ad 32, .inl (M.G.2 6, 4, .inr (.inr (.inr (.inr (fun q => some (ad (33 + q)))))))), (ad (33 + k), .inr (6, [.ref a])), (a, .inl (M.G.2 0, n, .inl f))]) (fun _ => rfl) rfl 0 0 rfl rfl (fun _ => [.int (bI (inI (nI k) 0 3))]) (fun _ => rfl) (fun _ _ => ?_)
  refine V.if_neB (pc' := 12) C 14 dX0_lay_9 rfl rfl (fun _ => ?_) (fun h1 => absurd h1 (fun z => z (in_k hk)))
  refine V.aload_n (pc' := 15) C 0 dX0_lay_14 rfl rfl ?_
  refine V.get (pc' := 18) C dX0_lay_15 rfl 0 rfl rfl in_X0 22 rfl q205 rfl ?_
  refine V.iload_n (pc' := 19) C 1 dX0_lay_18 rfl rfl ?_
  refine V.aald (pc' := 20) C k dX0_lay_19 rfl 1 6 rfl rfl (by omega) rfl rfl ?_
  refine V.getN (pc' := 23) C dX0_lay_20 rfl 2 rfl rfl in_X6 0 rfl q178 rfl ?_
  refine V.astore (pc' := 25) C [(4, .ref a), (0, .ref (ad 0)), (1, .int (nI k)), (2, .int y), (3, .int v)] dX0_lay_23 rfl 6 hnL rfl rfl ?_
  refine V.aload (pc' := 27) C 0 dX0_lay_25 rfl rfl ?_
  refine V.instNo (pc' := 30) C dX0_lay_27 rfl 3 0 rfl rfl (fun U z => va_nm_int z) q888 (by decide) ?_
  refine V.if_eq (pc' := 33) C 45 dX0_lay_30 rfl rfl (fun _ => ?_) (fun h2 => absurd h2 (by decide))
  refine V.aload (pc' := 47) C 0 dX0_lay_45 rfl rfl ?_
  refine V.instNo (pc' := 50) C dX0_lay_47 rfl 3 0 rfl rfl (fun U z => va_nm_int z) q889 (by decide) ?_
  refine V.if_eq (pc' := 53) C 65 dX0_lay_50 rfl rfl (fun _ => ?_) (fun h3 => absurd h3 (by decide))
  refine V.aload (pc' := 67) C 0 dX0_lay_65 rfl rfl ?_
  refine V.castYes (pc' := 70) C dX0_lay_67 rfl 3 0 rfl rfl (fun U z => va_nm_int z) q890 ?_
  refine V.iload_n (pc' := 71) C 3 dX0_lay_70 rfl rfl ?_
  refine V.iload_n (pc' := 72) C 4 dX0_lay_71 rfl rfl ?_
  by_cases h4 : y < 0 ∨ n ≤ y.toNatClampNeg
  · refine V.iastOut C dX0_lay_72 3 0 rfl rfl (fun z => z h4) ?_
    refine VN.idx C htr (by omega) rfl rfl rfl rfl (fun xa6 => ?_)
    refine VT.catch_ C E (Or.inr ⟨rfl, by decide, Or.inl ⟨_, q844, (show ("java/lang/ArrayIndexOutOfBoundsException", "java/lang/NullPointerException") ∈ ncs by decide), (Or.inr ⟨rfl, by decide, Or.inr ⟨_, q869, q1337, rfl⟩⟩)⟩⟩) ?_
    refine V.astore (pc' := 82) C [(5, .ref xa6), (4, .ref a), (0, .ref (ad 0)), (1, .int (nI k)), (2, .int y), (3, .int v)] dX0_lay_80 rfl 6 hnL rfl rfl ?_
    refine V.bipush (pc' := 84) C dX0_lay_82 rfl kcb_m12 ?_
    exact V.iret C T dX0_lay_84 () rfl rfl (by unfold lyA; rw [if_pos h4]) rfl trivial (by unfold lyF; rw [if_pos h4]) rfl rfl
  · have hj7 : y.toNatClampNeg < n := Nat.not_le.mp (fun z => h4 (Or.inr z))
    refine V.steq (st2 := [.int v, .int (nI y.toNatClampNeg), .ref a]) (by rw [cl_nI hn h4]) ?_
    refine V.iast (pc' := 73) C y.toNatClampNeg [xO ad i j, (ad 32, .inl (M.G.2 6, 4, .inr (.inr (.inr (.inr (fun q => some (ad (33 + q)))))))), (ad (33 + k), .inr (6, [.ref a])), (a, .inl (M.G.2 0, n, .inl (upd f y.toNatClampNeg v)))] dX0_lay_72 rfl 3 rfl (by omega) (ble40 hn) v rfl rfl ?_
    refine V.iconst (pc' := 74) C dX0_lay_73 rfl kci_1 ?_
    exact V.iret C T dX0_lay_74 () rfl rfl (by unfold lyA; rw [if_neg h4]) rfl trivial (by unfold lyF; rw [if_neg h4]) rfl rfl
set_option maxHeartbeats 4000000 in
theorem ct_X0_layX (l : Launch) (G : GG) (ad : Nat → Nat) (i : Nat → Int32) (j : Nat → Int64) (x : Int32) (y : Int32) (v : Int32) (hno : ¬ inI x 0 3) : Ct l G yX0_lay (wsW_ yX0_lay cX0_lay 6 (some .int) [(25, 74, 75, 326), (25, 74, 80, 328)]) ({ frames := 1, cells := 0, slots := 0, locals := 25 } : Room) [.ref (ad 0), .int x, .int y, .int v] [xO ad i j] (fun _ : Unit => some (.int (-1))) (fun _ => True) (fun _ => [xO ad i j]) := by
  refine Ct.ofW rfl rfl ?_
  intro M el eG hnL C E T
  subst el
  subst eG
  have C : Cx M cX0_lay "ClockWard" ({ frames := 1, cells := 0, slots := 0, locals := 25 } : Room) := C
  refine V.lvs [0, 1, 2, 3] (lv2 := [(0, .ref (ad 0)), (1, .int x), (2, .int y), (3, .int v)]) rfl ?_
  refine V.iload_n (pc' := 1) C 1 dX0_lay_0 rfl rfl ?_
  refine V.i2l (pc' := 2) C dX0_lay_1 rfl ?_
  refine V.lconst (pc' := 3) C dX0_lay_2 rfl kcl_0 ?_
  refine V.ldc2 (pc' := 6) C dX0_lay_3 rfl q583 ?_
  refine V.callS (pc' := 9) (wr := [xO ad i j]) C (ct_X0_in M.l M.G x 0 3 ) dX0_lay_6 rfl (lw_S q261 q262 q64 q263) hys_X0_in rfl rfl [] [0] [0] rfl rfl rfl (fun _ => [xO ad i j]) (fun _ => rfl) rfl 0 0 rfl rfl (fun _ => [.int (bI (inI x 0 3))]) (fun _ => rfl) (fun _ _ => ?_)
  refine V.if_neB (pc' := 12) C 14 dX0_lay_9 rfl rfl (fun h1 => absurd h1 hno) (fun _ => ?_)
  refine V.iconst (pc' := 13) C dX0_lay_12 rfl kci_m1 ?_
  exact V.iret C T dX0_lay_13 () rfl rfl rfl rfl trivial rfl rfl rfl
