set_option maxRecDepth 100000
set_option maxHeartbeats 4000000 in
theorem ct_X0_floor (l : Launch) (G : GG) (ad : Nat → Nat) (i : Nat → Int32) (j : Nat → Int64) (N : Nat) (g : Pg) (x : Int32)  : Ct l G yX0_floor (ws_ yX0_floor cX0_floor 3 (some .int)) ({ frames := 1, cells := 0, slots := 0, locals := 25 } : Room) [.ref (ad 0), .int x] [xO ad i j, wO (ad 6) (ad 7) (ad 8) (ad 9) N g, (ad 7, .inl (G.2 1, 20, .inl (wcl g))), (ad 8, .inl (G.2 0, 25, .inl (wgt g))), (ad 9, .inl (G.2 1, 18, .inl (wpl g)))] (fun _ : Unit => some (.int (a_floor g x))) (fun _ => True) (fun _ => [xO ad i j, wO (ad 6) (ad 7) (ad 8) (ad 9) N (g_floor g x), (ad 7, .inl (G.2 1, 20, .inl (wcl (g_floor g x)))), (ad 8, .inl (G.2 0, 25, .inl (wgt (g_floor g x)))), (ad 9, .inl (G.2 1, 18, .inl (wpl (g_floor g x))))]) := by
  refine Ct.of rfl rfl ?_
  intro M el eG hnL C T
  subst el
  subst eG
  have C : Cx M cX0_floor "ClockWard" ({ frames := 1, cells := 0, slots := 0, locals := 25 } : Room) := C
  refine V.lvs [0, 1] (lv2 := [(0, .ref (ad 0)), (1, .int x)]) rfl ?_
  refine V.iload_n (pc' := 1) C 1 dX0_floor_0 rfl rfl ?_
  refine V.i2l (pc' := 2) C dX0_floor_1 rfl ?_
  refine V.lconst (pc' := 3) C dX0_floor_2 rfl kcl_0 ?_
  refine V.ldc2 (pc' := 6) C dX0_floor_3 rfl q592 ?_
  refine V.callS (pc' := 9) (wr := [xO ad i j, wO (ad 6) (ad 7) (ad 8) (ad 9) N g, (ad 7, .inl (M.G.2 1, 20, .inl (wcl g))), (ad 8, .inl (M.G.2 0, 25, .inl (wgt g))), (ad 9, .inl (M.G.2 1, 18, .inl (wpl g)))]) C (ct_X0_in M.l M.G x 0 50 ) dX0_floor_6 rfl (lw_S q261 q262 q64 q263) hys_X0_in rfl rfl [] [0, 1, 2, 3, 4] [0, 1, 2, 3, 4] rfl rfl rfl (fun _ => [xO ad i j, wO (ad 6) (ad 7) (ad 8) (ad 9) N g, (ad 7, .inl (M.G.2 1, 20, .inl (wcl g))), (ad 8, .inl (M.G.2 0, 25, .inl (wgt g))), (ad 9, .inl (M.G.2 1, 18, .inl (wpl g)))]) (fun _ => rfl) rfl 0 0 rfl rfl (fun _ => [.int (bI (inI x 0 50))]) (fun _ => rfl) (fun _ _ => ?_)
  refine V.if_neB (pc' := 12) C 14 dX0_floor_9 rfl rfl (fun h1 => ?_) (fun h1 => ?_)
  · refine V.aload_n (pc' := 15) C 0 dX0_floor_14 rfl rfl ?_
    refine V.get (pc' := 18) C dX0_floor_15 rfl 0 rfl rfl in_X0 1 rfl q183 rfl ?_
    refine V.getN (pc' := 21) C dX0_floor_18 rfl 1 rfl rfl in_X5 2 rfl q138 rfl ?_
    refine V.istore_n (pc' := 22) C [(2, .int (g 20 + 40)), (0, .ref (ad 0)), (1, .int x)] dX0_floor_21 rfl 3 hnL rfl rfl ?_
    refine V.aload_n (pc' := 23) C 1 dX0_floor_22 rfl rfl ?_
    refine V.get (pc' := 26) C dX0_floor_23 rfl 0 rfl rfl in_X0 1 rfl q183 rfl ?_
    refine V.iload_n (pc' := 27) C 2 dX0_floor_26 rfl rfl ?_
    refine V.putN (pc' := 30) C [xO ad i j, (ad 6, .inr (5, [.int (nI N), .ref (ad 7), .int x, .int (g 21), .int (g 22), .ref (ad 8), .int (g 66), .ref (ad 9)])), (ad 7, .inl (M.G.2 1, 20, .inl (wcl g))), (ad 8, .inl (M.G.2 0, 25, .inl (wgt g))), (ad 9, .inl (M.G.2 1, 18, .inl (wpl g)))] dX0_floor_27 rfl 1 rfl rfl in_X5 tyX5_ok nmX5 2 rfl q138 rfl rfl rfl rfl rfl ?_
    refine V.iload_n (pc' := 31) C 0 dX0_floor_30 rfl rfl ?_
    refine V.arr 2 (wcl (upd g 20 (x - 40))) (ws2 := [xO ad i j, (ad 6, .inr (5, [.int (nI N), .ref (ad 7), .int x, .int (g 21), .int (g 22), .ref (ad 8), .int (g 66), .ref (ad 9)])), (ad 7, .inl (M.G.2 1, 20, .inl (wcl (upd g 20 (x - 40))))), (ad 8, .inl (M.G.2 0, 25, .inl (wgt g))), (ad 9, .inl (M.G.2 1, 18, .inl (wpl g)))]) rfl (wcl_hi (k := 20) (by omega)) rfl ?_
    exact V.iret C T dX0_floor_31 () rfl rfl (if_pos h1).symm rfl trivial (by unfold g_floor; rw [if_pos h1, wgt_lo (k := 20) (by omega), wpl_lo (k := 20) (by omega), wO_floor]) rfl rfl
  · refine V.iconst (pc' := 13) C dX0_floor_12 rfl kci_m1 ?_
    exact V.iret C T dX0_floor_13 () rfl rfl (if_neg h1).symm rfl trivial (by unfold g_floor; rw [if_neg h1]) rfl rfl
set_option maxHeartbeats 4000000 in
theorem ct_X0_cut (l : Launch) (G : GG) (ad : Nat → Nat) (i : Nat → Int32) (j : Nat → Int64) (N : Nat) (g : Pg) (x : Int32)  : Ct l G yX0_cut (ws_ yX0_cut cX0_cut 3 (some .int)) ({ frames := 1, cells := 0, slots := 0, locals := 25 } : Room) [.ref (ad 0), .int x] [xO ad i j, wO (ad 6) (ad 7) (ad 8) (ad 9) N g, (ad 7, .inl (G.2 1, 20, .inl (wcl g))), (ad 8, .inl (G.2 0, 25, .inl (wgt g))), (ad 9, .inl (G.2 1, 18, .inl (wpl g)))] (fun _ : Unit => some (.int (a_cut g x))) (fun _ => True) (fun _ => [xO ad i j, wO (ad 6) (ad 7) (ad 8) (ad 9) N (g_cut g x), (ad 7, .inl (G.2 1, 20, .inl (wcl (g_cut g x)))), (ad 8, .inl (G.2 0, 25, .inl (wgt (g_cut g x)))), (ad 9, .inl (G.2 1, 18, .inl (wpl (g_cut g x))))]) := by
  refine Ct.of rfl rfl ?_
  intro M el eG hnL C T
  subst el
  subst eG
  have C : Cx M cX0_cut "ClockWard" ({ frames := 1, cells := 0, slots := 0, locals := 25 } : Room) := C
  refine V.lvs [0, 1] (lv2 := [(0, .ref (ad 0)), (1, .int x)]) rfl ?_
  refine V.iload_n (pc' := 1) C 1 dX0_cut_0 rfl rfl ?_
  refine V.i2l (pc' := 2) C dX0_cut_1 rfl ?_
  refine V.lconst (pc' := 3) C dX0_cut_2 rfl kcl_0 ?_
  refine V.aload_n (pc' := 4) C 0 dX0_cut_3 rfl rfl ?_
  refine V.get (pc' := 7) C dX0_cut_4 rfl 0 rfl rfl in_X0 1 rfl q183 rfl ?_
  refine V.getN (pc' := 10) C dX0_cut_7 rfl 1 rfl rfl in_X5 6 rfl q146 rfl ?_
  refine V.i2l (pc' := 11) C dX0_cut_10 rfl ?_
  refine V.callS (pc' := 14) (wr := [xO ad i j, wO (ad 6) (ad 7) (ad 8) (ad 9) N g, (ad 7, .inl (M.G.2 1, 20, .inl (wcl g))), (ad 8, .inl (M.G.2 0, 25, .inl (wgt g))), (ad 9, .inl (M.G.2 1, 18, .inl (wpl g)))]) C (ct_X0_in M.l M.G x 0 (g 66) ) dX0_cut_11 rfl (lw_S q261 q262 q64 q263) hys_X0_in rfl rfl [] [0, 1, 2, 3, 4] [0, 1, 2, 3, 4] rfl rfl rfl (fun _ => [xO ad i j, wO (ad 6) (ad 7) (ad 8) (ad 9) N g, (ad 7, .inl (M.G.2 1, 20, .inl (wcl g))), (ad 8, .inl (M.G.2 0, 25, .inl (wgt g))), (ad 9, .inl (M.G.2 1, 18, .inl (wpl g)))]) (fun _ => rfl) rfl 0 0 rfl rfl (fun _ => [.int (bI (inI x 0 (g 66)))]) (fun _ => rfl) (fun _ _ => ?_)
  refine V.if_neB (pc' := 17) C 19 dX0_cut_14 rfl rfl (fun h1 => ?_) (fun h1 => ?_)
  · refine V.aload_n (pc' := 20) C 0 dX0_cut_19 rfl rfl ?_
    refine V.get (pc' := 23) C dX0_cut_20 rfl 0 rfl rfl in_X0 1 rfl q183 rfl ?_
    refine V.getN (pc' := 26) C dX0_cut_23 rfl 1 rfl rfl in_X5 6 rfl q146 rfl ?_
    refine V.istore_n (pc' := 27) C [(2, .int (g 66)), (0, .ref (ad 0)), (1, .int x)] dX0_cut_26 rfl 3 hnL rfl rfl ?_
    refine V.aload_n (pc' := 28) C 1 dX0_cut_27 rfl rfl ?_
    refine V.get (pc' := 31) C dX0_cut_28 rfl 0 rfl rfl in_X0 1 rfl q183 rfl ?_
    refine V.iload_n (pc' := 32) C 2 dX0_cut_31 rfl rfl ?_
    refine V.putN (pc' := 35) C [xO ad i j, (ad 6, .inr (5, [.int (nI N), .ref (ad 7), .int (g 20 + 40), .int (g 21), .int (g 22), .ref (ad 8), .int x, .ref (ad 9)])), (ad 7, .inl (M.G.2 1, 20, .inl (wcl g))), (ad 8, .inl (M.G.2 0, 25, .inl (wgt g))), (ad 9, .inl (M.G.2 1, 18, .inl (wpl g)))] dX0_cut_32 rfl 1 rfl rfl in_X5 tyX5_ok nmX5 6 rfl q146 rfl rfl rfl rfl rfl ?_
    refine V.iload_n (pc' := 36) C 0 dX0_cut_35 rfl rfl ?_
    refine V.arr 2 (wcl (upd g 66 x)) (ws2 := [xO ad i j, (ad 6, .inr (5, [.int (nI N), .ref (ad 7), .int (g 20 + 40), .int (g 21), .int (g 22), .ref (ad 8), .int x, .ref (ad 9)])), (ad 7, .inl (M.G.2 1, 20, .inl (wcl (upd g 66 x)))), (ad 8, .inl (M.G.2 0, 25, .inl (wgt g))), (ad 9, .inl (M.G.2 1, 18, .inl (wpl g)))]) rfl (wcl_hi (k := 66) (by omega)) rfl ?_
    refine V.arr 3 (wgt (upd g 66 x)) (ws2 := [xO ad i j, (ad 6, .inr (5, [.int (nI N), .ref (ad 7), .int (g 20 + 40), .int (g 21), .int (g 22), .ref (ad 8), .int x, .ref (ad 9)])), (ad 7, .inl (M.G.2 1, 20, .inl (wcl (upd g 66 x)))), (ad 8, .inl (M.G.2 0, 25, .inl (wgt (upd g 66 x)))), (ad 9, .inl (M.G.2 1, 18, .inl (wpl g)))]) rfl (wgt_hi (k := 66) (by omega)) rfl ?_
    refine V.arr 4 (wpl (upd g 66 x)) (ws2 := [xO ad i j, (ad 6, .inr (5, [.int (nI N), .ref (ad 7), .int (g 20 + 40), .int (g 21), .int (g 22), .ref (ad 8), .int x, .ref (ad 9)])), (ad 7, .inl (M.G.2 1, 20, .inl (wcl (upd g 66 x)))), (ad 8, .inl (M.G.2 0, 25, .inl (wgt (upd g 66 x)))), (ad 9, .inl (M.G.2 1, 18, .inl (wpl (upd g 66 x))))]) rfl (wpl_66) rfl ?_
    exact V.iret C T dX0_cut_36 () rfl rfl (if_pos h1).symm rfl trivial (by unfold g_cut; rw [if_pos h1]; rfl) rfl rfl
  · refine V.iconst (pc' := 18) C dX0_cut_17 rfl kci_m1 ?_
    exact V.iret C T dX0_cut_18 () rfl rfl (if_neg h1).symm rfl trivial (by unfold g_cut; rw [if_neg h1]) rfl rfl
set_option maxHeartbeats 4000000 in
theorem ct_X0_plan (l : Launch) (G : GG) (ad : Nat → Nat) (i : Nat → Int32) (j : Nat → Int64) (N : Nat) (g : Pg) (x : Int32) (y : Int32) (m : Int32) (n : Nat) (ok : okP g N n) : Ct l G yX0_plan (ws_ yX0_plan cX0_plan 4 (some .int)) ({ frames := 3, cells := 0, slots := 0, locals := 68 } : Room) [.ref (ad 0), .int x, .int y, .int m] [xO ad i j, wO (ad 6) (ad 7) (ad 8) (ad 9) N g, (ad 7, .inl (G.2 1, 20, .inl (wcl g))), (ad 8, .inl (G.2 0, 25, .inl (wgt g))), (ad 9, .inl (G.2 1, 18, .inl (wpl g)))] (fun _ : Unit => some (.int (a_plan n N x y m))) (fun _ => True) (fun _ => [xO ad i j, wO (ad 6) (ad 7) (ad 8) (ad 9) N (g_plan g n N x y m), (ad 7, .inl (G.2 1, 20, .inl (wcl (g_plan g n N x y m)))), (ad 8, .inl (G.2 0, 25, .inl (wgt (g_plan g n N x y m)))), (ad 9, .inl (G.2 1, 18, .inl (wpl (g_plan g n N x y m))))]) := by
  refine Ct.of rfl rfl ?_
  intro M el eG hnL C T
  subst el
  subst eG
  have C : Cx M cX0_plan "ClockWard" ({ frames := 3, cells := 0, slots := 0, locals := 68 } : Room) := C
  have hN5 := ok.n5
  have hn6 := ok.n6
  refine V.lvs [0, 1, 2, 3] (lv2 := [(0, .ref (ad 0)), (1, .int x), (2, .int y), (3, .int m)]) rfl ?_
  refine V.aload_n (pc' := 1) C 0 dX0_plan_0 rfl rfl ?_
  refine V.iload_n (pc' := 2) C 1 dX0_plan_1 rfl rfl ?_
  refine V.iload_n (pc' := 3) C 2 dX0_plan_2 rfl rfl ?_
  refine V.callV (pc' := 6) (wr := []) C (ct_X0_isPair M.l M.G ad i j N g x y ) dX0_plan_3 rfl (lw_V q570 q572 qs15 q64 q573) hyv_X0_isPair rfl rfl 0 rfl rfl [0, 1, 2, 3, 4] [] [0, 1, 2, 3, 4] rfl rfl rfl (fun _ => [xO ad i j, wO (ad 6) (ad 7) (ad 8) (ad 9) N g, (ad 7, .inl (M.G.2 1, 20, .inl (wcl g))), (ad 8, .inl (M.G.2 0, 25, .inl (wgt g))), (ad 9, .inl (M.G.2 1, 18, .inl (wpl g)))]) (fun _ => rfl) rfl 0 0 rfl rfl (fun _ => [.int (bI (isTwo N x y))]) (fun _ => rfl) (fun _ _ => ?_)
  refine V.if_eqB (pc' := 9) C 21 dX0_plan_6 rfl rfl (fun h1 => ?_) (fun h1 => ?_)
  · refine V.iconst (pc' := 22) C dX0_plan_21 rfl kci_m1 ?_
    exact V.iret C T dX0_plan_22 () rfl rfl (by unfold a_plan; rw [if_neg (fun z => h1 z.1)]) rfl trivial (by unfold g_plan; rw [if_neg (fun z => h1 z.1)]) rfl rfl
  · obtain ⟨a, ha, rfl⟩ := isC_nat hN5 h1.1
    obtain ⟨b, hb, rfl⟩ := isC_nat hN5 h1.2.1
    refine V.iload_n (pc' := 10) C 3 dX0_plan_9 rfl rfl ?_
    refine V.i2l (pc' := 11) C dX0_plan_10 rfl ?_
    refine V.lconst (pc' := 12) C dX0_plan_11 rfl kcl_1 ?_
    refine V.ldc2 (pc' := 15) C dX0_plan_12 rfl q597 ?_
    refine V.callS (pc' := 18) (wr := [xO ad i j, wO (ad 6) (ad 7) (ad 8) (ad 9) N g, (ad 7, .inl (M.G.2 1, 20, .inl (wcl g))), (ad 8, .inl (M.G.2 0, 25, .inl (wgt g))), (ad 9, .inl (M.G.2 1, 18, .inl (wpl g)))]) C (ct_X0_in M.l M.G m 1 9 ) dX0_plan_15 rfl (lw_S q261 q262 q64 q263) hys_X0_in rfl rfl [] [0, 1, 2, 3, 4] [0, 1, 2, 3, 4] rfl rfl rfl (fun _ => [xO ad i j, wO (ad 6) (ad 7) (ad 8) (ad 9) N g, (ad 7, .inl (M.G.2 1, 20, .inl (wcl g))), (ad 8, .inl (M.G.2 0, 25, .inl (wgt g))), (ad 9, .inl (M.G.2 1, 18, .inl (wpl g)))]) (fun _ => rfl) rfl 0 0 rfl rfl (fun _ => [.int (bI (inI m 1 9))]) (fun _ => rfl) (fun _ _ => ?_)
    refine V.if_neB (pc' := 21) C 23 dX0_plan_18 rfl rfl (fun h2 => ?_) (fun h2 => ?_)
    · have hfm := in_fit19 h2
      refine V.aload_n (pc' := 24) C 0 dX0_plan_23 rfl rfl ?_
      refine V.get (pc' := 27) C dX0_plan_24 rfl 0 rfl rfl in_X0 1 rfl q183 rfl ?_
      refine V.getN (pc' := 30) C dX0_plan_27 rfl 1 rfl rfl in_X5 6 rfl q146 rfl ?_
      refine V.topI ok.2.2.1 ?_
      refine V.bipush (pc' := 32) C dX0_plan_30 rfl kcb_6 ?_
      refine V.icmp_neN (pc' := 35) C n 6 (by omega) (by omega) 38 dX0_plan_32 rfl rfl (fun h3 => ?_) (fun h3 => ?_)
      · refine V.aload_n (pc' := 39) C 0 dX0_plan_38 rfl rfl ?_
        refine V.get (pc' := 42) C dX0_plan_39 rfl 0 rfl rfl in_X0 1 rfl q183 rfl ?_
        refine V.getN (pc' := 45) C dX0_plan_42 rfl 1 rfl rfl in_X5 7 rfl q149 rfl ?_
        refine V.iconst (pc' := 46) C dX0_plan_45 rfl kci_3 ?_
        refine V.aload_n (pc' := 47) C 0 dX0_plan_46 rfl rfl ?_
        refine V.get (pc' := 50) C dX0_plan_47 rfl 0 rfl rfl in_X0 1 rfl q183 rfl ?_
        refine V.getN (pc' := 53) C dX0_plan_50 rfl 1 rfl rfl in_X5 6 rfl q146 rfl ?_
        refine V.topI ok.2.2.1 ?_
        refine V.imulN (pc' := 54) C 3 n dX0_plan_53 rfl ?_
        refine V.iload_n (pc' := 55) C 1 dX0_plan_54 rfl rfl ?_
        refine V.i2b (pc' := 56) C dX0_plan_55 rfl ?_
        refine V.bast (pc' := 57) C (3 * n) [xO ad i j, wO (ad 6) (ad 7) (ad 8) (ad 9) N g, (ad 7, .inl (M.G.2 1, 20, .inl (wcl g))), (ad 8, .inl (M.G.2 0, 25, .inl (wgt g))), (ad 9, .inl (M.G.2 1, 18, .inl (upd (wpl g) (3 * n) (nI a))))] dX0_plan_56 rfl 4 rfl (by omega) rfl (nI a) ((pk_vb _).trans (bfit_nI (by omega))) rfl ?_
        refine V.aload_n (pc' := 58) C 0 dX0_plan_57 rfl rfl ?_
        refine V.get (pc' := 61) C dX0_plan_58 rfl 0 rfl rfl in_X0 1 rfl q183 rfl ?_
        refine V.getN (pc' := 64) C dX0_plan_61 rfl 1 rfl rfl in_X5 7 rfl q149 rfl ?_
        refine V.iconst (pc' := 65) C dX0_plan_64 rfl kci_3 ?_
        refine V.aload_n (pc' := 66) C 0 dX0_plan_65 rfl rfl ?_
        refine V.get (pc' := 69) C dX0_plan_66 rfl 0 rfl rfl in_X0 1 rfl q183 rfl ?_
        refine V.getN (pc' := 72) C dX0_plan_69 rfl 1 rfl rfl in_X5 6 rfl q146 rfl ?_
        refine V.topI ok.2.2.1 ?_
        refine V.imulN (pc' := 73) C 3 n dX0_plan_72 rfl ?_
        refine V.iconst (pc' := 74) C dX0_plan_73 rfl kci_1 ?_
        refine V.iaddN (pc' := 75) C (3 * n) 1 dX0_plan_74 rfl ?_
        refine V.iload_n (pc' := 76) C 2 dX0_plan_75 rfl rfl ?_
        refine V.i2b (pc' := 77) C dX0_plan_76 rfl ?_
        refine V.bast (pc' := 78) C (3 * n + 1) [xO ad i j, wO (ad 6) (ad 7) (ad 8) (ad 9) N g, (ad 7, .inl (M.G.2 1, 20, .inl (wcl g))), (ad 8, .inl (M.G.2 0, 25, .inl (wgt g))), (ad 9, .inl (M.G.2 1, 18, .inl (upd (upd (wpl g) (3 * n) (nI a)) (3 * n + 1) (nI b))))] dX0_plan_77 rfl 4 rfl (by omega) rfl (nI b) ((pk_vb _).trans (bfit_nI (by omega))) rfl ?_
        refine V.aload_n (pc' := 79) C 0 dX0_plan_78 rfl rfl ?_
        refine V.get (pc' := 82) C dX0_plan_79 rfl 0 rfl rfl in_X0 1 rfl q183 rfl ?_
        refine V.getN (pc' := 85) C dX0_plan_82 rfl 1 rfl rfl in_X5 7 rfl q149 rfl ?_
        refine V.iconst (pc' := 86) C dX0_plan_85 rfl kci_3 ?_
        refine V.aload_n (pc' := 87) C 0 dX0_plan_86 rfl rfl ?_
        refine V.get (pc' := 90) C dX0_plan_87 rfl 0 rfl rfl in_X0 1 rfl q183 rfl ?_
        refine V.getN (pc' := 93) C dX0_plan_90 rfl 1 rfl rfl in_X5 6 rfl q146 rfl ?_
        refine V.topI ok.2.2.1 ?_
        refine V.imulN (pc' := 94) C 3 n dX0_plan_93 rfl ?_
        refine V.iconst (pc' := 95) C dX0_plan_94 rfl kci_2 ?_
        refine V.iaddN (pc' := 96) C (3 * n) 2 dX0_plan_95 rfl ?_
        refine V.iload_n (pc' := 97) C 3 dX0_plan_96 rfl rfl ?_
        refine V.i2b (pc' := 98) C dX0_plan_97 rfl ?_
        refine V.bast (pc' := 99) C (3 * n + 2) [xO ad i j, wO (ad 6) (ad 7) (ad 8) (ad 9) N g, (ad 7, .inl (M.G.2 1, 20, .inl (wcl g))), (ad 8, .inl (M.G.2 0, 25, .inl (wgt g))), (ad 9, .inl (M.G.2 1, 18, .inl (upd (upd (upd (wpl g) (3 * n) (nI a)) (3 * n + 1) (nI b)) (3 * n + 2) m)))] dX0_plan_98 rfl 4 rfl (by omega) rfl m ((pk_vb _).trans hfm) rfl ?_
        refine V.aload_n (pc' := 100) C 0 dX0_plan_99 rfl rfl ?_
        refine V.get (pc' := 103) C dX0_plan_100 rfl 0 rfl rfl in_X0 1 rfl q183 rfl ?_
        refine V.dup (pc' := 104) C rfl dX0_plan_103 rfl ?_
        refine V.getN (pc' := 107) C dX0_plan_104 rfl 1 rfl rfl in_X5 6 rfl q146 rfl ?_
        refine V.topI ok.2.2.1 ?_
        refine V.iconst (pc' := 108) C dX0_plan_107 rfl kci_1 ?_
        refine V.iaddN (pc' := 109) C n 1 dX0_plan_108 rfl ?_
        refine V.putN (pc' := 112) C [xO ad i j, (ad 6, .inr (5, [.int (nI N), .ref (ad 7), .int (g 20 + 40), .int (g 21), .int (g 22), .ref (ad 8), .int (nI (n + 1)), .ref (ad 9)])), (ad 7, .inl (M.G.2 1, 20, .inl (wcl g))), (ad 8, .inl (M.G.2 0, 25, .inl (wgt g))), (ad 9, .inl (M.G.2 1, 18, .inl (upd (upd (upd (wpl g) (3 * n) (nI a)) (3 * n + 1) (nI b)) (3 * n + 2) m)))] dX0_plan_109 rfl 1 rfl rfl in_X5 tyX5_ok nmX5 6 rfl q146 rfl rfl rfl rfl rfl ?_
        refine V.aload_n (pc' := 113) C 0 dX0_plan_112 rfl rfl ?_
        refine V.get (pc' := 116) C dX0_plan_113 rfl 0 rfl rfl in_X0 1 rfl q183 rfl ?_
        refine V.getN (pc' := 119) C dX0_plan_116 rfl 1 rfl rfl in_X5 6 rfl q146 rfl ?_
        refine V.arr 2 (wcl (upd (upd (upd (upd g (48 + 3 * n) (nI a)) (48 + 3 * n + 1) (nI b)) (48 + 3 * n + 2) m) 66 (nI (n + 1)))) (ws2 := [xO ad i j, (ad 6, .inr (5, [.int (nI N), .ref (ad 7), .int (g 20 + 40), .int (g 21), .int (g 22), .ref (ad 8), .int (nI (n + 1)), .ref (ad 9)])), (ad 7, .inl (M.G.2 1, 20, .inl (wcl (upd (upd (upd (upd g (48 + 3 * n) (nI a)) (48 + 3 * n + 1) (nI b)) (48 + 3 * n + 2) m) 66 (nI (n + 1)))))), (ad 8, .inl (M.G.2 0, 25, .inl (wgt g))), (ad 9, .inl (M.G.2 1, 18, .inl (upd (upd (upd (wpl g) (3 * n) (nI a)) (3 * n + 1) (nI b)) (3 * n + 2) m)))]) rfl (fun q hq => (wcl_hi (by omega) q hq).trans ((wcl_hi (by omega) q hq).trans ((wcl_hi (by omega) q hq).trans (wcl_hi (by omega) q hq)))) rfl ?_
        refine V.arr 3 (wgt (upd (upd (upd (upd g (48 + 3 * n) (nI a)) (48 + 3 * n + 1) (nI b)) (48 + 3 * n + 2) m) 66 (nI (n + 1)))) (ws2 := [xO ad i j, (ad 6, .inr (5, [.int (nI N), .ref (ad 7), .int (g 20 + 40), .int (g 21), .int (g 22), .ref (ad 8), .int (nI (n + 1)), .ref (ad 9)])), (ad 7, .inl (M.G.2 1, 20, .inl (wcl (upd (upd (upd (upd g (48 + 3 * n) (nI a)) (48 + 3 * n + 1) (nI b)) (48 + 3 * n + 2) m) 66 (nI (n + 1)))))), (ad 8, .inl (M.G.2 0, 25, .inl (wgt (upd (upd (upd (upd g (48 + 3 * n) (nI a)) (48 + 3 * n + 1) (nI b)) (48 + 3 * n + 2) m) 66 (nI (n + 1)))))), (ad 9, .inl (M.G.2 1, 18, .inl (upd (upd (upd (wpl g) (3 * n) (nI a)) (3 * n + 1) (nI b)) (3 * n + 2) m)))]) rfl (fun q hq => (wgt_hi (by omega) q hq).trans ((wgt_hi (by omega) q hq).trans ((wgt_hi (by omega) q hq).trans (wgt_hi (by omega) q hq)))) rfl ?_
        refine V.arr 4 (wpl (upd (upd (upd (upd g (48 + 3 * n) (nI a)) (48 + 3 * n + 1) (nI b)) (48 + 3 * n + 2) m) 66 (nI (n + 1)))) (ws2 := [xO ad i j, (ad 6, .inr (5, [.int (nI N), .ref (ad 7), .int (g 20 + 40), .int (g 21), .int (g 22), .ref (ad 8), .int (nI (n + 1)), .ref (ad 9)])), (ad 7, .inl (M.G.2 1, 20, .inl (wcl (upd (upd (upd (upd g (48 + 3 * n) (nI a)) (48 + 3 * n + 1) (nI b)) (48 + 3 * n + 2) m) 66 (nI (n + 1)))))), (ad 8, .inl (M.G.2 0, 25, .inl (wgt (upd (upd (upd (upd g (48 + 3 * n) (nI a)) (48 + 3 * n + 1) (nI b)) (48 + 3 * n + 2) m) 66 (nI (n + 1)))))), (ad 9, .inl (M.G.2 1, 18, .inl (wpl (upd (upd (upd (upd g (48 + 3 * n) (nI a)) (48 + 3 * n + 1) (nI b)) (48 + 3 * n + 2) m) 66 (nI (n + 1))))))]) rfl (fun q hq => by rw [wpl_put, wpl_put, wpl_put]; exact wpl_66 q hq) rfl ?_
        exact V.iret C T dX0_plan_119 () rfl rfl (by unfold a_plan; rw [if_pos ⟨h1, h2⟩, if_neg h3]) rfl trivial (by unfold g_plan; rw [if_pos ⟨h1, h2⟩, if_neg h3, wO_plan (by omega) (by omega) (by omega) (by omega) (by omega) (by omega)]) rfl rfl
      · refine V.bipush (pc' := 37) C dX0_plan_35 rfl kcb_m3 ?_
        exact V.iret C T dX0_plan_37 () rfl rfl (by unfold a_plan; rw [if_pos ⟨h1, h2⟩, if_pos h3]) rfl trivial (by unfold g_plan; rw [if_pos ⟨h1, h2⟩, if_pos h3]) rfl rfl
    · refine V.iconst (pc' := 22) C dX0_plan_21 rfl kci_m1 ?_
      exact V.iret C T dX0_plan_22 () rfl rfl (by unfold a_plan; rw [if_neg (fun z => h2 z.2)]) rfl trivial (by unfold g_plan; rw [if_neg (fun z => h2 z.2)]) rfl rfl
set_option maxHeartbeats 4000000 in
theorem ct_X0_most (l : Launch) (G : GG) (ad : Nat → Nat) (i : Nat → Int32) (j : Nat → Int64) (N : Nat) (g : Pg) (x : Int32) (y : Int32) (hN5 : N ≤ 5) : Ct l G yX0_most (ws_ yX0_most cX0_most 3 (some .int)) ({ frames := 5, cells := 0, slots := 0, locals := 115 } : Room) [.ref (ad 0), .int x, .int y] [xO ad i j, wO (ad 6) (ad 7) (ad 8) (ad 9) N g, (ad 7, .inl (G.2 1, 20, .inl (wcl g))), (ad 8, .inl (G.2 0, 25, .inl (wgt g))), (ad 9, .inl (G.2 1, 18, .inl (wpl g)))] (fun _ : Unit => some (.int (a_most g N x y))) (fun _ => True) (fun _ => [xO ad i j, wO (ad 6) (ad 7) (ad 8) (ad 9) N g, (ad 7, .inl (G.2 1, 20, .inl (wcl g))), (ad 8, .inl (G.2 0, 25, .inl (wgt g))), (ad 9, .inl (G.2 1, 18, .inl (wpl g)))]) := by
  refine Ct.of rfl rfl ?_
  intro M el eG hnL C T
  subst el
  subst eG
  have C : Cx M cX0_most "ClockWard" ({ frames := 5, cells := 0, slots := 0, locals := 115 } : Room) := C
  refine V.lvs [0, 1, 2] (lv2 := [(0, .ref (ad 0)), (1, .int x), (2, .int y)]) rfl ?_
  refine V.aload_n (pc' := 1) C 0 dX0_most_0 rfl rfl ?_
  refine V.iload_n (pc' := 2) C 1 dX0_most_1 rfl rfl ?_
  refine V.iload_n (pc' := 3) C 2 dX0_most_2 rfl rfl ?_
  refine V.callV (pc' := 6) (wr := []) C (ct_X0_isPair M.l M.G ad i j N g x y ) dX0_most_3 rfl (lw_V q570 q572 qs15 q64 q573) hyv_X0_isPair rfl rfl 0 rfl rfl [0, 1, 2, 3, 4] [] [0, 1, 2, 3, 4] rfl rfl rfl (fun _ => [xO ad i j, wO (ad 6) (ad 7) (ad 8) (ad 9) N g, (ad 7, .inl (M.G.2 1, 20, .inl (wcl g))), (ad 8, .inl (M.G.2 0, 25, .inl (wgt g))), (ad 9, .inl (M.G.2 1, 18, .inl (wpl g)))]) (fun _ => rfl) rfl 0 0 rfl rfl (fun _ => [.int (bI (isTwo N x y))]) (fun _ => rfl) (fun _ _ => ?_)
  refine V.if_eqB (pc' := 9) C 18 dX0_most_6 rfl rfl (fun h1 => ?_) (fun h1 => ?_)
  · refine V.iconst (pc' := 19) C dX0_most_18 rfl kci_m1 ?_
    exact V.iret C T dX0_most_19 () rfl rfl (if_neg (fun z => h1 z)).symm rfl trivial rfl rfl rfl
  · obtain ⟨a, ha, rfl⟩ := isC_nat hN5 h1.1
    obtain ⟨b, hb, rfl⟩ := isC_nat hN5 h1.2.1
    refine V.aload_n (pc' := 10) C 0 dX0_most_9 rfl rfl ?_
    refine V.iload_n (pc' := 11) C 1 dX0_most_10 rfl rfl ?_
    refine V.iload_n (pc' := 12) C 2 dX0_most_11 rfl rfl ?_
    refine V.callV (pc' := 15) (wr := []) C (ct_X0_mostNow M.l M.G ad i j N g a b (by omega) (by omega)) dX0_most_12 rfl (lw_V q606 q608 qs16 q64 q609) hyv_X0_mostNow rfl rfl 0 rfl rfl [0, 1, 2, 3, 4] [] [0, 1, 2, 3, 4] rfl rfl rfl (fun _ => [xO ad i j, wO (ad 6) (ad 7) (ad 8) (ad 9) N g, (ad 7, .inl (M.G.2 1, 20, .inl (wcl g))), (ad 8, .inl (M.G.2 0, 25, .inl (wgt g))), (ad 9, .inl (M.G.2 1, 18, .inl (wpl g)))]) (fun _ => rfl) rfl 0 0 rfl rfl (fun _ => [.int (mostTo g a b 9)]) (fun _ => rfl) (fun _ _ => ?_)
    refine V.goto C 19 dX0_most_15 rfl ?_
    exact V.iret C T dX0_most_19 () rfl rfl (Eq.trans (by rw [cn_nI (by omega), cn_nI (by omega)]) (if_pos h1).symm) rfl trivial rfl rfl rfl
set_option maxHeartbeats 4000000 in
theorem ct_X0_give (l : Launch) (G : GG) (ad : Nat → Nat) (i : Nat → Int32) (j : Nat → Int64) (N : Nat) (g : Pg) (x : Int32) (y : Int32) (m : Int32) (n : Nat) (ok : okP g N n) : Ct l G yX0_give (ws_ yX0_give cX0_give 4 (some .int)) ({ frames := 4, cells := 0, slots := 0, locals := 91 } : Room) [.ref (ad 0), .int x, .int y, .int m] [xO ad i j, wO (ad 6) (ad 7) (ad 8) (ad 9) N g, (ad 7, .inl (G.2 1, 20, .inl (wcl g))), (ad 8, .inl (G.2 0, 25, .inl (wgt g))), (ad 9, .inl (G.2 1, 18, .inl (wpl g)))] (fun _ : Unit => some (.int (a_give g N x y m))) (fun _ => True) (fun _ => [xO ad i j, wO (ad 6) (ad 7) (ad 8) (ad 9) N (g_give g N x y m), (ad 7, .inl (G.2 1, 20, .inl (wcl (g_give g N x y m)))), (ad 8, .inl (G.2 0, 25, .inl (wgt (g_give g N x y m)))), (ad 9, .inl (G.2 1, 18, .inl (wpl (g_give g N x y m))))]) := by
  refine Ct.of rfl rfl ?_
  intro M el eG hnL C T
  subst el
  subst eG
  have C : Cx M cX0_give "ClockWard" ({ frames := 4, cells := 0, slots := 0, locals := 91 } : Room) := C
  have hN5 := ok.n5
  have hn6 := ok.n6
  refine V.lvs [0, 1, 2, 3] (lv2 := [(0, .ref (ad 0)), (1, .int x), (2, .int y), (3, .int m)]) rfl ?_
  refine V.aload_n (pc' := 1) C 0 dX0_give_0 rfl rfl ?_
  refine V.iload_n (pc' := 2) C 1 dX0_give_1 rfl rfl ?_
  refine V.iload_n (pc' := 3) C 2 dX0_give_2 rfl rfl ?_
  refine V.callV (pc' := 6) (wr := []) C (ct_X0_isPair M.l M.G ad i j N g x y ) dX0_give_3 rfl (lw_V q570 q572 qs15 q64 q573) hyv_X0_isPair rfl rfl 0 rfl rfl [0, 1, 2, 3, 4] [] [0, 1, 2, 3, 4] rfl rfl rfl (fun _ => [xO ad i j, wO (ad 6) (ad 7) (ad 8) (ad 9) N g, (ad 7, .inl (M.G.2 1, 20, .inl (wcl g))), (ad 8, .inl (M.G.2 0, 25, .inl (wgt g))), (ad 9, .inl (M.G.2 1, 18, .inl (wpl g)))]) (fun _ => rfl) rfl 0 0 rfl rfl (fun _ => [.int (bI (isTwo N x y))]) (fun _ => rfl) (fun _ _ => ?_)
  refine V.if_eqB (pc' := 9) C 21 dX0_give_6 rfl rfl (fun h1 => ?_) (fun h1 => ?_)
  · refine V.iconst (pc' := 22) C dX0_give_21 rfl kci_m1 ?_
    exact V.iret C T dX0_give_22 () rfl rfl (by unfold a_give; rw [if_neg (fun z => h1 z.1)]) rfl trivial (by unfold g_give; rw [if_neg (fun z => h1 z.1)]) rfl rfl
  · obtain ⟨a, ha, rfl⟩ := isC_nat hN5 h1.1
    obtain ⟨b, hb, rfl⟩ := isC_nat hN5 h1.2.1
    refine V.iload_n (pc' := 10) C 3 dX0_give_9 rfl rfl ?_
    refine V.i2l (pc' := 11) C dX0_give_10 rfl ?_
    refine V.lconst (pc' := 12) C dX0_give_11 rfl kcl_1 ?_
    refine V.ldc2 (pc' := 15) C dX0_give_12 rfl q597 ?_
    refine V.callS (pc' := 18) (wr := [xO ad i j, wO (ad 6) (ad 7) (ad 8) (ad 9) N g, (ad 7, .inl (M.G.2 1, 20, .inl (wcl g))), (ad 8, .inl (M.G.2 0, 25, .inl (wgt g))), (ad 9, .inl (M.G.2 1, 18, .inl (wpl g)))]) C (ct_X0_in M.l M.G m 1 9 ) dX0_give_15 rfl (lw_S q261 q262 q64 q263) hys_X0_in rfl rfl [] [0, 1, 2, 3, 4] [0, 1, 2, 3, 4] rfl rfl rfl (fun _ => [xO ad i j, wO (ad 6) (ad 7) (ad 8) (ad 9) N g, (ad 7, .inl (M.G.2 1, 20, .inl (wcl g))), (ad 8, .inl (M.G.2 0, 25, .inl (wgt g))), (ad 9, .inl (M.G.2 1, 18, .inl (wpl g)))]) (fun _ => rfl) rfl 0 0 rfl rfl (fun _ => [.int (bI (inI m 1 9))]) (fun _ => rfl) (fun _ _ => ?_)
    refine V.if_neB (pc' := 21) C 23 dX0_give_18 rfl rfl (fun h2 => ?_) (fun h2 => ?_)
    · refine V.aload_n (pc' := 24) C 0 dX0_give_23 rfl rfl ?_
      refine V.get (pc' := 27) C dX0_give_24 rfl 0 rfl rfl in_X0 1 rfl q183 rfl ?_
      refine V.iload_n (pc' := 28) C 1 dX0_give_27 rfl rfl ?_
      refine V.iload_n (pc' := 29) C 2 dX0_give_28 rfl rfl ?_
      refine V.iload_n (pc' := 30) C 3 dX0_give_29 rfl rfl ?_
      refine V.callV (pc' := 33) (wr := [xO ad i j]) C (ct_X5_mayBe M.l M.G (ad 6) (ad 7) (ad 8) (ad 9) N g a b m (by omega) (by omega)) dX0_give_30 rfl (lw_V q610 q611 q612 q69 q613) hyv_X5_mayBe rfl rfl 0 rfl rfl [1, 2, 3, 4] [0] [0, 1, 2, 3, 4] rfl rfl rfl (fun _ => [xO ad i j, wO (ad 6) (ad 7) (ad 8) (ad 9) N g, (ad 7, .inl (M.G.2 1, 20, .inl (wcl g))), (ad 8, .inl (M.G.2 0, 25, .inl (wgt g))), (ad 9, .inl (M.G.2 1, 18, .inl (wpl g)))]) (fun _ => rfl) rfl 0 0 rfl rfl (fun _ => [.int (bI (may2 g g a b m))]) (fun _ => rfl) (fun _ _ => ?_)
      refine V.if_neB (pc' := 36) C 39 dX0_give_33 rfl rfl (fun h3 => ?_) (fun h3 => ?_)
      · obtain ⟨m9, hm0, hm9, em⟩ := in_nat1 (m := 9) (by decide) h2
        have hgf := (okP_give ok (a := a) (b := b) (m := m9) (by omega) (by omega) (two_ne h1) hm9 (by rw [← em]; exact h3)).2
        rw [← em] at hgf
        refine V.aload_n (pc' := 40) C 0 dX0_give_39 rfl rfl ?_
        refine V.get (pc' := 43) C dX0_give_40 rfl 0 rfl rfl in_X0 1 rfl q183 rfl ?_
        refine V.iload_n (pc' := 44) C 1 dX0_give_43 rfl rfl ?_
        refine V.iload_n (pc' := 45) C 2 dX0_give_44 rfl rfl ?_
        refine V.iload_n (pc' := 46) C 3 dX0_give_45 rfl rfl ?_
        refine V.callV (pc' := 49) (wr := [xO ad i j]) C (ct_X5_gives M.l M.G (ad 6) (ad 7) (ad 8) (ad 9) N g a b m (by omega) (by omega) hgf.1 hgf.2) dX0_give_46 rfl (lw_V q626 q627 q628 q69 q629) hyv_X5_gives rfl rfl 0 rfl rfl [1, 2, 3, 4] [0] [0, 1, 2, 3, 4] rfl rfl rfl (fun _ => [xO ad i j, wO (ad 6) (ad 7) (ad 8) (ad 9) N (give2 g g a b m), (ad 7, .inl (M.G.2 1, 20, .inl (wcl (give2 g g a b m)))), (ad 8, .inl (M.G.2 0, 25, .inl (wgt (give2 g g a b m)))), (ad 9, .inl (M.G.2 1, 18, .inl (wpl (give2 g g a b m))))]) (fun _ => rfl) rfl 0 0 rfl rfl (fun _ => []) (fun _ => rfl) (fun _ _ => ?_)
        refine V.aload_n (pc' := 50) C 0 dX0_give_49 rfl rfl ?_
        refine V.get (pc' := 53) C dX0_give_50 rfl 0 rfl rfl in_X0 1 rfl q183 rfl ?_
        refine V.iload_n (pc' := 54) C 2 dX0_give_53 rfl rfl ?_
        refine V.iconst (pc' := 55) C dX0_give_54 rfl kci_3 ?_
        refine V.callV (pc' := 58) (wr := [xO ad i j]) C (ct_X5_of M.l M.G (ad 6) (ad 7) (ad 8) (ad 9) N (give2 g g a b m) b 3 (by omega) (by omega)) dX0_give_55 rfl (lw_V q540 q524 q525 q69 q526) hyv_X5_of rfl rfl 0 rfl rfl [1, 2, 3, 4] [0] [0, 1, 2, 3, 4] rfl rfl rfl (fun _ => [xO ad i j, wO (ad 6) (ad 7) (ad 8) (ad 9) N (give2 g g a b m), (ad 7, .inl (M.G.2 1, 20, .inl (wcl (give2 g g a b m)))), (ad 8, .inl (M.G.2 0, 25, .inl (wgt (give2 g g a b m)))), (ad 9, .inl (M.G.2 1, 18, .inl (wpl (give2 g g a b m))))]) (fun _ => rfl) rfl 0 0 rfl rfl (fun _ => [.int ((give2 g g a b m) (15 + b))]) (fun _ => rfl) (fun _ _ => ?_)
        exact V.iret C T dX0_give_58 () rfl rfl (by unfold a_give; rw [if_pos ⟨h1, h2⟩, cn_nI (by omega), cn_nI (by omega), if_pos h3]) rfl trivial (by unfold g_give; rw [if_pos ⟨h1, h2⟩, cn_nI (by omega), cn_nI (by omega), if_pos h3]) rfl rfl
      · refine V.bipush (pc' := 38) C dX0_give_36 rfl kcb_m2 ?_
        exact V.iret C T dX0_give_38 () rfl rfl (by unfold a_give; rw [if_pos ⟨h1, h2⟩, cn_nI (by omega), cn_nI (by omega), if_neg h3]) rfl trivial (by unfold g_give; rw [if_pos ⟨h1, h2⟩, cn_nI (by omega), cn_nI (by omega), if_neg h3]) rfl rfl
    · refine V.iconst (pc' := 22) C dX0_give_21 rfl kci_m1 ?_
      exact V.iret C T dX0_give_22 () rfl rfl (by unfold a_give; rw [if_neg (fun z => h2 z.2)]) rfl trivial (by unfold g_give; rw [if_neg (fun z => h2 z.2)]) rfl rfl
set_option maxHeartbeats 4000000 in
theorem ct_X0_nights (l : Launch) (G : GG) (ad : Nat → Nat) (i : Nat → Int32) (j : Nat → Int64) (N : Nat) (g : Pg) (x : Int32) (hN5 : N ≤ 5) (hk : okK g) : Ct l G yX0_nights (ws_ yX0_nights cX0_nights 3 (some .int)) ({ frames := 5, cells := 0, slots := 0, locals := 107 } : Room) [.ref (ad 0), .int x] [xO ad i j, (ad 1, .inl (G.2 4, 4, .inr (.inr (.inr (.inr (fun k => some (ad (2 + k)))))))), (ad 2, .inr (1, [])), (ad 3, .inr (2, [])), (ad 4, .inr (3, [])), (ad 5, .inr (4, [])), wO (ad 6) (ad 7) (ad 8) (ad 9) N g, (ad 7, .inl (G.2 1, 20, .inl (wcl g))), (ad 8, .inl (G.2 0, 25, .inl (wgt g))), (ad 9, .inl (G.2 1, 18, .inl (wpl g)))] (fun _ : Unit => some (.int (a_nights g N x))) (fun _ => True) (fun _ => [xO ad i j, (ad 1, .inl (G.2 4, 4, .inr (.inr (.inr (.inr (fun k => some (ad (2 + k)))))))), (ad 2, .inr (1, [])), (ad 3, .inr (2, [])), (ad 4, .inr (3, [])), (ad 5, .inr (4, [])), wO (ad 6) (ad 7) (ad 8) (ad 9) N (g_nights g N x), (ad 7, .inl (G.2 1, 20, .inl (wcl (g_nights g N x)))), (ad 8, .inl (G.2 0, 25, .inl (wgt (g_nights g N x)))), (ad 9, .inl (G.2 1, 18, .inl (wpl (g_nights g N x))))]) := by
  refine Ct.of rfl rfl ?_
  intro M el eG hnL C T
  subst el
  subst eG
  have C : Cx M cX0_nights "ClockWard" ({ frames := 5, cells := 0, slots := 0, locals := 107 } : Room) := C
  refine V.lvs [0, 1] (lv2 := [(0, .ref (ad 0)), (1, .int x)]) rfl ?_
  refine V.iload_n (pc' := 1) C 1 dX0_nights_0 rfl rfl ?_
  refine V.i2l (pc' := 2) C dX0_nights_1 rfl ?_
  refine V.lconst (pc' := 3) C dX0_nights_2 rfl kcl_0 ?_
  refine V.ldc2 (pc' := 6) C dX0_nights_3 rfl q635 ?_
  refine V.callS (pc' := 9) (wr := [xO ad i j, (ad 1, .inl (M.G.2 4, 4, .inr (.inr (.inr (.inr (fun k => some (ad (2 + k)))))))), (ad 2, .inr (1, [])), (ad 3, .inr (2, [])), (ad 4, .inr (3, [])), (ad 5, .inr (4, [])), wO (ad 6) (ad 7) (ad 8) (ad 9) N g, (ad 7, .inl (M.G.2 1, 20, .inl (wcl g))), (ad 8, .inl (M.G.2 0, 25, .inl (wgt g))), (ad 9, .inl (M.G.2 1, 18, .inl (wpl g)))]) C (ct_X0_in M.l M.G x 0 30 ) dX0_nights_6 rfl (lw_S q261 q262 q64 q263) hys_X0_in rfl rfl [] [0, 1, 2, 3, 4, 5, 6, 7, 8, 9] [0, 1, 2, 3, 4, 5, 6, 7, 8, 9] rfl rfl rfl (fun _ => [xO ad i j, (ad 1, .inl (M.G.2 4, 4, .inr (.inr (.inr (.inr (fun k => some (ad (2 + k)))))))), (ad 2, .inr (1, [])), (ad 3, .inr (2, [])), (ad 4, .inr (3, [])), (ad 5, .inr (4, [])), wO (ad 6) (ad 7) (ad 8) (ad 9) N g, (ad 7, .inl (M.G.2 1, 20, .inl (wcl g))), (ad 8, .inl (M.G.2 0, 25, .inl (wgt g))), (ad 9, .inl (M.G.2 1, 18, .inl (wpl g)))]) (fun _ => rfl) rfl 0 0 rfl rfl (fun _ => [.int (bI (inI x 0 30))]) (fun _ => rfl) (fun _ _ => ?_)
  refine V.if_neB (pc' := 12) C 14 dX0_nights_9 rfl rfl (fun h1 => ?_) (fun h1 => ?_)
  · obtain ⟨m, hm, rfl⟩ := in_nat (m := 30) (by decide) h1
    refine V.aload_n (pc' := 15) C 0 dX0_nights_14 rfl rfl ?_
    refine V.get (pc' := 18) C dX0_nights_15 rfl 0 rfl rfl in_X0 1 rfl q183 rfl ?_
    refine V.getN (pc' := 21) C dX0_nights_18 rfl 6 rfl rfl in_X5 3 rfl q140 rfl ?_
    refine V.iload_n (pc' := 22) C 1 dX0_nights_21 rfl rfl ?_
    refine V.iadd (pc' := 23) C dX0_nights_22 rfl ?_
    refine V.sipush (pc' := 26) C dX0_nights_23 rfl kcs_999 ?_
    refine V.icmp_le (pc' := 29) C 32 dX0_nights_26 rfl rfl (fun h2 => ?_) (fun h2 => ?_)
    · refine V.iconst (pc' := 33) C dX0_nights_32 rfl kci_0 ?_
      refine V.istore_n (pc' := 34) C [(2, .int 0), (0, .ref (ad 0)), (1, .int (nI m))] dX0_nights_33 rfl 3 hnL rfl rfl ?_
      have L3 : ∀ q : Nat, q ≤ m → V M 0 0 [xO ad i j, (ad 1, .inl (M.G.2 4, 4, .inr (.inr (.inr (.inr (fun k => some (ad (2 + k)))))))), (ad 2, .inr (1, [])), (ad 3, .inr (2, [])), (ad 4, .inr (3, [])), (ad 5, .inr (4, [])), wO (ad 6) (ad 7) (ad 8) (ad 9) N (nightsTo g N q), (ad 7, .inl (M.G.2 1, 20, .inl (wcl (nightsTo g N q)))), (ad 8, .inl (M.G.2 0, 25, .inl (wgt (nightsTo g N q)))), (ad 9, .inl (M.G.2 1, 18, .inl (wpl (nightsTo g N q))))] [(0, .ref (ad 0)), (1, .int (nI m)), (2, .int (nI q))] [] 34 := by
        refine loopN _ m (fun q hq ih_L3 => ?_)
        refine V.iload_n (pc' := 35) C 2 dX0_nights_34 rfl rfl ?_
        refine V.iload_n (pc' := 36) C 1 dX0_nights_35 rfl rfl ?_
        refine V.icmp_geN (pc' := 39) C q m (by omega) (by omega) 53 dX0_nights_36 rfl rfl (fun h4 => ?_) (fun h4 => ?_)
        · have hx5 : m = q := by omega
          subst hx5
          refine V.aload_n (pc' := 54) C 0 dX0_nights_53 rfl rfl ?_
          refine V.get (pc' := 57) C dX0_nights_54 rfl 0 rfl rfl in_X0 1 rfl q183 rfl ?_
          refine V.callV (pc' := 60) (wr := [xO ad i j, (ad 1, .inl (M.G.2 4, 4, .inr (.inr (.inr (.inr (fun k => some (ad (2 + k)))))))), (ad 2, .inr (1, [])), (ad 3, .inr (2, [])), (ad 4, .inr (3, [])), (ad 5, .inr (4, []))]) C (ct_X5_right M.l M.G (ad 6) (ad 7) (ad 8) (ad 9) N (nightsTo g N m) (by omega)) dX0_nights_57 rfl (lw_V q519 q520 q521 q69 q522) hyv_X5_right rfl rfl 0 rfl rfl [6, 7, 8, 9] [0, 1, 2, 3, 4, 5] [0, 1, 2, 3, 4, 5, 6, 7, 8, 9] rfl rfl rfl (fun _ => [xO ad i j, (ad 1, .inl (M.G.2 4, 4, .inr (.inr (.inr (.inr (fun k => some (ad (2 + k)))))))), (ad 2, .inr (1, [])), (ad 3, .inr (2, [])), (ad 4, .inr (3, [])), (ad 5, .inr (4, [])), wO (ad 6) (ad 7) (ad 8) (ad 9) N (nightsTo g N m), (ad 7, .inl (M.G.2 1, 20, .inl (wcl (nightsTo g N m)))), (ad 8, .inl (M.G.2 0, 25, .inl (wgt (nightsTo g N m)))), (ad 9, .inl (M.G.2 1, 18, .inl (wpl (nightsTo g N m))))]) (fun _ => rfl) rfl 0 0 rfl rfl (fun _ => [.int (rightTo (nightsTo g N m) N)]) (fun _ => rfl) (fun _ _ => ?_)
          exact V.iret C T dX0_nights_60 () rfl rfl (by unfold a_nights; rw [if_pos h1, if_pos h2, cn_nI (by omega)]) rfl trivial (by unfold g_nights; rw [if_pos h1, if_pos h2, cn_nI (by omega)]) rfl rfl
        · refine V.aload_n (pc' := 40) C 0 dX0_nights_39 rfl rfl ?_
          refine V.aload_n (pc' := 41) C 0 dX0_nights_40 rfl rfl ?_
          refine V.get (pc' := 44) C dX0_nights_41 rfl 0 rfl rfl in_X0 1 rfl q183 rfl ?_
          refine V.callV (pc' := 47) (wr := []) C (ct_X0_nightGoes M.l M.G ad i j (ad 6) (ad 7) (ad 8) (ad 9) N (nightsTo g N q) hN5 (okK_nights hk N q)) dX0_nights_44 rfl (lw_V q636 q638 qs17 q64 q639) hyv_X0_nightGoes rfl rfl 0 rfl rfl [0, 1, 2, 3, 4, 5, 6, 7, 8, 9] [] [0, 1, 2, 3, 4, 5, 6, 7, 8, 9] rfl rfl rfl (fun _ => [xO ad i j, (ad 1, .inl (M.G.2 4, 4, .inr (.inr (.inr (.inr (fun k => some (ad (2 + k)))))))), (ad 2, .inr (1, [])), (ad 3, .inr (2, [])), (ad 4, .inr (3, [])), (ad 5, .inr (4, [])), wO (ad 6) (ad 7) (ad 8) (ad 9) N (night (nightsTo g N q) N), (ad 7, .inl (M.G.2 1, 20, .inl (wcl (night (nightsTo g N q) N)))), (ad 8, .inl (M.G.2 0, 25, .inl (wgt (night (nightsTo g N q) N)))), (ad 9, .inl (M.G.2 1, 18, .inl (wpl (night (nightsTo g N q) N))))]) (fun _ => rfl) rfl 0 0 rfl rfl (fun _ => []) (fun _ => rfl) (fun _ _ => ?_)
          refine V.iinc (pc' := 50) C (nI (q + 1)) [(2, .int (nI (q + 1))), (0, .ref (ad 0)), (1, .int (nI m))] dX0_nights_47 rfl 3 hnL rfl 2 rfl (ii_N q 1 rfl) rfl ?_
          refine V.goto C 34 dX0_nights_50 rfl ?_
          refine V.lvs [1, 2, 0] (lv2 := [(0, .ref (ad 0)), (1, .int (nI m)), (2, .int (nI (q + 1)))]) rfl ?_
          refine V.weq (ws2 := [xO ad i j, (ad 1, .inl (M.G.2 4, 4, .inr (.inr (.inr (.inr (fun k => some (ad (2 + k)))))))), (ad 2, .inr (1, [])), (ad 3, .inr (2, [])), (ad 4, .inr (3, [])), (ad 5, .inr (4, [])), wO (ad 6) (ad 7) (ad 8) (ad 9) N (nightsTo g N (q + 1)), (ad 7, .inl (M.G.2 1, 20, .inl (wcl (nightsTo g N (q + 1))))), (ad 8, .inl (M.G.2 0, 25, .inl (wgt (nightsTo g N (q + 1))))), (ad 9, .inl (M.G.2 1, 18, .inl (wpl (nightsTo g N (q + 1)))))]) rfl ?_
          exact ih_L3 (by omega)
      refine V.lvs [1, 2, 0] (lv2 := [(0, .ref (ad 0)), (1, .int (nI m)), (2, .int (nI 0))]) rfl ?_
      refine V.weq (ws2 := [xO ad i j, (ad 1, .inl (M.G.2 4, 4, .inr (.inr (.inr (.inr (fun k => some (ad (2 + k)))))))), (ad 2, .inr (1, [])), (ad 3, .inr (2, [])), (ad 4, .inr (3, [])), (ad 5, .inr (4, [])), wO (ad 6) (ad 7) (ad 8) (ad 9) N (nightsTo g N 0), (ad 7, .inl (M.G.2 1, 20, .inl (wcl (nightsTo g N 0)))), (ad 8, .inl (M.G.2 0, 25, .inl (wgt (nightsTo g N 0)))), (ad 9, .inl (M.G.2 1, 18, .inl (wpl (nightsTo g N 0))))]) rfl ?_
      exact L3 0 (by omega)
    · refine V.bipush (pc' := 31) C dX0_nights_29 rfl kcb_m3 ?_
      exact V.iret C T dX0_nights_31 () rfl rfl (by unfold a_nights; rw [if_pos h1, if_neg h2]) rfl trivial (by unfold g_nights; rw [if_pos h1, if_neg h2]) rfl rfl
  · refine V.iconst (pc' := 13) C dX0_nights_12 rfl kci_m1 ?_
    exact V.iret C T dX0_nights_13 () rfl rfl (by unfold a_nights; rw [if_neg h1]) rfl trivial (by unfold g_nights; rw [if_neg h1]) rfl rfl
