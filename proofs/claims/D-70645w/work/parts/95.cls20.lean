set_option maxRecDepth 100000
set_option maxHeartbeats 4000000 in
theorem ct_X0_luck (l : Launch) (G : GG) (ad : Nat → Nat) (i : Nat → Int32) (j : Nat → Int64) (N : Nat) (g : Pg) (K : Nat) (t : Pg) (v : Int32) (c : Int32) (y : Int32) (n : Nat) (ok : okP g N n) : Ct l G yX0_luck (ws_ yX0_luck cX0_luck 4 (some .long)) ({ frames := 6, cells := 0, slots := 0, locals := 145 } : Room) [.ref (ad 0), .int v, .int c, .int y] [xO ad i j, wO (ad 6) (ad 7) (ad 8) (ad 9) N g, (ad 7, .inl (G.2 1, 20, .inl (wcl g))), (ad 8, .inl (G.2 0, 25, .inl (wgt g))), (ad 9, .inl (G.2 1, 18, .inl (wpl g))), wO (ad 10) (ad 11) (ad 12) (ad 13) K t, (ad 11, .inl (G.2 1, 20, .inl (wcl t))), (ad 12, .inl (G.2 0, 25, .inl (wgt t))), (ad 13, .inl (G.2 1, 18, .inl (wpl t)))] (fun u : (Nat → Int32) × (Nat → Int64) × Nat × Pg => some (.long (a_luck g N n v c y))) (fun u => Qx i u.1) (fun u => [xO ad u.1 u.2.1, wO (ad 6) (ad 7) (ad 8) (ad 9) N g, (ad 7, .inl (G.2 1, 20, .inl (wcl g))), (ad 8, .inl (G.2 0, 25, .inl (wgt g))), (ad 9, .inl (G.2 1, 18, .inl (wpl g))), wO (ad 10) (ad 11) (ad 12) (ad 13) u.2.2.1 u.2.2.2, (ad 11, .inl (G.2 1, 20, .inl (wcl u.2.2.2))), (ad 12, .inl (G.2 0, 25, .inl (wgt u.2.2.2))), (ad 13, .inl (G.2 1, 18, .inl (wpl u.2.2.2)))]) := by
  refine Ct.of rfl rfl ?_
  intro M el eG hnL C T
  subst el
  subst eG
  have C : Cx M cX0_luck "ClockWard" ({ frames := 6, cells := 0, slots := 0, locals := 145 } : Room) := C
  have hN5 := ok.n5
  have hn6 := ok.n6
  refine V.lvs [0, 1, 2, 3] (lv2 := [(0, .ref (ad 0)), (1, .int v), (2, .int c), (3, .int y)]) rfl ?_
  refine V.iload_n (pc' := 1) C 1 dX0_luck_0 rfl rfl ?_
  refine V.i2l (pc' := 2) C dX0_luck_1 rfl ?_
  refine V.lconst (pc' := 3) C dX0_luck_2 rfl kcl_0 ?_
  refine V.ldc2 (pc' := 6) C dX0_luck_3 rfl q689 ?_
  refine V.callS (pc' := 9) (wr := [xO ad i j, wO (ad 6) (ad 7) (ad 8) (ad 9) N g, (ad 7, .inl (M.G.2 1, 20, .inl (wcl g))), (ad 8, .inl (M.G.2 0, 25, .inl (wgt g))), (ad 9, .inl (M.G.2 1, 18, .inl (wpl g))), wO (ad 10) (ad 11) (ad 12) (ad 13) K t, (ad 11, .inl (M.G.2 1, 20, .inl (wcl t))), (ad 12, .inl (M.G.2 0, 25, .inl (wgt t))), (ad 13, .inl (M.G.2 1, 18, .inl (wpl t)))]) C (ct_X0_in M.l M.G v 0 10 ) dX0_luck_6 rfl (lw_S q261 q262 q64 q263) hys_X0_in rfl rfl [] [0, 1, 2, 3, 4, 5, 6, 7, 8] [0, 1, 2, 3, 4, 5, 6, 7, 8] rfl rfl rfl (fun _ => [xO ad i j, wO (ad 6) (ad 7) (ad 8) (ad 9) N g, (ad 7, .inl (M.G.2 1, 20, .inl (wcl g))), (ad 8, .inl (M.G.2 0, 25, .inl (wgt g))), (ad 9, .inl (M.G.2 1, 18, .inl (wpl g))), wO (ad 10) (ad 11) (ad 12) (ad 13) K t, (ad 11, .inl (M.G.2 1, 20, .inl (wcl t))), (ad 12, .inl (M.G.2 0, 25, .inl (wgt t))), (ad 13, .inl (M.G.2 1, 18, .inl (wpl t)))]) (fun _ => rfl) rfl 0 0 rfl rfl (fun _ => [.int (bI (inI v 0 10))]) (fun _ => rfl) (fun _ _ => ?_)
  refine V.if_eqB (pc' := 12) C 27 dX0_luck_9 rfl rfl (fun h1 => ?_) (fun h1 => ?_)
  · refine V.ldc2 (pc' := 30) C dX0_luck_27 rfl q743 ?_
    exact V.lret C T dX0_luck_30 (i, j, K, t) rfl (if_neg (fun z => h1 z.1)).symm ⟨rfl, rfl, rfl, rfl, rfl⟩ rfl rfl rfl
  · obtain ⟨vv, hvv, rfl⟩ := in_nat (m := 10) (by decide) h1
    refine V.aload_n (pc' := 13) C 0 dX0_luck_12 rfl rfl ?_
    refine V.iload_n (pc' := 14) C 2 dX0_luck_13 rfl rfl ?_
    refine V.callV (pc' := 17) (wr := [wO (ad 10) (ad 11) (ad 12) (ad 13) K t, (ad 11, .inl (M.G.2 1, 20, .inl (wcl t))), (ad 12, .inl (M.G.2 0, 25, .inl (wgt t))), (ad 13, .inl (M.G.2 1, 18, .inl (wpl t)))]) C (ct_X0_isClock M.l M.G ad i j N g c ) dX0_luck_14 rfl (lw_V q535 q537 qs13 q64 q538) hyv_X0_isClock rfl rfl 0 rfl rfl [0, 1, 2, 3, 4] [5, 6, 7, 8] [4, 5, 6, 7, 8, 0, 1, 2, 3] rfl rfl rfl (fun _ => [xO ad i j, wO (ad 6) (ad 7) (ad 8) (ad 9) N g, (ad 7, .inl (M.G.2 1, 20, .inl (wcl g))), (ad 8, .inl (M.G.2 0, 25, .inl (wgt g))), (ad 9, .inl (M.G.2 1, 18, .inl (wpl g))), wO (ad 10) (ad 11) (ad 12) (ad 13) K t, (ad 11, .inl (M.G.2 1, 20, .inl (wcl t))), (ad 12, .inl (M.G.2 0, 25, .inl (wgt t))), (ad 13, .inl (M.G.2 1, 18, .inl (wpl t)))]) (fun _ => rfl) rfl 0 0 rfl rfl (fun _ => [.int (bI (isC N c))]) (fun _ => rfl) (fun _ _ => ?_)
    refine V.if_eqB (pc' := 20) C 27 dX0_luck_17 rfl rfl (fun h2 => ?_) (fun h2 => ?_)
    · refine V.ldc2 (pc' := 30) C dX0_luck_27 rfl q743 ?_
      exact V.lret C T dX0_luck_30 (i, j, K, t) rfl (if_neg (fun z => h2 z.2.1)).symm ⟨rfl, rfl, rfl, rfl, rfl⟩ rfl rfl rfl
    · obtain ⟨cc, hcc, rfl⟩ := isC_nat hN5 h2
      refine V.iload_n (pc' := 21) C 3 dX0_luck_20 rfl rfl ?_
      refine V.callS (pc' := 24) (wr := [xO ad i j, wO (ad 6) (ad 7) (ad 8) (ad 9) N g, (ad 7, .inl (M.G.2 1, 20, .inl (wcl g))), (ad 8, .inl (M.G.2 0, 25, .inl (wgt g))), (ad 9, .inl (M.G.2 1, 18, .inl (wpl g))), wO (ad 10) (ad 11) (ad 12) (ad 13) K t, (ad 11, .inl (M.G.2 1, 20, .inl (wcl t))), (ad 12, .inl (M.G.2 0, 25, .inl (wgt t))), (ad 13, .inl (M.G.2 1, 18, .inl (wpl t)))]) C (ct_X0_isPart M.l M.G y ) dX0_luck_21 rfl (lw_S q668 q669 q64 q670) hys_X0_isPart rfl rfl [] [0, 1, 2, 3, 4, 5, 6, 7, 8] [0, 1, 2, 3, 4, 5, 6, 7, 8] rfl rfl rfl (fun _ => [xO ad i j, wO (ad 6) (ad 7) (ad 8) (ad 9) N g, (ad 7, .inl (M.G.2 1, 20, .inl (wcl g))), (ad 8, .inl (M.G.2 0, 25, .inl (wgt g))), (ad 9, .inl (M.G.2 1, 18, .inl (wpl g))), wO (ad 10) (ad 11) (ad 12) (ad 13) K t, (ad 11, .inl (M.G.2 1, 20, .inl (wcl t))), (ad 12, .inl (M.G.2 0, 25, .inl (wgt t))), (ad 13, .inl (M.G.2 1, 18, .inl (wpl t)))]) (fun _ => rfl) rfl 0 0 rfl rfl (fun _ => [.int (bI (inI y 0 1))]) (fun _ => rfl) (fun _ _ => ?_)
      refine V.if_neB (pc' := 27) C 31 dX0_luck_24 rfl rfl (fun h3 => ?_) (fun h3 => ?_)
      · refine V.aload_n (pc' := 32) C 0 dX0_luck_31 rfl rfl ?_
        refine V.iload_n (pc' := 33) C 1 dX0_luck_32 rfl rfl ?_
        refine V.iload_n (pc' := 34) C 2 dX0_luck_33 rfl rfl ?_
        refine V.callV (pc' := 37) (wr := []) C (ct_X0_findOdds M.l M.G ad i j N g K t vv cc n ok hvv) dX0_luck_34 rfl (lw_V q744 q746 qs28 q64 q747) hyv_X0_findOdds rfl rfl 0 rfl rfl [0, 1, 2, 3, 4, 5, 6, 7, 8] [] [0, 1, 2, 3, 4, 5, 6, 7, 8] rfl rfl rfl (fun u4 => [xO ad u4.1 u4.2.1, wO (ad 6) (ad 7) (ad 8) (ad 9) N g, (ad 7, .inl (M.G.2 1, 20, .inl (wcl g))), (ad 8, .inl (M.G.2 0, 25, .inl (wgt g))), (ad 9, .inl (M.G.2 1, 18, .inl (wpl g))), wO (ad 10) (ad 11) (ad 12) (ad 13) u4.2.2.1 u4.2.2.2, (ad 11, .inl (M.G.2 1, 20, .inl (wcl u4.2.2.2))), (ad 12, .inl (M.G.2 0, 25, .inl (wgt u4.2.2.2))), (ad 13, .inl (M.G.2 1, 18, .inl (wpl u4.2.2.2)))]) (fun _ => rfl) rfl 0 0 rfl rfl (fun u4 => []) (fun _ => rfl) (fun u4 hu4 => ?_)
        refine V.aload_n (pc' := 38) C 0 dX0_luck_37 rfl rfl ?_
        refine V.get (pc' := 41) C dX0_luck_38 rfl 0 rfl rfl in_X0 17 rfl q200 rfl ?_
        refine V.topL (y := lN (odT g n vv N (wtL cc) 64)) hu4.2.1 ?_
        refine V.aload_n (pc' := 42) C 0 dX0_luck_41 rfl rfl ?_
        refine V.get (pc' := 45) C dX0_luck_42 rfl 0 rfl rfl in_X0 19 rfl q202 rfl ?_
        refine V.topL (y := lN (awT g n 6)) hu4.2.2.2 ?_
        refine V.iload_n (pc' := 46) C 3 dX0_luck_45 rfl rfl ?_
        refine V.callS (pc' := 49) (wr := [xO ad u4.1 u4.2.1, wO (ad 6) (ad 7) (ad 8) (ad 9) N g, (ad 7, .inl (M.G.2 1, 20, .inl (wcl g))), (ad 8, .inl (M.G.2 0, 25, .inl (wgt g))), (ad 9, .inl (M.G.2 1, 18, .inl (wpl g))), wO (ad 10) (ad 11) (ad 12) (ad 13) u4.2.2.1 u4.2.2.2, (ad 11, .inl (M.G.2 1, 20, .inl (wcl u4.2.2.2))), (ad 12, .inl (M.G.2 0, 25, .inl (wgt u4.2.2.2))), (ad 13, .inl (M.G.2 1, 18, .inl (wpl u4.2.2.2)))]) C (ct_X0_lowest M.l M.G (odT g n vv N (wtL cc) 64) (awT g n 6) y (od_b hn6 hvv (fun h => wtL_le cc h N)) aw_b.2 aw_b.1) dX0_luck_46 rfl (lw_S q748 q749 q64 q750) hys_X0_lowest rfl rfl [] [0, 1, 2, 3, 4, 5, 6, 7, 8] [0, 1, 2, 3, 4, 5, 6, 7, 8] rfl rfl rfl (fun _ => [xO ad u4.1 u4.2.1, wO (ad 6) (ad 7) (ad 8) (ad 9) N g, (ad 7, .inl (M.G.2 1, 20, .inl (wcl g))), (ad 8, .inl (M.G.2 0, 25, .inl (wgt g))), (ad 9, .inl (M.G.2 1, 18, .inl (wpl g))), wO (ad 10) (ad 11) (ad 12) (ad 13) u4.2.2.1 u4.2.2.2, (ad 11, .inl (M.G.2 1, 20, .inl (wcl u4.2.2.2))), (ad 12, .inl (M.G.2 0, 25, .inl (wgt u4.2.2.2))), (ad 13, .inl (M.G.2 1, 18, .inl (wpl u4.2.2.2)))]) (fun _ => rfl) rfl 0 0 rfl rfl (fun _ => [.long (lowR (odT g n vv N (wtL cc) 64) (awT g n 6) y)]) (fun _ => rfl) (fun _ _ => ?_)
        exact V.lret C T dX0_luck_49 (u4.1, u4.2.1, u4.2.2.1, u4.2.2.2) rfl (Eq.trans (by rw [cn_nI (by omega), cn_nI (by omega)]) (if_pos ⟨h1, h2, h3⟩).symm) hu4.1 rfl rfl rfl
      · refine V.ldc2 (pc' := 30) C dX0_luck_27 rfl q743 ?_
        exact V.lret C T dX0_luck_30 (i, j, K, t) rfl (if_neg (fun z => h3 z.2.2)).symm ⟨rfl, rfl, rfl, rfl, rfl⟩ rfl rfl rfl
set_option maxHeartbeats 4000000 in
theorem ct_X0_mean (l : Launch) (G : GG) (ad : Nat → Nat) (i : Nat → Int32) (j : Nat → Int64) (N : Nat) (g : Pg) (K : Nat) (t : Pg) (v : Int32) (y : Int32) (n : Nat) (ok : okP g N n) : Ct l G yX0_mean (ws_ yX0_mean cX0_mean 3 (some .long)) ({ frames := 6, cells := 0, slots := 0, locals := 145 } : Room) [.ref (ad 0), .int v, .int y] [xO ad i j, wO (ad 6) (ad 7) (ad 8) (ad 9) N g, (ad 7, .inl (G.2 1, 20, .inl (wcl g))), (ad 8, .inl (G.2 0, 25, .inl (wgt g))), (ad 9, .inl (G.2 1, 18, .inl (wpl g))), wO (ad 10) (ad 11) (ad 12) (ad 13) K t, (ad 11, .inl (G.2 1, 20, .inl (wcl t))), (ad 12, .inl (G.2 0, 25, .inl (wgt t))), (ad 13, .inl (G.2 1, 18, .inl (wpl t)))] (fun u : (Nat → Int32) × (Nat → Int64) × Nat × Pg => some (.long (a_mean g N n v y))) (fun u => Qx i u.1) (fun u => [xO ad u.1 u.2.1, wO (ad 6) (ad 7) (ad 8) (ad 9) N g, (ad 7, .inl (G.2 1, 20, .inl (wcl g))), (ad 8, .inl (G.2 0, 25, .inl (wgt g))), (ad 9, .inl (G.2 1, 18, .inl (wpl g))), wO (ad 10) (ad 11) (ad 12) (ad 13) u.2.2.1 u.2.2.2, (ad 11, .inl (G.2 1, 20, .inl (wcl u.2.2.2))), (ad 12, .inl (G.2 0, 25, .inl (wgt u.2.2.2))), (ad 13, .inl (G.2 1, 18, .inl (wpl u.2.2.2)))]) := by
  refine Ct.of rfl rfl ?_
  intro M el eG hnL C T
  subst el
  subst eG
  have C : Cx M cX0_mean "ClockWard" ({ frames := 6, cells := 0, slots := 0, locals := 145 } : Room) := C
  have hN5 := ok.n5
  have hn6 := ok.n6
  refine V.lvs [0, 1, 2] (lv2 := [(0, .ref (ad 0)), (1, .int v), (2, .int y)]) rfl ?_
  refine V.iload_n (pc' := 1) C 1 dX0_mean_0 rfl rfl ?_
  refine V.i2l (pc' := 2) C dX0_mean_1 rfl ?_
  refine V.lconst (pc' := 3) C dX0_mean_2 rfl kcl_0 ?_
  refine V.ldc2 (pc' := 6) C dX0_mean_3 rfl q689 ?_
  refine V.callS (pc' := 9) (wr := [xO ad i j, wO (ad 6) (ad 7) (ad 8) (ad 9) N g, (ad 7, .inl (M.G.2 1, 20, .inl (wcl g))), (ad 8, .inl (M.G.2 0, 25, .inl (wgt g))), (ad 9, .inl (M.G.2 1, 18, .inl (wpl g))), wO (ad 10) (ad 11) (ad 12) (ad 13) K t, (ad 11, .inl (M.G.2 1, 20, .inl (wcl t))), (ad 12, .inl (M.G.2 0, 25, .inl (wgt t))), (ad 13, .inl (M.G.2 1, 18, .inl (wpl t)))]) C (ct_X0_in M.l M.G v 0 10 ) dX0_mean_6 rfl (lw_S q261 q262 q64 q263) hys_X0_in rfl rfl [] [0, 1, 2, 3, 4, 5, 6, 7, 8] [0, 1, 2, 3, 4, 5, 6, 7, 8] rfl rfl rfl (fun _ => [xO ad i j, wO (ad 6) (ad 7) (ad 8) (ad 9) N g, (ad 7, .inl (M.G.2 1, 20, .inl (wcl g))), (ad 8, .inl (M.G.2 0, 25, .inl (wgt g))), (ad 9, .inl (M.G.2 1, 18, .inl (wpl g))), wO (ad 10) (ad 11) (ad 12) (ad 13) K t, (ad 11, .inl (M.G.2 1, 20, .inl (wcl t))), (ad 12, .inl (M.G.2 0, 25, .inl (wgt t))), (ad 13, .inl (M.G.2 1, 18, .inl (wpl t)))]) (fun _ => rfl) rfl 0 0 rfl rfl (fun _ => [.int (bI (inI v 0 10))]) (fun _ => rfl) (fun _ _ => ?_)
  refine V.if_eqB (pc' := 12) C 19 dX0_mean_9 rfl rfl (fun h1 => ?_) (fun h1 => ?_)
  · refine V.ldc2 (pc' := 22) C dX0_mean_19 rfl q743 ?_
    exact V.lret C T dX0_mean_22 (i, j, K, t) rfl (if_neg (fun z => h1 z.1)).symm ⟨rfl, rfl, rfl, rfl, rfl⟩ rfl rfl rfl
  · obtain ⟨vv, hvv, rfl⟩ := in_nat (m := 10) (by decide) h1
    refine V.iload_n (pc' := 13) C 2 dX0_mean_12 rfl rfl ?_
    refine V.callS (pc' := 16) (wr := [xO ad i j, wO (ad 6) (ad 7) (ad 8) (ad 9) N g, (ad 7, .inl (M.G.2 1, 20, .inl (wcl g))), (ad 8, .inl (M.G.2 0, 25, .inl (wgt g))), (ad 9, .inl (M.G.2 1, 18, .inl (wpl g))), wO (ad 10) (ad 11) (ad 12) (ad 13) K t, (ad 11, .inl (M.G.2 1, 20, .inl (wcl t))), (ad 12, .inl (M.G.2 0, 25, .inl (wgt t))), (ad 13, .inl (M.G.2 1, 18, .inl (wpl t)))]) C (ct_X0_isPart M.l M.G y ) dX0_mean_13 rfl (lw_S q668 q669 q64 q670) hys_X0_isPart rfl rfl [] [0, 1, 2, 3, 4, 5, 6, 7, 8] [0, 1, 2, 3, 4, 5, 6, 7, 8] rfl rfl rfl (fun _ => [xO ad i j, wO (ad 6) (ad 7) (ad 8) (ad 9) N g, (ad 7, .inl (M.G.2 1, 20, .inl (wcl g))), (ad 8, .inl (M.G.2 0, 25, .inl (wgt g))), (ad 9, .inl (M.G.2 1, 18, .inl (wpl g))), wO (ad 10) (ad 11) (ad 12) (ad 13) K t, (ad 11, .inl (M.G.2 1, 20, .inl (wcl t))), (ad 12, .inl (M.G.2 0, 25, .inl (wgt t))), (ad 13, .inl (M.G.2 1, 18, .inl (wpl t)))]) (fun _ => rfl) rfl 0 0 rfl rfl (fun _ => [.int (bI (inI y 0 1))]) (fun _ => rfl) (fun _ _ => ?_)
    refine V.if_neB (pc' := 19) C 23 dX0_mean_16 rfl rfl (fun h2 => ?_) (fun h2 => ?_)
    · refine V.aload_n (pc' := 24) C 0 dX0_mean_23 rfl rfl ?_
      refine V.iload_n (pc' := 25) C 1 dX0_mean_24 rfl rfl ?_
      refine V.iconst (pc' := 26) C dX0_mean_25 rfl kci_0 ?_
      refine V.callV (pc' := 29) (wr := []) C (ct_X0_findOdds M.l M.G ad i j N g K t vv 0 n ok hvv) dX0_mean_26 rfl (lw_V q744 q746 qs28 q64 q747) hyv_X0_findOdds rfl rfl 0 rfl rfl [0, 1, 2, 3, 4, 5, 6, 7, 8] [] [0, 1, 2, 3, 4, 5, 6, 7, 8] rfl rfl rfl (fun u3 => [xO ad u3.1 u3.2.1, wO (ad 6) (ad 7) (ad 8) (ad 9) N g, (ad 7, .inl (M.G.2 1, 20, .inl (wcl g))), (ad 8, .inl (M.G.2 0, 25, .inl (wgt g))), (ad 9, .inl (M.G.2 1, 18, .inl (wpl g))), wO (ad 10) (ad 11) (ad 12) (ad 13) u3.2.2.1 u3.2.2.2, (ad 11, .inl (M.G.2 1, 20, .inl (wcl u3.2.2.2))), (ad 12, .inl (M.G.2 0, 25, .inl (wgt u3.2.2.2))), (ad 13, .inl (M.G.2 1, 18, .inl (wpl u3.2.2.2)))]) (fun _ => rfl) rfl 0 0 rfl rfl (fun u3 => []) (fun _ => rfl) (fun u3 hu3 => ?_)
      refine V.aload_n (pc' := 30) C 0 dX0_mean_29 rfl rfl ?_
      refine V.get (pc' := 33) C dX0_mean_30 rfl 0 rfl rfl in_X0 18 rfl q201 rfl ?_
      refine V.topL (y := lN (odT g n vv N wtM 64)) hu3.2.2.1 ?_
      refine V.aload_n (pc' := 34) C 0 dX0_mean_33 rfl rfl ?_
      refine V.get (pc' := 37) C dX0_mean_34 rfl 0 rfl rfl in_X0 19 rfl q202 rfl ?_
      refine V.topL (y := lN (awT g n 6)) hu3.2.2.2 ?_
      refine V.iload_n (pc' := 38) C 2 dX0_mean_37 rfl rfl ?_
      refine V.callS (pc' := 41) (wr := [xO ad u3.1 u3.2.1, wO (ad 6) (ad 7) (ad 8) (ad 9) N g, (ad 7, .inl (M.G.2 1, 20, .inl (wcl g))), (ad 8, .inl (M.G.2 0, 25, .inl (wgt g))), (ad 9, .inl (M.G.2 1, 18, .inl (wpl g))), wO (ad 10) (ad 11) (ad 12) (ad 13) u3.2.2.1 u3.2.2.2, (ad 11, .inl (M.G.2 1, 20, .inl (wcl u3.2.2.2))), (ad 12, .inl (M.G.2 0, 25, .inl (wgt u3.2.2.2))), (ad 13, .inl (M.G.2 1, 18, .inl (wpl u3.2.2.2)))]) C (ct_X0_lowest M.l M.G (odT g n vv N wtM 64) (awT g n 6) y (od_b hn6 hvv (fun h => (wtM_r h hN5).2)) aw_b.2 aw_b.1) dX0_mean_38 rfl (lw_S q748 q749 q64 q750) hys_X0_lowest rfl rfl [] [0, 1, 2, 3, 4, 5, 6, 7, 8] [0, 1, 2, 3, 4, 5, 6, 7, 8] rfl rfl rfl (fun _ => [xO ad u3.1 u3.2.1, wO (ad 6) (ad 7) (ad 8) (ad 9) N g, (ad 7, .inl (M.G.2 1, 20, .inl (wcl g))), (ad 8, .inl (M.G.2 0, 25, .inl (wgt g))), (ad 9, .inl (M.G.2 1, 18, .inl (wpl g))), wO (ad 10) (ad 11) (ad 12) (ad 13) u3.2.2.1 u3.2.2.2, (ad 11, .inl (M.G.2 1, 20, .inl (wcl u3.2.2.2))), (ad 12, .inl (M.G.2 0, 25, .inl (wgt u3.2.2.2))), (ad 13, .inl (M.G.2 1, 18, .inl (wpl u3.2.2.2)))]) (fun _ => rfl) rfl 0 0 rfl rfl (fun _ => [.long (lowR (odT g n vv N wtM 64) (awT g n 6) y)]) (fun _ => rfl) (fun _ _ => ?_)
      exact V.lret C T dX0_mean_41 (u3.1, u3.2.1, u3.2.2.1, u3.2.2.2) rfl (Eq.trans (by rw [cn_nI (by omega)]) (if_pos ⟨h1, h2⟩).symm) hu3.1 rfl rfl rfl
    · refine V.ldc2 (pc' := 22) C dX0_mean_19 rfl q743 ?_
      exact V.lret C T dX0_mean_22 (i, j, K, t) rfl (if_neg (fun z => h2 z.2)).symm ⟨rfl, rfl, rfl, rfl, rfl⟩ rfl rfl rfl
