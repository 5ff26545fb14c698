set_option maxRecDepth 100000
set_option maxHeartbeats 4000000 in
theorem ct_X0_runs (l : Launch) (G : GG) (ad : Nat → Nat) (i : Nat → Int32) (j : Nat → Int64) (N : Nat) (g : Pg) (K : Nat) (t : Pg) (x : Int32) (n : Nat) (ok : okP g N n) : Ct l G yX0_runs (ws_ yX0_runs cX0_runs 2 (some .int)) ({ frames := 5, cells := 0, slots := 0, locals := 118 } : Room) [.ref (ad 0), .int x] [xO ad i j, wO (ad 6) (ad 7) (ad 8) (ad 9) N g, (ad 7, .inl (G.2 1, 20, .inl (wcl g))), (ad 8, .inl (G.2 0, 25, .inl (wgt g))), (ad 9, .inl (G.2 1, 18, .inl (wpl g))), wO (ad 10) (ad 11) (ad 12) (ad 13) K t, (ad 11, .inl (G.2 1, 20, .inl (wcl t))), (ad 12, .inl (G.2 0, 25, .inl (wgt t))), (ad 13, .inl (G.2 1, 18, .inl (wpl t)))] (fun u : (Nat → Int32) × (Nat → Int64) × Nat × Pg => some (.int (a_runs g N n x))) (fun u => Qx i u.1) (fun u => [xO ad u.1 u.2.1, wO (ad 6) (ad 7) (ad 8) (ad 9) N g, (ad 7, .inl (G.2 1, 20, .inl (wcl g))), (ad 8, .inl (G.2 0, 25, .inl (wgt g))), (ad 9, .inl (G.2 1, 18, .inl (wpl g))), wO (ad 10) (ad 11) (ad 12) (ad 13) u.2.2.1 u.2.2.2, (ad 11, .inl (G.2 1, 20, .inl (wcl u.2.2.2))), (ad 12, .inl (G.2 0, 25, .inl (wgt u.2.2.2))), (ad 13, .inl (G.2 1, 18, .inl (wpl u.2.2.2)))]) := by
  refine Ct.of rfl rfl ?_
  intro M el eG hnL C T
  subst el
  subst eG
  have C : Cx M cX0_runs "ClockWard" ({ frames := 5, cells := 0, slots := 0, locals := 118 } : Room) := C
  have hN5 := ok.n5
  have hn6 := ok.n6
  refine V.lvs [0, 1] (lv2 := [(0, .ref (ad 0)), (1, .int x)]) rfl ?_
  refine V.iload_n (pc' := 1) C 1 dX0_runs_0 rfl rfl ?_
  refine V.i2l (pc' := 2) C dX0_runs_1 rfl ?_
  refine V.lconst (pc' := 3) C dX0_runs_2 rfl kcl_0 ?_
  refine V.ldc2 (pc' := 6) C dX0_runs_3 rfl q583 ?_
  refine V.callS (pc' := 9) (wr := [xO ad i j, wO (ad 6) (ad 7) (ad 8) (ad 9) N g, (ad 7, .inl (M.G.2 1, 20, .inl (wcl g))), (ad 8, .inl (M.G.2 0, 25, .inl (wgt g))), (ad 9, .inl (M.G.2 1, 18, .inl (wpl g))), wO (ad 10) (ad 11) (ad 12) (ad 13) K t, (ad 11, .inl (M.G.2 1, 20, .inl (wcl t))), (ad 12, .inl (M.G.2 0, 25, .inl (wgt t))), (ad 13, .inl (M.G.2 1, 18, .inl (wpl t)))]) C (ct_X0_in M.l M.G x 0 3 ) dX0_runs_6 rfl (lw_S q261 q262 q64 q263) hys_X0_in rfl rfl [] [0, 1, 2, 3, 4, 5, 6, 7, 8] [0, 1, 2, 3, 4, 5, 6, 7, 8] rfl rfl rfl (fun _ => [xO ad i j, wO (ad 6) (ad 7) (ad 8) (ad 9) N g, (ad 7, .inl (M.G.2 1, 20, .inl (wcl g))), (ad 8, .inl (M.G.2 0, 25, .inl (wgt g))), (ad 9, .inl (M.G.2 1, 18, .inl (wpl g))), wO (ad 10) (ad 11) (ad 12) (ad 13) K t, (ad 11, .inl (M.G.2 1, 20, .inl (wcl t))), (ad 12, .inl (M.G.2 0, 25, .inl (wgt t))), (ad 13, .inl (M.G.2 1, 18, .inl (wpl t)))]) (fun _ => rfl) rfl 0 0 rfl rfl (fun _ => [.int (bI (inI x 0 3))]) (fun _ => rfl) (fun _ _ => ?_)
  refine V.if_neB (pc' := 12) C 14 dX0_runs_9 rfl rfl (fun h1 => ?_) (fun h1 => ?_)
  · refine V.aload_n (pc' := 15) C 0 dX0_runs_14 rfl rfl ?_
    refine V.get (pc' := 18) C dX0_runs_15 rfl 0 rfl rfl in_X0 2 rfl q184 rfl ?_
    refine V.aload_n (pc' := 19) C 0 dX0_runs_18 rfl rfl ?_
    refine V.get (pc' := 22) C dX0_runs_19 rfl 0 rfl rfl in_X0 1 rfl q183 rfl ?_
    refine V.callV (pc' := 25) (wr := [xO ad i j]) C (ct_X5_as M.l M.G (ad 10) (ad 11) (ad 12) (ad 13) K t (ad 6) (ad 7) (ad 8) (ad 9) N g ok.w) dX0_runs_22 rfl (lw_V q504 q505 q506 q69 q507) hyv_X5_as rfl rfl 0 rfl rfl [5, 6, 7, 8, 1, 2, 3, 4] [0] [0, 5, 6, 7, 8, 1, 2, 3, 4] rfl rfl rfl (fun _ => [xO ad i j, wO (ad 6) (ad 7) (ad 8) (ad 9) N g, (ad 7, .inl (M.G.2 1, 20, .inl (wcl g))), (ad 8, .inl (M.G.2 0, 25, .inl (wgt g))), (ad 9, .inl (M.G.2 1, 18, .inl (wpl g))), wO (ad 10) (ad 11) (ad 12) (ad 13) N g, (ad 11, .inl (M.G.2 1, 20, .inl (wcl g))), (ad 12, .inl (M.G.2 0, 25, .inl (wgt g))), (ad 13, .inl (M.G.2 1, 18, .inl (wpl g)))]) (fun _ => rfl) rfl 0 0 rfl rfl (fun _ => []) (fun _ => rfl) (fun _ _ => ?_)
    refine V.aload_n (pc' := 26) C 0 dX0_runs_25 rfl rfl ?_
    refine V.aload_n (pc' := 27) C 0 dX0_runs_26 rfl rfl ?_
    refine V.get (pc' := 30) C dX0_runs_27 rfl 0 rfl rfl in_X0 2 rfl q184 rfl ?_
    refine V.iconst (pc' := 31) C dX0_runs_30 rfl kci_0 ?_
    refine V.callV (pc' := 34) (wr := [wO (ad 6) (ad 7) (ad 8) (ad 9) N g, (ad 7, .inl (M.G.2 1, 20, .inl (wcl g))), (ad 8, .inl (M.G.2 0, 25, .inl (wgt g))), (ad 9, .inl (M.G.2 1, 18, .inl (wpl g)))]) C (ct_X0_goes M.l M.G ad i j (ad 10) (ad 11) (ad 12) (ad 13) N g 0 n ok) dX0_runs_31 rfl (lw_V q644 q646 qs18 q64 q647) hyv_X0_goes rfl rfl 0 rfl rfl [0, 5, 6, 7, 8] [1, 2, 3, 4] [4, 0, 1, 2, 3, 5, 6, 7, 8] rfl rfl rfl (fun _ => [(ad 0, .inr (0, [.ref (ad 1), .ref (ad 6), .ref (ad 10), .ref (ad 14), .ref (ad 18), .int (i 5), .ref (ad 27), .int (i 7), .int (goC g g 0 n), .int (goH g g 0 n), .ref (ad 28), .int (i 11), .int (i 12), .int (i 13), .int (i 14), .int (i 15), .ref (ad 29), .long (j 17), .long (j 18), .long (j 19), .ref (ad 30), .ref (ad 31), .ref (ad 32), .int (i 23)])), wO (ad 6) (ad 7) (ad 8) (ad 9) N g, (ad 7, .inl (M.G.2 1, 20, .inl (wcl g))), (ad 8, .inl (M.G.2 0, 25, .inl (wgt g))), (ad 9, .inl (M.G.2 1, 18, .inl (wpl g))), wO (ad 10) (ad 11) (ad 12) (ad 13) N (goG g g 0 n), (ad 11, .inl (M.G.2 1, 20, .inl (wcl (goG g g 0 n)))), (ad 12, .inl (M.G.2 0, 25, .inl (wgt (goG g g 0 n)))), (ad 13, .inl (M.G.2 1, 18, .inl (wpl (goG g g 0 n))))]) (fun _ => rfl) rfl 0 0 rfl rfl (fun _ => []) (fun _ => rfl) (fun _ _ => ?_)
    refine V.iload_n (pc' := 35) C 1 dX0_runs_34 rfl rfl ?_
    refine V.if_ne (pc' := 38) C 48 dX0_runs_35 rfl rfl (fun h2 => ?_) (fun h2 => ?_)
    · refine V.iload_n (pc' := 49) C 1 dX0_runs_48 rfl rfl ?_
      refine V.iconst (pc' := 50) C dX0_runs_49 rfl kci_1 ?_
      refine V.icmp_ne (pc' := 53) C 60 dX0_runs_50 rfl rfl (fun h3 => ?_) (fun h3 => ?_)
      · refine V.iload_n (pc' := 61) C 1 dX0_runs_60 rfl rfl ?_
        refine V.iconst (pc' := 62) C dX0_runs_61 rfl kci_2 ?_
        refine V.icmp_ne (pc' := 65) C 72 dX0_runs_62 rfl rfl (fun h4 => ?_) (fun h4 => ?_)
        · refine V.aload_n (pc' := 73) C 0 dX0_runs_72 rfl rfl ?_
          refine V.get (pc' := 76) C dX0_runs_73 rfl 0 rfl rfl in_X0 2 rfl q184 rfl ?_
          refine V.getN (pc' := 79) C dX0_runs_76 rfl 5 rfl rfl in_X5 4 rfl q142 rfl ?_
          refine V.aload_n (pc' := 80) C 0 dX0_runs_79 rfl rfl ?_
          refine V.get (pc' := 83) C dX0_runs_80 rfl 0 rfl rfl in_X0 1 rfl q183 rfl ?_
          refine V.getN (pc' := 86) C dX0_runs_83 rfl 1 rfl rfl in_X5 4 rfl q142 rfl ?_
          refine V.isub (pc' := 87) C dX0_runs_86 rfl ?_
          exact V.iret C T dX0_runs_87 (upd (upd i 8 (goC g g 0 n)) 9 (goH g g 0 n), j, N, goG g g 0 n) rfl rfl (Eq.trans (by rw [if_neg h2, if_neg h3, if_neg h4]) (if_pos h1).symm) rfl ⟨rfl, rfl, rfl, rfl, rfl⟩ rfl rfl rfl
        · refine V.aload_n (pc' := 66) C 0 dX0_runs_65 rfl rfl ?_
          refine V.get (pc' := 69) C dX0_runs_66 rfl 0 rfl rfl in_X0 9 rfl q191 rfl ?_
          refine V.goto C 87 dX0_runs_69 rfl ?_
          exact V.iret C T dX0_runs_87 (upd (upd i 8 (goC g g 0 n)) 9 (goH g g 0 n), j, N, goG g g 0 n) rfl rfl (Eq.trans (by rw [goH_0, if_neg h2, if_neg h3, if_pos h4]) (if_pos h1).symm) rfl ⟨rfl, rfl, rfl, rfl, rfl⟩ rfl rfl rfl
      · refine V.aload_n (pc' := 54) C 0 dX0_runs_53 rfl rfl ?_
        refine V.get (pc' := 57) C dX0_runs_54 rfl 0 rfl rfl in_X0 8 rfl q190 rfl ?_
        refine V.goto C 87 dX0_runs_57 rfl ?_
        exact V.iret C T dX0_runs_87 (upd (upd i 8 (goC g g 0 n)) 9 (goH g g 0 n), j, N, goG g g 0 n) rfl rfl (Eq.trans (by rw [if_neg h2, if_pos h3]) (if_pos h1).symm) rfl ⟨rfl, rfl, rfl, rfl, rfl⟩ rfl rfl rfl
    · refine V.aload_n (pc' := 39) C 0 dX0_runs_38 rfl rfl ?_
      refine V.get (pc' := 42) C dX0_runs_39 rfl 0 rfl rfl in_X0 2 rfl q184 rfl ?_
      refine V.callV (pc' := 45) (wr := [(ad 0, .inr (0, [.ref (ad 1), .ref (ad 6), .ref (ad 10), .ref (ad 14), .ref (ad 18), .int (i 5), .ref (ad 27), .int (i 7), .int (goC g g 0 n), .int (goH g g 0 n), .ref (ad 28), .int (i 11), .int (i 12), .int (i 13), .int (i 14), .int (i 15), .ref (ad 29), .long (j 17), .long (j 18), .long (j 19), .ref (ad 30), .ref (ad 31), .ref (ad 32), .int (i 23)])), wO (ad 6) (ad 7) (ad 8) (ad 9) N g, (ad 7, .inl (M.G.2 1, 20, .inl (wcl g))), (ad 8, .inl (M.G.2 0, 25, .inl (wgt g))), (ad 9, .inl (M.G.2 1, 18, .inl (wpl g)))]) C (ct_X5_right M.l M.G (ad 10) (ad 11) (ad 12) (ad 13) N (goG g g 0 n) (by omega)) dX0_runs_42 rfl (lw_V q519 q520 q521 q69 q522) hyv_X5_right rfl rfl 0 rfl rfl [5, 6, 7, 8] [0, 1, 2, 3, 4] [0, 1, 2, 3, 4, 5, 6, 7, 8] rfl rfl rfl (fun _ => [(ad 0, .inr (0, [.ref (ad 1), .ref (ad 6), .ref (ad 10), .ref (ad 14), .ref (ad 18), .int (i 5), .ref (ad 27), .int (i 7), .int (goC g g 0 n), .int (goH g g 0 n), .ref (ad 28), .int (i 11), .int (i 12), .int (i 13), .int (i 14), .int (i 15), .ref (ad 29), .long (j 17), .long (j 18), .long (j 19), .ref (ad 30), .ref (ad 31), .ref (ad 32), .int (i 23)])), wO (ad 6) (ad 7) (ad 8) (ad 9) N g, (ad 7, .inl (M.G.2 1, 20, .inl (wcl g))), (ad 8, .inl (M.G.2 0, 25, .inl (wgt g))), (ad 9, .inl (M.G.2 1, 18, .inl (wpl g))), wO (ad 10) (ad 11) (ad 12) (ad 13) N (goG g g 0 n), (ad 11, .inl (M.G.2 1, 20, .inl (wcl (goG g g 0 n)))), (ad 12, .inl (M.G.2 0, 25, .inl (wgt (goG g g 0 n)))), (ad 13, .inl (M.G.2 1, 18, .inl (wpl (goG g g 0 n))))]) (fun _ => rfl) rfl 0 0 rfl rfl (fun _ => [.int (rightTo (goG g g 0 n) N)]) (fun _ => rfl) (fun _ _ => ?_)
      refine V.goto C 87 dX0_runs_45 rfl ?_
      exact V.iret C T dX0_runs_87 (upd (upd i 8 (goC g g 0 n)) 9 (goH g g 0 n), j, N, goG g g 0 n) rfl rfl (Eq.trans (by rw [if_pos h2]) (if_pos h1).symm) rfl ⟨rfl, rfl, rfl, rfl, rfl⟩ rfl rfl rfl
  · refine V.iconst (pc' := 13) C dX0_runs_12 rfl kci_m1 ?_
    exact V.iret C T dX0_runs_13 (i, j, K, t) rfl rfl (if_neg (fun z => h1 z)).symm rfl ⟨rfl, rfl, rfl, rfl, rfl⟩ rfl rfl rfl
set_option maxHeartbeats 4000000 in
theorem ct_X0_ahead (l : Launch) (G : GG) (ad : Nat → Nat) (i : Nat → Int32) (j : Nat → Int64) (N : Nat) (g : Pg) (K : Nat) (t : Pg) (x : Int32) (n : Nat) (ok : okP g N n) : Ct l G yX0_ahead (ws_ yX0_ahead cX0_ahead 2 (some .int)) ({ frames := 5, cells := 0, slots := 0, locals := 118 } : Room) [.ref (ad 0), .int x] [xO ad i j, wO (ad 6) (ad 7) (ad 8) (ad 9) N g, (ad 7, .inl (G.2 1, 20, .inl (wcl g))), (ad 8, .inl (G.2 0, 25, .inl (wgt g))), (ad 9, .inl (G.2 1, 18, .inl (wpl g))), wO (ad 10) (ad 11) (ad 12) (ad 13) K t, (ad 11, .inl (G.2 1, 20, .inl (wcl t))), (ad 12, .inl (G.2 0, 25, .inl (wgt t))), (ad 13, .inl (G.2 1, 18, .inl (wpl t)))] (fun u : (Nat → Int32) × (Nat → Int64) × Nat × Pg => some (.int (a_ahead g N n x))) (fun u => Qx i u.1) (fun u => [xO ad u.1 u.2.1, wO (ad 6) (ad 7) (ad 8) (ad 9) N g, (ad 7, .inl (G.2 1, 20, .inl (wcl g))), (ad 8, .inl (G.2 0, 25, .inl (wgt g))), (ad 9, .inl (G.2 1, 18, .inl (wpl g))), wO (ad 10) (ad 11) (ad 12) (ad 13) u.2.2.1 u.2.2.2, (ad 11, .inl (G.2 1, 20, .inl (wcl u.2.2.2))), (ad 12, .inl (G.2 0, 25, .inl (wgt u.2.2.2))), (ad 13, .inl (G.2 1, 18, .inl (wpl u.2.2.2)))]) := by
  refine Ct.of rfl rfl ?_
  intro M el eG hnL C T
  subst el
  subst eG
  have C : Cx M cX0_ahead "ClockWard" ({ frames := 5, cells := 0, slots := 0, locals := 118 } : Room) := C
  have hN5 := ok.n5
  have hn6 := ok.n6
  refine V.lvs [0, 1] (lv2 := [(0, .ref (ad 0)), (1, .int x)]) rfl ?_
  refine V.aload_n (pc' := 1) C 0 dX0_ahead_0 rfl rfl ?_
  refine V.iload_n (pc' := 2) C 1 dX0_ahead_1 rfl rfl ?_
  refine V.callV (pc' := 5) (wr := [wO (ad 10) (ad 11) (ad 12) (ad 13) K t, (ad 11, .inl (M.G.2 1, 20, .inl (wcl t))), (ad 12, .inl (M.G.2 0, 25, .inl (wgt t))), (ad 13, .inl (M.G.2 1, 18, .inl (wpl t)))]) C (ct_X0_isClock M.l M.G ad i j N g x ) dX0_ahead_2 rfl (lw_V q535 q537 qs13 q64 q538) hyv_X0_isClock rfl rfl 0 rfl rfl [0, 1, 2, 3, 4] [5, 6, 7, 8] [4, 5, 6, 7, 8, 0, 1, 2, 3] rfl rfl rfl (fun _ => [xO ad i j, wO (ad 6) (ad 7) (ad 8) (ad 9) N g, (ad 7, .inl (M.G.2 1, 20, .inl (wcl g))), (ad 8, .inl (M.G.2 0, 25, .inl (wgt g))), (ad 9, .inl (M.G.2 1, 18, .inl (wpl g))), wO (ad 10) (ad 11) (ad 12) (ad 13) K t, (ad 11, .inl (M.G.2 1, 20, .inl (wcl t))), (ad 12, .inl (M.G.2 0, 25, .inl (wgt t))), (ad 13, .inl (M.G.2 1, 18, .inl (wpl t)))]) (fun _ => rfl) rfl 0 0 rfl rfl (fun _ => [.int (bI (isC N x))]) (fun _ => rfl) (fun _ _ => ?_)
  refine V.if_neB (pc' := 8) C 10 dX0_ahead_5 rfl rfl (fun h1 => ?_) (fun h1 => ?_)
  · obtain ⟨c, hc, rfl⟩ := isC_nat hN5 h1
    refine V.aload_n (pc' := 11) C 0 dX0_ahead_10 rfl rfl ?_
    refine V.get (pc' := 14) C dX0_ahead_11 rfl 0 rfl rfl in_X0 2 rfl q184 rfl ?_
    refine V.aload_n (pc' := 15) C 0 dX0_ahead_14 rfl rfl ?_
    refine V.get (pc' := 18) C dX0_ahead_15 rfl 0 rfl rfl in_X0 1 rfl q183 rfl ?_
    refine V.callV (pc' := 21) (wr := [xO ad i j]) C (ct_X5_as M.l M.G (ad 10) (ad 11) (ad 12) (ad 13) K t (ad 6) (ad 7) (ad 8) (ad 9) N g ok.w) dX0_ahead_18 rfl (lw_V q504 q505 q506 q69 q507) hyv_X5_as rfl rfl 0 rfl rfl [5, 6, 7, 8, 1, 2, 3, 4] [0] [0, 5, 6, 7, 8, 1, 2, 3, 4] rfl rfl rfl (fun _ => [xO ad i j, wO (ad 6) (ad 7) (ad 8) (ad 9) N g, (ad 7, .inl (M.G.2 1, 20, .inl (wcl g))), (ad 8, .inl (M.G.2 0, 25, .inl (wgt g))), (ad 9, .inl (M.G.2 1, 18, .inl (wpl g))), wO (ad 10) (ad 11) (ad 12) (ad 13) N g, (ad 11, .inl (M.G.2 1, 20, .inl (wcl g))), (ad 12, .inl (M.G.2 0, 25, .inl (wgt g))), (ad 13, .inl (M.G.2 1, 18, .inl (wpl g)))]) (fun _ => rfl) rfl 0 0 rfl rfl (fun _ => []) (fun _ => rfl) (fun _ _ => ?_)
    refine V.aload_n (pc' := 22) C 0 dX0_ahead_21 rfl rfl ?_
    refine V.aload_n (pc' := 23) C 0 dX0_ahead_22 rfl rfl ?_
    refine V.get (pc' := 26) C dX0_ahead_23 rfl 0 rfl rfl in_X0 2 rfl q184 rfl ?_
    refine V.iconst (pc' := 27) C dX0_ahead_26 rfl kci_0 ?_
    refine V.callV (pc' := 30) (wr := [wO (ad 6) (ad 7) (ad 8) (ad 9) N g, (ad 7, .inl (M.G.2 1, 20, .inl (wcl g))), (ad 8, .inl (M.G.2 0, 25, .inl (wgt g))), (ad 9, .inl (M.G.2 1, 18, .inl (wpl g)))]) C (ct_X0_goes M.l M.G ad i j (ad 10) (ad 11) (ad 12) (ad 13) N g 0 n ok) dX0_ahead_27 rfl (lw_V q644 q646 qs18 q64 q647) hyv_X0_goes rfl rfl 0 rfl rfl [0, 5, 6, 7, 8] [1, 2, 3, 4] [4, 0, 1, 2, 3, 5, 6, 7, 8] rfl rfl rfl (fun _ => [(ad 0, .inr (0, [.ref (ad 1), .ref (ad 6), .ref (ad 10), .ref (ad 14), .ref (ad 18), .int (i 5), .ref (ad 27), .int (i 7), .int (goC g g 0 n), .int (goH g g 0 n), .ref (ad 28), .int (i 11), .int (i 12), .int (i 13), .int (i 14), .int (i 15), .ref (ad 29), .long (j 17), .long (j 18), .long (j 19), .ref (ad 30), .ref (ad 31), .ref (ad 32), .int (i 23)])), wO (ad 6) (ad 7) (ad 8) (ad 9) N g, (ad 7, .inl (M.G.2 1, 20, .inl (wcl g))), (ad 8, .inl (M.G.2 0, 25, .inl (wgt g))), (ad 9, .inl (M.G.2 1, 18, .inl (wpl g))), wO (ad 10) (ad 11) (ad 12) (ad 13) N (goG g g 0 n), (ad 11, .inl (M.G.2 1, 20, .inl (wcl (goG g g 0 n)))), (ad 12, .inl (M.G.2 0, 25, .inl (wgt (goG g g 0 n)))), (ad 13, .inl (M.G.2 1, 18, .inl (wpl (goG g g 0 n))))]) (fun _ => rfl) rfl 0 0 rfl rfl (fun _ => []) (fun _ => rfl) (fun _ _ => ?_)
    refine V.aload_n (pc' := 31) C 0 dX0_ahead_30 rfl rfl ?_
    refine V.get (pc' := 34) C dX0_ahead_31 rfl 0 rfl rfl in_X0 2 rfl q184 rfl ?_
    refine V.iload_n (pc' := 35) C 1 dX0_ahead_34 rfl rfl ?_
    refine V.iconst (pc' := 36) C dX0_ahead_35 rfl kci_3 ?_
    refine V.callV (pc' := 39) (wr := [(ad 0, .inr (0, [.ref (ad 1), .ref (ad 6), .ref (ad 10), .ref (ad 14), .ref (ad 18), .int (i 5), .ref (ad 27), .int (i 7), .int (goC g g 0 n), .int (goH g g 0 n), .ref (ad 28), .int (i 11), .int (i 12), .int (i 13), .int (i 14), .int (i 15), .ref (ad 29), .long (j 17), .long (j 18), .long (j 19), .ref (ad 30), .ref (ad 31), .ref (ad 32), .int (i 23)])), wO (ad 6) (ad 7) (ad 8) (ad 9) N g, (ad 7, .inl (M.G.2 1, 20, .inl (wcl g))), (ad 8, .inl (M.G.2 0, 25, .inl (wgt g))), (ad 9, .inl (M.G.2 1, 18, .inl (wpl g)))]) C (ct_X5_of M.l M.G (ad 10) (ad 11) (ad 12) (ad 13) N (goG g g 0 n) c 3 (by omega) (by omega)) dX0_ahead_36 rfl (lw_V q540 q524 q525 q69 q526) hyv_X5_of rfl rfl 0 rfl rfl [5, 6, 7, 8] [0, 1, 2, 3, 4] [0, 1, 2, 3, 4, 5, 6, 7, 8] rfl rfl rfl (fun _ => [(ad 0, .inr (0, [.ref (ad 1), .ref (ad 6), .ref (ad 10), .ref (ad 14), .ref (ad 18), .int (i 5), .ref (ad 27), .int (i 7), .int (goC g g 0 n), .int (goH g g 0 n), .ref (ad 28), .int (i 11), .int (i 12), .int (i 13), .int (i 14), .int (i 15), .ref (ad 29), .long (j 17), .long (j 18), .long (j 19), .ref (ad 30), .ref (ad 31), .ref (ad 32), .int (i 23)])), wO (ad 6) (ad 7) (ad 8) (ad 9) N g, (ad 7, .inl (M.G.2 1, 20, .inl (wcl g))), (ad 8, .inl (M.G.2 0, 25, .inl (wgt g))), (ad 9, .inl (M.G.2 1, 18, .inl (wpl g))), wO (ad 10) (ad 11) (ad 12) (ad 13) N (goG g g 0 n), (ad 11, .inl (M.G.2 1, 20, .inl (wcl (goG g g 0 n)))), (ad 12, .inl (M.G.2 0, 25, .inl (wgt (goG g g 0 n)))), (ad 13, .inl (M.G.2 1, 18, .inl (wpl (goG g g 0 n))))]) (fun _ => rfl) rfl 0 0 rfl rfl (fun _ => [.int ((goG g g 0 n) (15 + c))]) (fun _ => rfl) (fun _ _ => ?_)
    exact V.iret C T dX0_ahead_39 (upd (upd i 8 (goC g g 0 n)) 9 (goH g g 0 n), j, N, goG g g 0 n) rfl rfl (Eq.trans (by rw [cn_nI (by omega)]) (if_pos h1).symm) rfl ⟨rfl, rfl, rfl, rfl, rfl⟩ rfl rfl rfl
  · refine V.iconst (pc' := 9) C dX0_ahead_8 rfl kci_m1 ?_
    exact V.iret C T dX0_ahead_9 (i, j, K, t) rfl rfl (if_neg (fun z => h1 z)).symm rfl ⟨rfl, rfl, rfl, rfl, rfl⟩ rfl rfl rfl
set_option maxHeartbeats 4000000 in
theorem ct_X0_later (l : Launch) (G : GG) (ad : Nat → Nat) (i : Nat → Int32) (j : Nat → Int64) (N : Nat) (g : Pg) (K : Nat) (t : Pg) (x : Int32) (y : Int32) (n : Nat) (ok : okP g N n) : Ct l G yX0_later (ws_ yX0_later cX0_later 4 (some .int)) ({ frames := 5, cells := 0, slots := 0, locals := 107 } : Room) [.ref (ad 0), .int x, .int y] [xO ad i j, (ad 1, .inl (G.2 4, 4, .inr (.inr (.inr (.inr (fun k => some (ad (2 + k)))))))), (ad 2, .inr (1, [])), (ad 3, .inr (2, [])), (ad 4, .inr (3, [])), (ad 5, .inr (4, [])), wO (ad 6) (ad 7) (ad 8) (ad 9) N g, (ad 7, .inl (G.2 1, 20, .inl (wcl g))), (ad 8, .inl (G.2 0, 25, .inl (wgt g))), (ad 9, .inl (G.2 1, 18, .inl (wpl g))), wO (ad 10) (ad 11) (ad 12) (ad 13) K t, (ad 11, .inl (G.2 1, 20, .inl (wcl t))), (ad 12, .inl (G.2 0, 25, .inl (wgt t))), (ad 13, .inl (G.2 1, 18, .inl (wpl t)))] (fun u : (Nat → Int32) × (Nat → Int64) × Nat × Pg => some (.int (a_later g N x y))) (fun u => Qx i u.1) (fun u => [xO ad u.1 u.2.1, (ad 1, .inl (G.2 4, 4, .inr (.inr (.inr (.inr (fun k => some (ad (2 + k)))))))), (ad 2, .inr (1, [])), (ad 3, .inr (2, [])), (ad 4, .inr (3, [])), (ad 5, .inr (4, [])), wO (ad 6) (ad 7) (ad 8) (ad 9) N g, (ad 7, .inl (G.2 1, 20, .inl (wcl g))), (ad 8, .inl (G.2 0, 25, .inl (wgt g))), (ad 9, .inl (G.2 1, 18, .inl (wpl g))), wO (ad 10) (ad 11) (ad 12) (ad 13) u.2.2.1 u.2.2.2, (ad 11, .inl (G.2 1, 20, .inl (wcl u.2.2.2))), (ad 12, .inl (G.2 0, 25, .inl (wgt u.2.2.2))), (ad 13, .inl (G.2 1, 18, .inl (wpl u.2.2.2)))]) := by
  refine Ct.of rfl rfl ?_
  intro M el eG hnL C T
  subst el
  subst eG
  have C : Cx M cX0_later "ClockWard" ({ frames := 5, cells := 0, slots := 0, locals := 107 } : Room) := C
  have hN5 := ok.n5
  have hn6 := ok.n6
  refine V.lvs [0, 1, 2] (lv2 := [(0, .ref (ad 0)), (1, .int x), (2, .int y)]) rfl ?_
  refine V.aload_n (pc' := 1) C 0 dX0_later_0 rfl rfl ?_
  refine V.iload_n (pc' := 2) C 1 dX0_later_1 rfl rfl ?_
  refine V.callV (pc' := 5) (wr := [(ad 1, .inl (M.G.2 4, 4, .inr (.inr (.inr (.inr (fun k => some (ad (2 + k)))))))), (ad 2, .inr (1, [])), (ad 3, .inr (2, [])), (ad 4, .inr (3, [])), (ad 5, .inr (4, [])), wO (ad 10) (ad 11) (ad 12) (ad 13) K t, (ad 11, .inl (M.G.2 1, 20, .inl (wcl t))), (ad 12, .inl (M.G.2 0, 25, .inl (wgt t))), (ad 13, .inl (M.G.2 1, 18, .inl (wpl t)))]) C (ct_X0_isClock M.l M.G ad i j N g x ) dX0_later_2 rfl (lw_V q535 q537 qs13 q64 q538) hyv_X0_isClock rfl rfl 0 rfl rfl [0, 6, 7, 8, 9] [1, 2, 3, 4, 5, 10, 11, 12, 13] [9, 0, 1, 2, 3, 4, 10, 11, 12, 13, 5, 6, 7, 8] rfl rfl rfl (fun _ => [xO ad i j, (ad 1, .inl (M.G.2 4, 4, .inr (.inr (.inr (.inr (fun k => some (ad (2 + k)))))))), (ad 2, .inr (1, [])), (ad 3, .inr (2, [])), (ad 4, .inr (3, [])), (ad 5, .inr (4, [])), wO (ad 6) (ad 7) (ad 8) (ad 9) N g, (ad 7, .inl (M.G.2 1, 20, .inl (wcl g))), (ad 8, .inl (M.G.2 0, 25, .inl (wgt g))), (ad 9, .inl (M.G.2 1, 18, .inl (wpl g))), wO (ad 10) (ad 11) (ad 12) (ad 13) K t, (ad 11, .inl (M.G.2 1, 20, .inl (wcl t))), (ad 12, .inl (M.G.2 0, 25, .inl (wgt t))), (ad 13, .inl (M.G.2 1, 18, .inl (wpl t)))]) (fun _ => rfl) rfl 0 0 rfl rfl (fun _ => [.int (bI (isC N x))]) (fun _ => rfl) (fun _ _ => ?_)
  refine V.if_eqB (pc' := 8) C 20 dX0_later_5 rfl rfl (fun h1 => ?_) (fun h1 => ?_)
  · refine V.iconst (pc' := 21) C dX0_later_20 rfl kci_m1 ?_
    exact V.iret C T dX0_later_21 (i, j, K, t) rfl rfl (if_neg (fun z => h1 z.1)).symm rfl ⟨rfl, rfl, rfl, rfl, rfl⟩ rfl rfl rfl
  · obtain ⟨c, hc, rfl⟩ := isC_nat hN5 h1
    refine V.iload_n (pc' := 9) C 2 dX0_later_8 rfl rfl ?_
    refine V.i2l (pc' := 10) C dX0_later_9 rfl ?_
    refine V.lconst (pc' := 11) C dX0_later_10 rfl kcl_0 ?_
    refine V.ldc2 (pc' := 14) C dX0_later_11 rfl q659 ?_
    refine V.callS (pc' := 17) (wr := [xO ad i j, (ad 1, .inl (M.G.2 4, 4, .inr (.inr (.inr (.inr (fun k => some (ad (2 + k)))))))), (ad 2, .inr (1, [])), (ad 3, .inr (2, [])), (ad 4, .inr (3, [])), (ad 5, .inr (4, [])), wO (ad 6) (ad 7) (ad 8) (ad 9) N g, (ad 7, .inl (M.G.2 1, 20, .inl (wcl g))), (ad 8, .inl (M.G.2 0, 25, .inl (wgt g))), (ad 9, .inl (M.G.2 1, 18, .inl (wpl g))), wO (ad 10) (ad 11) (ad 12) (ad 13) K t, (ad 11, .inl (M.G.2 1, 20, .inl (wcl t))), (ad 12, .inl (M.G.2 0, 25, .inl (wgt t))), (ad 13, .inl (M.G.2 1, 18, .inl (wpl t)))]) C (ct_X0_in M.l M.G y 0 60 ) dX0_later_14 rfl (lw_S q261 q262 q64 q263) hys_X0_in rfl rfl [] [0, 1, 2, 3, 4, 5, 6, 7, 8, 9, 10, 11, 12, 13] [0, 1, 2, 3, 4, 5, 6, 7, 8, 9, 10, 11, 12, 13] rfl rfl rfl (fun _ => [xO ad i j, (ad 1, .inl (M.G.2 4, 4, .inr (.inr (.inr (.inr (fun k => some (ad (2 + k)))))))), (ad 2, .inr (1, [])), (ad 3, .inr (2, [])), (ad 4, .inr (3, [])), (ad 5, .inr (4, [])), wO (ad 6) (ad 7) (ad 8) (ad 9) N g, (ad 7, .inl (M.G.2 1, 20, .inl (wcl g))), (ad 8, .inl (M.G.2 0, 25, .inl (wgt g))), (ad 9, .inl (M.G.2 1, 18, .inl (wpl g))), wO (ad 10) (ad 11) (ad 12) (ad 13) K t, (ad 11, .inl (M.G.2 1, 20, .inl (wcl t))), (ad 12, .inl (M.G.2 0, 25, .inl (wgt t))), (ad 13, .inl (M.G.2 1, 18, .inl (wpl t)))]) (fun _ => rfl) rfl 0 0 rfl rfl (fun _ => [.int (bI (inI y 0 60))]) (fun _ => rfl) (fun _ _ => ?_)
    refine V.if_neB (pc' := 20) C 22 dX0_later_17 rfl rfl (fun h2 => ?_) (fun h2 => ?_)
    · obtain ⟨m, hm, rfl⟩ := in_nat (m := 60) (by decide) h2
      refine V.aload_n (pc' := 23) C 0 dX0_later_22 rfl rfl ?_
      refine V.get (pc' := 26) C dX0_later_23 rfl 0 rfl rfl in_X0 2 rfl q184 rfl ?_
      refine V.aload_n (pc' := 27) C 0 dX0_later_26 rfl rfl ?_
      refine V.get (pc' := 30) C dX0_later_27 rfl 0 rfl rfl in_X0 1 rfl q183 rfl ?_
      refine V.callV (pc' := 33) (wr := [xO ad i j, (ad 1, .inl (M.G.2 4, 4, .inr (.inr (.inr (.inr (fun k => some (ad (2 + k)))))))), (ad 2, .inr (1, [])), (ad 3, .inr (2, [])), (ad 4, .inr (3, [])), (ad 5, .inr (4, []))]) C (ct_X5_as M.l M.G (ad 10) (ad 11) (ad 12) (ad 13) K t (ad 6) (ad 7) (ad 8) (ad 9) N g ok.w) dX0_later_30 rfl (lw_V q504 q505 q506 q69 q507) hyv_X5_as rfl rfl 0 rfl rfl [10, 11, 12, 13, 6, 7, 8, 9] [0, 1, 2, 3, 4, 5] [0, 1, 2, 3, 4, 5, 10, 11, 12, 13, 6, 7, 8, 9] rfl rfl rfl (fun _ => [xO ad i j, (ad 1, .inl (M.G.2 4, 4, .inr (.inr (.inr (.inr (fun k => some (ad (2 + k)))))))), (ad 2, .inr (1, [])), (ad 3, .inr (2, [])), (ad 4, .inr (3, [])), (ad 5, .inr (4, [])), wO (ad 6) (ad 7) (ad 8) (ad 9) N g, (ad 7, .inl (M.G.2 1, 20, .inl (wcl g))), (ad 8, .inl (M.G.2 0, 25, .inl (wgt g))), (ad 9, .inl (M.G.2 1, 18, .inl (wpl g))), wO (ad 10) (ad 11) (ad 12) (ad 13) N g, (ad 11, .inl (M.G.2 1, 20, .inl (wcl g))), (ad 12, .inl (M.G.2 0, 25, .inl (wgt g))), (ad 13, .inl (M.G.2 1, 18, .inl (wpl g)))]) (fun _ => rfl) rfl 0 0 rfl rfl (fun _ => []) (fun _ => rfl) (fun _ _ => ?_)
      refine V.iconst (pc' := 34) C dX0_later_33 rfl kci_0 ?_
      refine V.istore_n (pc' := 35) C [(3, .int 0), (0, .ref (ad 0)), (1, .int (nI c)), (2, .int (nI m))] dX0_later_34 rfl 4 hnL rfl rfl ?_
      have L3 : ∀ q : Nat, q ≤ m → V M 0 0 [xO ad i j, (ad 1, .inl (M.G.2 4, 4, .inr (.inr (.inr (.inr (fun k => some (ad (2 + k)))))))), (ad 2, .inr (1, [])), (ad 3, .inr (2, [])), (ad 4, .inr (3, [])), (ad 5, .inr (4, [])), wO (ad 6) (ad 7) (ad 8) (ad 9) N g, (ad 7, .inl (M.G.2 1, 20, .inl (wcl g))), (ad 8, .inl (M.G.2 0, 25, .inl (wgt g))), (ad 9, .inl (M.G.2 1, 18, .inl (wpl g))), wO (ad 10) (ad 11) (ad 12) (ad 13) N (nightsTo g N q), (ad 11, .inl (M.G.2 1, 20, .inl (wcl (nightsTo g N q)))), (ad 12, .inl (M.G.2 0, 25, .inl (wgt (nightsTo g N q)))), (ad 13, .inl (M.G.2 1, 18, .inl (wpl (nightsTo g N q))))] [(0, .ref (ad 0)), (1, .int (nI c)), (2, .int (nI m)), (3, .int (nI q))] [] 35 := by
        refine loopN _ m (fun q hq ih_L3 => ?_)
        refine V.iload_n (pc' := 36) C 3 dX0_later_35 rfl rfl ?_
        refine V.iload_n (pc' := 37) C 2 dX0_later_36 rfl rfl ?_
        refine V.icmp_geN (pc' := 40) C q m (by omega) (by omega) 54 dX0_later_37 rfl rfl (fun h4 => ?_) (fun h4 => ?_)
        · have hx5 : m = q := by omega
          subst hx5
          refine V.aload_n (pc' := 55) C 0 dX0_later_54 rfl rfl ?_
          refine V.get (pc' := 58) C dX0_later_55 rfl 0 rfl rfl in_X0 2 rfl q184 rfl ?_
          refine V.iload_n (pc' := 59) C 1 dX0_later_58 rfl rfl ?_
          refine V.iconst (pc' := 60) C dX0_later_59 rfl kci_3 ?_
          refine V.callV (pc' := 63) (wr := [xO ad i j, (ad 1, .inl (M.G.2 4, 4, .inr (.inr (.inr (.inr (fun k => some (ad (2 + k)))))))), (ad 2, .inr (1, [])), (ad 3, .inr (2, [])), (ad 4, .inr (3, [])), (ad 5, .inr (4, [])), wO (ad 6) (ad 7) (ad 8) (ad 9) N g, (ad 7, .inl (M.G.2 1, 20, .inl (wcl g))), (ad 8, .inl (M.G.2 0, 25, .inl (wgt g))), (ad 9, .inl (M.G.2 1, 18, .inl (wpl g)))]) C (ct_X5_of M.l M.G (ad 10) (ad 11) (ad 12) (ad 13) N (nightsTo g N m) c 3 (by omega) (by omega)) dX0_later_60 rfl (lw_V q540 q524 q525 q69 q526) hyv_X5_of rfl rfl 0 rfl rfl [10, 11, 12, 13] [0, 1, 2, 3, 4, 5, 6, 7, 8, 9] [0, 1, 2, 3, 4, 5, 6, 7, 8, 9, 10, 11, 12, 13] rfl rfl rfl (fun _ => [xO ad i j, (ad 1, .inl (M.G.2 4, 4, .inr (.inr (.inr (.inr (fun k => some (ad (2 + k)))))))), (ad 2, .inr (1, [])), (ad 3, .inr (2, [])), (ad 4, .inr (3, [])), (ad 5, .inr (4, [])), wO (ad 6) (ad 7) (ad 8) (ad 9) N g, (ad 7, .inl (M.G.2 1, 20, .inl (wcl g))), (ad 8, .inl (M.G.2 0, 25, .inl (wgt g))), (ad 9, .inl (M.G.2 1, 18, .inl (wpl g))), wO (ad 10) (ad 11) (ad 12) (ad 13) N (nightsTo g N m), (ad 11, .inl (M.G.2 1, 20, .inl (wcl (nightsTo g N m)))), (ad 12, .inl (M.G.2 0, 25, .inl (wgt (nightsTo g N m)))), (ad 13, .inl (M.G.2 1, 18, .inl (wpl (nightsTo g N m))))]) (fun _ => rfl) rfl 0 0 rfl rfl (fun _ => [.int ((nightsTo g N m) (15 + c))]) (fun _ => rfl) (fun _ _ => ?_)
          exact V.iret C T dX0_later_63 (i, j, N, nightsTo g N m) rfl rfl (Eq.trans (by rw [cn_nI (by omega), cn_nI (by omega)]) (if_pos ⟨h1, h2⟩).symm) rfl ⟨rfl, rfl, rfl, rfl, rfl⟩ rfl rfl rfl
        · refine V.aload_n (pc' := 41) C 0 dX0_later_40 rfl rfl ?_
          refine V.aload_n (pc' := 42) C 0 dX0_later_41 rfl rfl ?_
          refine V.get (pc' := 45) C dX0_later_42 rfl 0 rfl rfl in_X0 2 rfl q184 rfl ?_
          refine V.callV (pc' := 48) (wr := [wO (ad 6) (ad 7) (ad 8) (ad 9) N g, (ad 7, .inl (M.G.2 1, 20, .inl (wcl g))), (ad 8, .inl (M.G.2 0, 25, .inl (wgt g))), (ad 9, .inl (M.G.2 1, 18, .inl (wpl g)))]) C (ct_X0_nightGoes M.l M.G ad i j (ad 10) (ad 11) (ad 12) (ad 13) N (nightsTo g N q) hN5 (okK_nights ok.k N q)) dX0_later_45 rfl (lw_V q636 q638 qs17 q64 q639) hyv_X0_nightGoes rfl rfl 0 rfl rfl [0, 1, 2, 3, 4, 5, 10, 11, 12, 13] [6, 7, 8, 9] [4, 5, 6, 7, 8, 9, 0, 1, 2, 3, 10, 11, 12, 13] rfl rfl rfl (fun _ => [xO ad i j, (ad 1, .inl (M.G.2 4, 4, .inr (.inr (.inr (.inr (fun k => some (ad (2 + k)))))))), (ad 2, .inr (1, [])), (ad 3, .inr (2, [])), (ad 4, .inr (3, [])), (ad 5, .inr (4, [])), wO (ad 6) (ad 7) (ad 8) (ad 9) N g, (ad 7, .inl (M.G.2 1, 20, .inl (wcl g))), (ad 8, .inl (M.G.2 0, 25, .inl (wgt g))), (ad 9, .inl (M.G.2 1, 18, .inl (wpl g))), wO (ad 10) (ad 11) (ad 12) (ad 13) N (night (nightsTo g N q) N), (ad 11, .inl (M.G.2 1, 20, .inl (wcl (night (nightsTo g N q) N)))), (ad 12, .inl (M.G.2 0, 25, .inl (wgt (night (nightsTo g N q) N)))), (ad 13, .inl (M.G.2 1, 18, .inl (wpl (night (nightsTo g N q) N))))]) (fun _ => rfl) rfl 0 0 rfl rfl (fun _ => []) (fun _ => rfl) (fun _ _ => ?_)
          refine V.iinc (pc' := 51) C (nI (q + 1)) [(3, .int (nI (q + 1))), (0, .ref (ad 0)), (1, .int (nI c)), (2, .int (nI m))] dX0_later_48 rfl 4 hnL rfl 3 rfl (ii_N q 1 rfl) rfl ?_
          refine V.goto C 35 dX0_later_51 rfl ?_
          refine V.lvs [1, 2, 3, 0] (lv2 := [(0, .ref (ad 0)), (1, .int (nI c)), (2, .int (nI m)), (3, .int (nI (q + 1)))]) rfl ?_
          refine V.weq (ws2 := [xO ad i j, (ad 1, .inl (M.G.2 4, 4, .inr (.inr (.inr (.inr (fun k => some (ad (2 + k)))))))), (ad 2, .inr (1, [])), (ad 3, .inr (2, [])), (ad 4, .inr (3, [])), (ad 5, .inr (4, [])), wO (ad 6) (ad 7) (ad 8) (ad 9) N g, (ad 7, .inl (M.G.2 1, 20, .inl (wcl g))), (ad 8, .inl (M.G.2 0, 25, .inl (wgt g))), (ad 9, .inl (M.G.2 1, 18, .inl (wpl g))), wO (ad 10) (ad 11) (ad 12) (ad 13) N (nightsTo g N (q + 1)), (ad 11, .inl (M.G.2 1, 20, .inl (wcl (nightsTo g N (q + 1))))), (ad 12, .inl (M.G.2 0, 25, .inl (wgt (nightsTo g N (q + 1))))), (ad 13, .inl (M.G.2 1, 18, .inl (wpl (nightsTo g N (q + 1)))))]) rfl ?_
          exact ih_L3 (by omega)
      refine V.lvs [1, 2, 3, 0] (lv2 := [(0, .ref (ad 0)), (1, .int (nI c)), (2, .int (nI m)), (3, .int (nI 0))]) rfl ?_
      refine V.weq (ws2 := [xO ad i j, (ad 1, .inl (M.G.2 4, 4, .inr (.inr (.inr (.inr (fun k => some (ad (2 + k)))))))), (ad 2, .inr (1, [])), (ad 3, .inr (2, [])), (ad 4, .inr (3, [])), (ad 5, .inr (4, [])), wO (ad 6) (ad 7) (ad 8) (ad 9) N g, (ad 7, .inl (M.G.2 1, 20, .inl (wcl g))), (ad 8, .inl (M.G.2 0, 25, .inl (wgt g))), (ad 9, .inl (M.G.2 1, 18, .inl (wpl g))), wO (ad 10) (ad 11) (ad 12) (ad 13) N (nightsTo g N 0), (ad 11, .inl (M.G.2 1, 20, .inl (wcl (nightsTo g N 0)))), (ad 12, .inl (M.G.2 0, 25, .inl (wgt (nightsTo g N 0)))), (ad 13, .inl (M.G.2 1, 18, .inl (wpl (nightsTo g N 0))))]) rfl ?_
      exact L3 0 (by omega)
    · refine V.iconst (pc' := 21) C dX0_later_20 rfl kci_m1 ?_
      exact V.iret C T dX0_later_21 (i, j, K, t) rfl rfl (if_neg (fun z => h2 z.2)).symm rfl ⟨rfl, rfl, rfl, rfl, rfl⟩ rfl rfl rfl
set_option maxHeartbeats 4000000 in
theorem ct_X0_when (l : Launch) (G : GG) (ad : Nat → Nat) (i : Nat → Int32) (j : Nat → Int64) (N : Nat) (g : Pg) (K : Nat) (t : Pg) (x : Int32) (n : Nat) (ok : okP g N n) : Ct l G yX0_when (ws_ yX0_when cX0_when 3 (some .int)) ({ frames := 5, cells := 0, slots := 0, locals := 107 } : Room) [.ref (ad 0), .int x] [xO ad i j, (ad 1, .inl (G.2 4, 4, .inr (.inr (.inr (.inr (fun k => some (ad (2 + k)))))))), (ad 2, .inr (1, [])), (ad 3, .inr (2, [])), (ad 4, .inr (3, [])), (ad 5, .inr (4, [])), wO (ad 6) (ad 7) (ad 8) (ad 9) N g, (ad 7, .inl (G.2 1, 20, .inl (wcl g))), (ad 8, .inl (G.2 0, 25, .inl (wgt g))), (ad 9, .inl (G.2 1, 18, .inl (wpl g))), wO (ad 10) (ad 11) (ad 12) (ad 13) K t, (ad 11, .inl (G.2 1, 20, .inl (wcl t))), (ad 12, .inl (G.2 0, 25, .inl (wgt t))), (ad 13, .inl (G.2 1, 18, .inl (wpl t)))] (fun u : (Nat → Int32) × (Nat → Int64) × Nat × Pg => some (.int (a_when g N x))) (fun u => Qx i u.1) (fun u => [xO ad u.1 u.2.1, (ad 1, .inl (G.2 4, 4, .inr (.inr (.inr (.inr (fun k => some (ad (2 + k)))))))), (ad 2, .inr (1, [])), (ad 3, .inr (2, [])), (ad 4, .inr (3, [])), (ad 5, .inr (4, [])), wO (ad 6) (ad 7) (ad 8) (ad 9) N g, (ad 7, .inl (G.2 1, 20, .inl (wcl g))), (ad 8, .inl (G.2 0, 25, .inl (wgt g))), (ad 9, .inl (G.2 1, 18, .inl (wpl g))), wO (ad 10) (ad 11) (ad 12) (ad 13) u.2.2.1 u.2.2.2, (ad 11, .inl (G.2 1, 20, .inl (wcl u.2.2.2))), (ad 12, .inl (G.2 0, 25, .inl (wgt u.2.2.2))), (ad 13, .inl (G.2 1, 18, .inl (wpl u.2.2.2)))]) := by
  refine Ct.of rfl rfl ?_
  intro M el eG hnL C T
  subst el
  subst eG
  have C : Cx M cX0_when "ClockWard" ({ frames := 5, cells := 0, slots := 0, locals := 107 } : Room) := C
  have hN5 := ok.n5
  have hn6 := ok.n6
  refine V.lvs [0, 1] (lv2 := [(0, .ref (ad 0)), (1, .int x)]) rfl ?_
  refine V.aload_n (pc' := 1) C 0 dX0_when_0 rfl rfl ?_
  refine V.iload_n (pc' := 2) C 1 dX0_when_1 rfl rfl ?_
  refine V.callV (pc' := 5) (wr := [(ad 1, .inl (M.G.2 4, 4, .inr (.inr (.inr (.inr (fun k => some (ad (2 + k)))))))), (ad 2, .inr (1, [])), (ad 3, .inr (2, [])), (ad 4, .inr (3, [])), (ad 5, .inr (4, [])), wO (ad 10) (ad 11) (ad 12) (ad 13) K t, (ad 11, .inl (M.G.2 1, 20, .inl (wcl t))), (ad 12, .inl (M.G.2 0, 25, .inl (wgt t))), (ad 13, .inl (M.G.2 1, 18, .inl (wpl t)))]) C (ct_X0_isClock M.l M.G ad i j N g x ) dX0_when_2 rfl (lw_V q535 q537 qs13 q64 q538) hyv_X0_isClock rfl rfl 0 rfl rfl [0, 6, 7, 8, 9] [1, 2, 3, 4, 5, 10, 11, 12, 13] [9, 0, 1, 2, 3, 4, 10, 11, 12, 13, 5, 6, 7, 8] rfl rfl rfl (fun _ => [xO ad i j, (ad 1, .inl (M.G.2 4, 4, .inr (.inr (.inr (.inr (fun k => some (ad (2 + k)))))))), (ad 2, .inr (1, [])), (ad 3, .inr (2, [])), (ad 4, .inr (3, [])), (ad 5, .inr (4, [])), wO (ad 6) (ad 7) (ad 8) (ad 9) N g, (ad 7, .inl (M.G.2 1, 20, .inl (wcl g))), (ad 8, .inl (M.G.2 0, 25, .inl (wgt g))), (ad 9, .inl (M.G.2 1, 18, .inl (wpl g))), wO (ad 10) (ad 11) (ad 12) (ad 13) K t, (ad 11, .inl (M.G.2 1, 20, .inl (wcl t))), (ad 12, .inl (M.G.2 0, 25, .inl (wgt t))), (ad 13, .inl (M.G.2 1, 18, .inl (wpl t)))]) (fun _ => rfl) rfl 0 0 rfl rfl (fun _ => [.int (bI (isC N x))]) (fun _ => rfl) (fun _ _ => ?_)
  refine V.if_neB (pc' := 8) C 10 dX0_when_5 rfl rfl (fun h1 => ?_) (fun h1 => ?_)
  · obtain ⟨c, hc, rfl⟩ := isC_nat hN5 h1
    refine V.aload_n (pc' := 11) C 0 dX0_when_10 rfl rfl ?_
    refine V.get (pc' := 14) C dX0_when_11 rfl 0 rfl rfl in_X0 2 rfl q184 rfl ?_
    refine V.aload_n (pc' := 15) C 0 dX0_when_14 rfl rfl ?_
    refine V.get (pc' := 18) C dX0_when_15 rfl 0 rfl rfl in_X0 1 rfl q183 rfl ?_
    refine V.callV (pc' := 21) (wr := [xO ad i j, (ad 1, .inl (M.G.2 4, 4, .inr (.inr (.inr (.inr (fun k => some (ad (2 + k)))))))), (ad 2, .inr (1, [])), (ad 3, .inr (2, [])), (ad 4, .inr (3, [])), (ad 5, .inr (4, []))]) C (ct_X5_as M.l M.G (ad 10) (ad 11) (ad 12) (ad 13) K t (ad 6) (ad 7) (ad 8) (ad 9) N g ok.w) dX0_when_18 rfl (lw_V q504 q505 q506 q69 q507) hyv_X5_as rfl rfl 0 rfl rfl [10, 11, 12, 13, 6, 7, 8, 9] [0, 1, 2, 3, 4, 5] [0, 1, 2, 3, 4, 5, 10, 11, 12, 13, 6, 7, 8, 9] rfl rfl rfl (fun _ => [xO ad i j, (ad 1, .inl (M.G.2 4, 4, .inr (.inr (.inr (.inr (fun k => some (ad (2 + k)))))))), (ad 2, .inr (1, [])), (ad 3, .inr (2, [])), (ad 4, .inr (3, [])), (ad 5, .inr (4, [])), wO (ad 6) (ad 7) (ad 8) (ad 9) N g, (ad 7, .inl (M.G.2 1, 20, .inl (wcl g))), (ad 8, .inl (M.G.2 0, 25, .inl (wgt g))), (ad 9, .inl (M.G.2 1, 18, .inl (wpl g))), wO (ad 10) (ad 11) (ad 12) (ad 13) N g, (ad 11, .inl (M.G.2 1, 20, .inl (wcl g))), (ad 12, .inl (M.G.2 0, 25, .inl (wgt g))), (ad 13, .inl (M.G.2 1, 18, .inl (wpl g)))]) (fun _ => rfl) rfl 0 0 rfl rfl (fun _ => []) (fun _ => rfl) (fun _ _ => ?_)
    refine V.iconst (pc' := 22) C dX0_when_21 rfl kci_0 ?_
    refine V.istore_n (pc' := 23) C [(2, .int 0), (0, .ref (ad 0)), (1, .int (nI c))] dX0_when_22 rfl 3 hnL rfl rfl ?_
    have L2 : ∀ q : Nat, q ≤ 61 → whenAt g N c 0 = whenAt g N c q → V M 0 0 [xO ad i j, (ad 1, .inl (M.G.2 4, 4, .inr (.inr (.inr (.inr (fun k => some (ad (2 + k)))))))), (ad 2, .inr (1, [])), (ad 3, .inr (2, [])), (ad 4, .inr (3, [])), (ad 5, .inr (4, [])), wO (ad 6) (ad 7) (ad 8) (ad 9) N g, (ad 7, .inl (M.G.2 1, 20, .inl (wcl g))), (ad 8, .inl (M.G.2 0, 25, .inl (wgt g))), (ad 9, .inl (M.G.2 1, 18, .inl (wpl g))), wO (ad 10) (ad 11) (ad 12) (ad 13) N (nightsTo g N q), (ad 11, .inl (M.G.2 1, 20, .inl (wcl (nightsTo g N q)))), (ad 12, .inl (M.G.2 0, 25, .inl (wgt (nightsTo g N q)))), (ad 13, .inl (M.G.2 1, 18, .inl (wpl (nightsTo g N q))))] [(0, .ref (ad 0)), (1, .int (nI c)), (2, .int (nI q))] [] 23 := by
      refine loopN _ 61 (fun q hq ih_L2 => ?_)
      intro  hw0
      refine V.iload_n (pc' := 24) C 2 dX0_when_23 rfl rfl ?_
      refine V.bipush (pc' := 26) C dX0_when_24 rfl kcb_60 ?_
      refine V.icmp_gtN (pc' := 29) C q 60 (by omega) (by omega) 59 dX0_when_26 rfl rfl (fun h3 => ?_) (fun h3 => ?_)
      · have hx4 : 61 = q := by omega
        subst hx4
        refine V.bipush (pc' := 61) C dX0_when_59 rfl kcb_m4 ?_
        exact V.iret C T dX0_when_61 (i, j, N, nightsTo g N 61) rfl rfl (Eq.trans (by rw [cn_nI (by omega), hw0]; rfl) (if_pos h1).symm) rfl ⟨rfl, rfl, rfl, rfl, rfl⟩ rfl rfl rfl
      · refine V.aload_n (pc' := 30) C 0 dX0_when_29 rfl rfl ?_
        refine V.get (pc' := 33) C dX0_when_30 rfl 0 rfl rfl in_X0 2 rfl q184 rfl ?_
        refine V.iload_n (pc' := 34) C 1 dX0_when_33 rfl rfl ?_
        refine V.iconst (pc' := 35) C dX0_when_34 rfl kci_3 ?_
        refine V.callV (pc' := 38) (wr := [xO ad i j, (ad 1, .inl (M.G.2 4, 4, .inr (.inr (.inr (.inr (fun k => some (ad (2 + k)))))))), (ad 2, .inr (1, [])), (ad 3, .inr (2, [])), (ad 4, .inr (3, [])), (ad 5, .inr (4, [])), wO (ad 6) (ad 7) (ad 8) (ad 9) N g, (ad 7, .inl (M.G.2 1, 20, .inl (wcl g))), (ad 8, .inl (M.G.2 0, 25, .inl (wgt g))), (ad 9, .inl (M.G.2 1, 18, .inl (wpl g)))]) C (ct_X5_of M.l M.G (ad 10) (ad 11) (ad 12) (ad 13) N (nightsTo g N q) c 3 (by omega) (by omega)) dX0_when_35 rfl (lw_V q540 q524 q525 q69 q526) hyv_X5_of rfl rfl 0 rfl rfl [10, 11, 12, 13] [0, 1, 2, 3, 4, 5, 6, 7, 8, 9] [0, 1, 2, 3, 4, 5, 6, 7, 8, 9, 10, 11, 12, 13] rfl rfl rfl (fun _ => [xO ad i j, (ad 1, .inl (M.G.2 4, 4, .inr (.inr (.inr (.inr (fun k => some (ad (2 + k)))))))), (ad 2, .inr (1, [])), (ad 3, .inr (2, [])), (ad 4, .inr (3, [])), (ad 5, .inr (4, [])), wO (ad 6) (ad 7) (ad 8) (ad 9) N g, (ad 7, .inl (M.G.2 1, 20, .inl (wcl g))), (ad 8, .inl (M.G.2 0, 25, .inl (wgt g))), (ad 9, .inl (M.G.2 1, 18, .inl (wpl g))), wO (ad 10) (ad 11) (ad 12) (ad 13) N (nightsTo g N q), (ad 11, .inl (M.G.2 1, 20, .inl (wcl (nightsTo g N q)))), (ad 12, .inl (M.G.2 0, 25, .inl (wgt (nightsTo g N q)))), (ad 13, .inl (M.G.2 1, 18, .inl (wpl (nightsTo g N q))))]) (fun _ => rfl) rfl 0 0 rfl rfl (fun _ => [.int ((nightsTo g N q) (15 + c))]) (fun _ => rfl) (fun _ _ => ?_)
        refine V.bipush (pc' := 40) C dX0_when_38 rfl kcb_50 ?_
        refine V.icmp_ne (pc' := 43) C 45 dX0_when_40 rfl rfl (fun h5 => ?_) (fun h5 => ?_)
        · refine V.aload_n (pc' := 46) C 0 dX0_when_45 rfl rfl ?_
          refine V.aload_n (pc' := 47) C 0 dX0_when_46 rfl rfl ?_
          refine V.get (pc' := 50) C dX0_when_47 rfl 0 rfl rfl in_X0 2 rfl q184 rfl ?_
          refine V.callV (pc' := 53) (wr := [wO (ad 6) (ad 7) (ad 8) (ad 9) N g, (ad 7, .inl (M.G.2 1, 20, .inl (wcl g))), (ad 8, .inl (M.G.2 0, 25, .inl (wgt g))), (ad 9, .inl (M.G.2 1, 18, .inl (wpl g)))]) C (ct_X0_nightGoes M.l M.G ad i j (ad 10) (ad 11) (ad 12) (ad 13) N (nightsTo g N q) hN5 (okK_nights ok.k N q)) dX0_when_50 rfl (lw_V q636 q638 qs17 q64 q639) hyv_X0_nightGoes rfl rfl 0 rfl rfl [0, 1, 2, 3, 4, 5, 10, 11, 12, 13] [6, 7, 8, 9] [4, 5, 6, 7, 8, 9, 0, 1, 2, 3, 10, 11, 12, 13] rfl rfl rfl (fun _ => [xO ad i j, (ad 1, .inl (M.G.2 4, 4, .inr (.inr (.inr (.inr (fun k => some (ad (2 + k)))))))), (ad 2, .inr (1, [])), (ad 3, .inr (2, [])), (ad 4, .inr (3, [])), (ad 5, .inr (4, [])), wO (ad 6) (ad 7) (ad 8) (ad 9) N g, (ad 7, .inl (M.G.2 1, 20, .inl (wcl g))), (ad 8, .inl (M.G.2 0, 25, .inl (wgt g))), (ad 9, .inl (M.G.2 1, 18, .inl (wpl g))), wO (ad 10) (ad 11) (ad 12) (ad 13) N (night (nightsTo g N q) N), (ad 11, .inl (M.G.2 1, 20, .inl (wcl (night (nightsTo g N q) N)))), (ad 12, .inl (M.G.2 0, 25, .inl (wgt (night (nightsTo g N q) N)))), (ad 13, .inl (M.G.2 1, 18, .inl (wpl (night (nightsTo g N q) N))))]) (fun _ => rfl) rfl 0 0 rfl rfl (fun _ => []) (fun _ => rfl) (fun _ _ => ?_)
          refine V.iinc (pc' := 56) C (nI (q + 1)) [(2, .int (nI (q + 1))), (0, .ref (ad 0)), (1, .int (nI c))] dX0_when_53 rfl 3 hnL rfl 2 rfl (ii_N q 1 rfl) rfl ?_
          refine V.goto C 23 dX0_when_56 rfl ?_
          refine V.lvs [1, 2, 0] (lv2 := [(0, .ref (ad 0)), (1, .int (nI c)), (2, .int (nI (q + 1)))]) rfl ?_
          refine V.weq (ws2 := [xO ad i j, (ad 1, .inl (M.G.2 4, 4, .inr (.inr (.inr (.inr (fun k => some (ad (2 + k)))))))), (ad 2, .inr (1, [])), (ad 3, .inr (2, [])), (ad 4, .inr (3, [])), (ad 5, .inr (4, [])), wO (ad 6) (ad 7) (ad 8) (ad 9) N g, (ad 7, .inl (M.G.2 1, 20, .inl (wcl g))), (ad 8, .inl (M.G.2 0, 25, .inl (wgt g))), (ad 9, .inl (M.G.2 1, 18, .inl (wpl g))), wO (ad 10) (ad 11) (ad 12) (ad 13) N (nightsTo g N (q + 1)), (ad 11, .inl (M.G.2 1, 20, .inl (wcl (nightsTo g N (q + 1))))), (ad 12, .inl (M.G.2 0, 25, .inl (wgt (nightsTo g N (q + 1))))), (ad 13, .inl (M.G.2 1, 18, .inl (wpl (nightsTo g N (q + 1)))))]) rfl ?_
          exact ih_L2 (by omega) (hw0.trans (whenAt_s (by omega) h5))
        · refine V.iload_n (pc' := 44) C 2 dX0_when_43 rfl rfl ?_
          exact V.iret C T dX0_when_44 (i, j, N, nightsTo g N q) rfl rfl (Eq.trans (by rw [cn_nI (by omega), hw0, whenAt_f (by omega) h5]) (if_pos h1).symm) rfl ⟨rfl, rfl, rfl, rfl, rfl⟩ rfl rfl rfl
    refine V.lvs [1, 2, 0] (lv2 := [(0, .ref (ad 0)), (1, .int (nI c)), (2, .int (nI 0))]) rfl ?_
    refine V.weq (ws2 := [xO ad i j, (ad 1, .inl (M.G.2 4, 4, .inr (.inr (.inr (.inr (fun k => some (ad (2 + k)))))))), (ad 2, .inr (1, [])), (ad 3, .inr (2, [])), (ad 4, .inr (3, [])), (ad 5, .inr (4, [])), wO (ad 6) (ad 7) (ad 8) (ad 9) N g, (ad 7, .inl (M.G.2 1, 20, .inl (wcl g))), (ad 8, .inl (M.G.2 0, 25, .inl (wgt g))), (ad 9, .inl (M.G.2 1, 18, .inl (wpl g))), wO (ad 10) (ad 11) (ad 12) (ad 13) N (nightsTo g N 0), (ad 11, .inl (M.G.2 1, 20, .inl (wcl (nightsTo g N 0)))), (ad 12, .inl (M.G.2 0, 25, .inl (wgt (nightsTo g N 0)))), (ad 13, .inl (M.G.2 1, 18, .inl (wpl (nightsTo g N 0))))]) rfl ?_
    exact L2 0 (by omega) rfl
  · refine V.iconst (pc' := 9) C dX0_when_8 rfl kci_m1 ?_
    exact V.iret C T dX0_when_9 (i, j, K, t) rfl rfl (if_neg (fun z => h1 z)).symm rfl ⟨rfl, rfl, rfl, rfl, rfl⟩ rfl rfl rfl
set_option maxHeartbeats 4000000 in
theorem ct_X0_together (l : Launch) (G : GG) (ad : Nat → Nat) (i : Nat → Int32) (j : Nat → Int64) (N : Nat) (g : Pg) (K : Nat) (t : Pg) (x : Int32) (n : Nat) (ok : okP g N n) : Ct l G yX0_together (ws_ yX0_together cX0_together 6 (some .int)) ({ frames := 5, cells := 0, slots := 0, locals := 107 } : Room) [.ref (ad 0), .int x] [xO ad i j, (ad 1, .inl (G.2 4, 4, .inr (.inr (.inr (.inr (fun k => some (ad (2 + k)))))))), (ad 2, .inr (1, [])), (ad 3, .inr (2, [])), (ad 4, .inr (3, [])), (ad 5, .inr (4, [])), wO (ad 6) (ad 7) (ad 8) (ad 9) N g, (ad 7, .inl (G.2 1, 20, .inl (wcl g))), (ad 8, .inl (G.2 0, 25, .inl (wgt g))), (ad 9, .inl (G.2 1, 18, .inl (wpl g))), wO (ad 10) (ad 11) (ad 12) (ad 13) K t, (ad 11, .inl (G.2 1, 20, .inl (wcl t))), (ad 12, .inl (G.2 0, 25, .inl (wgt t))), (ad 13, .inl (G.2 1, 18, .inl (wpl t)))] (fun u : (Nat → Int32) × (Nat → Int64) × Nat × Pg => some (.int (a_tog g N x))) (fun u => Qx i u.1) (fun u => [xO ad u.1 u.2.1, (ad 1, .inl (G.2 4, 4, .inr (.inr (.inr (.inr (fun k => some (ad (2 + k)))))))), (ad 2, .inr (1, [])), (ad 3, .inr (2, [])), (ad 4, .inr (3, [])), (ad 5, .inr (4, [])), wO (ad 6) (ad 7) (ad 8) (ad 9) N g, (ad 7, .inl (G.2 1, 20, .inl (wcl g))), (ad 8, .inl (G.2 0, 25, .inl (wgt g))), (ad 9, .inl (G.2 1, 18, .inl (wpl g))), wO (ad 10) (ad 11) (ad 12) (ad 13) u.2.2.1 u.2.2.2, (ad 11, .inl (G.2 1, 20, .inl (wcl u.2.2.2))), (ad 12, .inl (G.2 0, 25, .inl (wgt u.2.2.2))), (ad 13, .inl (G.2 1, 18, .inl (wpl u.2.2.2)))]) := by
  refine Ct.of rfl rfl ?_
  intro M el eG hnL C T
  subst el
  subst eG
  have C : Cx M cX0_together "ClockWard" ({ frames := 5, cells := 0, slots := 0, locals := 107 } : Room) := C
  have hN5 := ok.n5
  have hn6 := ok.n6
  refine V.lvs [0, 1] (lv2 := [(0, .ref (ad 0)), (1, .int x)]) rfl ?_
  refine V.iload_n (pc' := 1) C 1 dX0_together_0 rfl rfl ?_
  refine V.callS (pc' := 4) (wr := [xO ad i j, (ad 1, .inl (M.G.2 4, 4, .inr (.inr (.inr (.inr (fun k => some (ad (2 + k)))))))), (ad 2, .inr (1, [])), (ad 3, .inr (2, [])), (ad 4, .inr (3, [])), (ad 5, .inr (4, [])), wO (ad 6) (ad 7) (ad 8) (ad 9) N g, (ad 7, .inl (M.G.2 1, 20, .inl (wcl g))), (ad 8, .inl (M.G.2 0, 25, .inl (wgt g))), (ad 9, .inl (M.G.2 1, 18, .inl (wpl g))), wO (ad 10) (ad 11) (ad 12) (ad 13) K t, (ad 11, .inl (M.G.2 1, 20, .inl (wcl t))), (ad 12, .inl (M.G.2 0, 25, .inl (wgt t))), (ad 13, .inl (M.G.2 1, 18, .inl (wpl t)))]) C (ct_X0_isPart M.l M.G x ) dX0_together_1 rfl (lw_S q668 q669 q64 q670) hys_X0_isPart rfl rfl [] [0, 1, 2, 3, 4, 5, 6, 7, 8, 9, 10, 11, 12, 13] [0, 1, 2, 3, 4, 5, 6, 7, 8, 9, 10, 11, 12, 13] rfl rfl rfl (fun _ => [xO ad i j, (ad 1, .inl (M.G.2 4, 4, .inr (.inr (.inr (.inr (fun k => some (ad (2 + k)))))))), (ad 2, .inr (1, [])), (ad 3, .inr (2, [])), (ad 4, .inr (3, [])), (ad 5, .inr (4, [])), wO (ad 6) (ad 7) (ad 8) (ad 9) N g, (ad 7, .inl (M.G.2 1, 20, .inl (wcl g))), (ad 8, .inl (M.G.2 0, 25, .inl (wgt g))), (ad 9, .inl (M.G.2 1, 18, .inl (wpl g))), wO (ad 10) (ad 11) (ad 12) (ad 13) K t, (ad 11, .inl (M.G.2 1, 20, .inl (wcl t))), (ad 12, .inl (M.G.2 0, 25, .inl (wgt t))), (ad 13, .inl (M.G.2 1, 18, .inl (wpl t)))]) (fun _ => rfl) rfl 0 0 rfl rfl (fun _ => [.int (bI (inI x 0 1))]) (fun _ => rfl) (fun _ _ => ?_)
  refine V.if_neB (pc' := 7) C 9 dX0_together_4 rfl rfl (fun h1 => ?_) (fun h1 => ?_)
  · refine V.iconst (pc' := 10) C dX0_together_9 rfl kci_m1 ?_
    refine V.istore_n (pc' := 11) C [(2, .int (-1)), (0, .ref (ad 0)), (1, .int x)] dX0_together_10 rfl 6 hnL rfl rfl ?_
    refine V.iconst (pc' := 12) C dX0_together_11 rfl kci_0 ?_
    refine V.istore_n (pc' := 13) C [(3, .int 0), (2, .int (-1)), (0, .ref (ad 0)), (1, .int x)] dX0_together_12 rfl 6 hnL rfl rfl ?_
    refine V.aload_n (pc' := 14) C 2 dX0_together_13 rfl rfl ?_
    refine V.get (pc' := 17) C dX0_together_14 rfl 0 rfl rfl in_X0 2 rfl q184 rfl ?_
    refine V.aload_n (pc' := 18) C 2 dX0_together_17 rfl rfl ?_
    refine V.get (pc' := 21) C dX0_together_18 rfl 0 rfl rfl in_X0 1 rfl q183 rfl ?_
    refine V.callV (pc' := 24) (wr := [xO ad i j, (ad 1, .inl (M.G.2 4, 4, .inr (.inr (.inr (.inr (fun k => some (ad (2 + k)))))))), (ad 2, .inr (1, [])), (ad 3, .inr (2, [])), (ad 4, .inr (3, [])), (ad 5, .inr (4, []))]) C (ct_X5_as M.l M.G (ad 10) (ad 11) (ad 12) (ad 13) K t (ad 6) (ad 7) (ad 8) (ad 9) N g ok.w) dX0_together_21 rfl (lw_V q504 q505 q506 q69 q507) hyv_X5_as rfl rfl 0 rfl rfl [10, 11, 12, 13, 6, 7, 8, 9] [0, 1, 2, 3, 4, 5] [0, 1, 2, 3, 4, 5, 10, 11, 12, 13, 6, 7, 8, 9] rfl rfl rfl (fun _ => [xO ad i j, (ad 1, .inl (M.G.2 4, 4, .inr (.inr (.inr (.inr (fun k => some (ad (2 + k)))))))), (ad 2, .inr (1, [])), (ad 3, .inr (2, [])), (ad 4, .inr (3, [])), (ad 5, .inr (4, [])), wO (ad 6) (ad 7) (ad 8) (ad 9) N g, (ad 7, .inl (M.G.2 1, 20, .inl (wcl g))), (ad 8, .inl (M.G.2 0, 25, .inl (wgt g))), (ad 9, .inl (M.G.2 1, 18, .inl (wpl g))), wO (ad 10) (ad 11) (ad 12) (ad 13) N g, (ad 11, .inl (M.G.2 1, 20, .inl (wcl g))), (ad 12, .inl (M.G.2 0, 25, .inl (wgt g))), (ad 13, .inl (M.G.2 1, 18, .inl (wpl g)))]) (fun _ => rfl) rfl 0 0 rfl rfl (fun _ => []) (fun _ => rfl) (fun _ _ => ?_)
    refine V.iconst (pc' := 25) C dX0_together_24 rfl kci_0 ?_
    refine V.istore (pc' := 27) C [(4, .int 0), (3, .int 0), (2, .int (-1)), (0, .ref (ad 0)), (1, .int x)] dX0_together_25 rfl 6 hnL rfl rfl ?_
    have L2 : ∀ q : Nat, q ≤ 61 → V M 0 0 [xO ad i j, (ad 1, .inl (M.G.2 4, 4, .inr (.inr (.inr (.inr (fun k => some (ad (2 + k)))))))), (ad 2, .inr (1, [])), (ad 3, .inr (2, [])), (ad 4, .inr (3, [])), (ad 5, .inr (4, [])), wO (ad 6) (ad 7) (ad 8) (ad 9) N g, (ad 7, .inl (M.G.2 1, 20, .inl (wcl g))), (ad 8, .inl (M.G.2 0, 25, .inl (wgt g))), (ad 9, .inl (M.G.2 1, 18, .inl (wpl g))), wO (ad 10) (ad 11) (ad 12) (ad 13) N (nightsTo g N q), (ad 11, .inl (M.G.2 1, 20, .inl (wcl (nightsTo g N q)))), (ad 12, .inl (M.G.2 0, 25, .inl (wgt (nightsTo g N q)))), (ad 13, .inl (M.G.2 1, 18, .inl (wpl (nightsTo g N q))))] [(0, .ref (ad 0)), (1, .int x), (2, .int (togM g N q)), (3, .int (togW g N q)), (4, .int (nI q))] [] 27 := by
      refine loopN _ 61 (fun q hq ih_L2 => ?_)
      refine V.iload (pc' := 29) C 4 dX0_together_27 rfl rfl ?_
      refine V.bipush (pc' := 31) C dX0_together_29 rfl kcb_60 ?_
      refine V.icmp_gtN (pc' := 34) C q 60 (by omega) (by omega) 80 dX0_together_31 rfl rfl (fun h3 => ?_) (fun h3 => ?_)
      · have hx4 : 61 = q := by omega
        subst hx4
        refine V.iload_n (pc' := 81) C 1 dX0_together_80 rfl rfl ?_
        refine V.if_ne (pc' := 84) C 88 dX0_together_81 rfl rfl (fun h5 => ?_) (fun h5 => ?_)
        · refine V.iload_n (pc' := 89) C 2 dX0_together_88 rfl rfl ?_
          exact V.iret C T dX0_together_89 (i, j, N, nightsTo g N 61) rfl rfl (Eq.trans (by rw [if_neg h5]) (if_pos h1).symm) rfl ⟨rfl, rfl, rfl, rfl, rfl⟩ rfl rfl rfl
        · refine V.iload_n (pc' := 85) C 3 dX0_together_84 rfl rfl ?_
          refine V.goto C 89 dX0_together_85 rfl ?_
          exact V.iret C T dX0_together_89 (i, j, N, nightsTo g N 61) rfl rfl (Eq.trans (by rw [if_pos h5]) (if_pos h1).symm) rfl ⟨rfl, rfl, rfl, rfl, rfl⟩ rfl rfl rfl
      · refine V.aload_n (pc' := 35) C 0 dX0_together_34 rfl rfl ?_
        refine V.get (pc' := 38) C dX0_together_35 rfl 0 rfl rfl in_X0 2 rfl q184 rfl ?_
        refine V.callV (pc' := 41) (wr := [xO ad i j, (ad 1, .inl (M.G.2 4, 4, .inr (.inr (.inr (.inr (fun k => some (ad (2 + k)))))))), (ad 2, .inr (1, [])), (ad 3, .inr (2, [])), (ad 4, .inr (3, [])), (ad 5, .inr (4, [])), wO (ad 6) (ad 7) (ad 8) (ad 9) N g, (ad 7, .inl (M.G.2 1, 20, .inl (wcl g))), (ad 8, .inl (M.G.2 0, 25, .inl (wgt g))), (ad 9, .inl (M.G.2 1, 18, .inl (wpl g)))]) C (ct_X5_right M.l M.G (ad 10) (ad 11) (ad 12) (ad 13) N (nightsTo g N q) (by omega)) dX0_together_38 rfl (lw_V q519 q520 q521 q69 q522) hyv_X5_right rfl rfl 0 rfl rfl [10, 11, 12, 13] [0, 1, 2, 3, 4, 5, 6, 7, 8, 9] [0, 1, 2, 3, 4, 5, 6, 7, 8, 9, 10, 11, 12, 13] rfl rfl rfl (fun _ => [xO ad i j, (ad 1, .inl (M.G.2 4, 4, .inr (.inr (.inr (.inr (fun k => some (ad (2 + k)))))))), (ad 2, .inr (1, [])), (ad 3, .inr (2, [])), (ad 4, .inr (3, [])), (ad 5, .inr (4, [])), wO (ad 6) (ad 7) (ad 8) (ad 9) N g, (ad 7, .inl (M.G.2 1, 20, .inl (wcl g))), (ad 8, .inl (M.G.2 0, 25, .inl (wgt g))), (ad 9, .inl (M.G.2 1, 18, .inl (wpl g))), wO (ad 10) (ad 11) (ad 12) (ad 13) N (nightsTo g N q), (ad 11, .inl (M.G.2 1, 20, .inl (wcl (nightsTo g N q)))), (ad 12, .inl (M.G.2 0, 25, .inl (wgt (nightsTo g N q)))), (ad 13, .inl (M.G.2 1, 18, .inl (wpl (nightsTo g N q))))]) (fun _ => rfl) rfl 0 0 rfl rfl (fun _ => [.int (rightTo (nightsTo g N q) N)]) (fun _ => rfl) (fun _ _ => ?_)
        refine V.callS (pc' := 44) (wr := [xO ad i j, (ad 1, .inl (M.G.2 4, 4, .inr (.inr (.inr (.inr (fun k => some (ad (2 + k)))))))), (ad 2, .inr (1, [])), (ad 3, .inr (2, [])), (ad 4, .inr (3, [])), (ad 5, .inr (4, [])), wO (ad 6) (ad 7) (ad 8) (ad 9) N g, (ad 7, .inl (M.G.2 1, 20, .inl (wcl g))), (ad 8, .inl (M.G.2 0, 25, .inl (wgt g))), (ad 9, .inl (M.G.2 1, 18, .inl (wpl g))), wO (ad 10) (ad 11) (ad 12) (ad 13) N (nightsTo g N q), (ad 11, .inl (M.G.2 1, 20, .inl (wcl (nightsTo g N q)))), (ad 12, .inl (M.G.2 0, 25, .inl (wgt (nightsTo g N q)))), (ad 13, .inl (M.G.2 1, 18, .inl (wpl (nightsTo g N q))))]) C (ct_J7_bitCount M.l M.G (rightTo (nightsTo g N q) N) ) dX0_together_41 rfl (lw_S q671 q672 q82 q673) hys_J7_bitCount rfl rfl [] [0, 1, 2, 3, 4, 5, 6, 7, 8, 9, 10, 11, 12, 13] [0, 1, 2, 3, 4, 5, 6, 7, 8, 9, 10, 11, 12, 13] rfl rfl rfl (fun _ => [xO ad i j, (ad 1, .inl (M.G.2 4, 4, .inr (.inr (.inr (.inr (fun k => some (ad (2 + k)))))))), (ad 2, .inr (1, [])), (ad 3, .inr (2, [])), (ad 4, .inr (3, [])), (ad 5, .inr (4, [])), wO (ad 6) (ad 7) (ad 8) (ad 9) N g, (ad 7, .inl (M.G.2 1, 20, .inl (wcl g))), (ad 8, .inl (M.G.2 0, 25, .inl (wgt g))), (ad 9, .inl (M.G.2 1, 18, .inl (wpl g))), wO (ad 10) (ad 11) (ad 12) (ad 13) N (nightsTo g N q), (ad 11, .inl (M.G.2 1, 20, .inl (wcl (nightsTo g N q)))), (ad 12, .inl (M.G.2 0, 25, .inl (wgt (nightsTo g N q)))), (ad 13, .inl (M.G.2 1, 18, .inl (wpl (nightsTo g N q))))]) (fun _ => rfl) rfl 0 0 rfl rfl (fun _ => [.int (bitCnt (rightTo (nightsTo g N q) N))]) (fun _ => rfl) (fun _ _ => ?_)
        refine V.topI (y := bitsTo (rightTo (nightsTo g N q) N) 7) (right_bits _ hN5) ?_
        refine V.istore (pc' := 46) C [(5, .int (bitsTo (rightTo (nightsTo g N q) N) 7)), (0, .ref (ad 0)), (1, .int x), (2, .int (togM g N q)), (3, .int (togW g N q)), (4, .int (nI q))] dX0_together_44 rfl 6 hnL rfl rfl ?_
        refine V.iload (pc' := 48) C 0 dX0_together_46 rfl rfl ?_
        refine V.iload_n (pc' := 49) C 3 dX0_together_48 rfl rfl ?_
        have J8 : ∀ (x7 : Int32), x7 = (if (bitsTo (rightTo (nightsTo g N q) N) 7) ≤ (togM g N q) then togW g N q else nI q) → V M 0 0 [xO ad i j, (ad 1, .inl (M.G.2 4, 4, .inr (.inr (.inr (.inr (fun k => some (ad (2 + k)))))))), (ad 2, .inr (1, [])), (ad 3, .inr (2, [])), (ad 4, .inr (3, [])), (ad 5, .inr (4, [])), wO (ad 6) (ad 7) (ad 8) (ad 9) N g, (ad 7, .inl (M.G.2 1, 20, .inl (wcl g))), (ad 8, .inl (M.G.2 0, 25, .inl (wgt g))), (ad 9, .inl (M.G.2 1, 18, .inl (wpl g))), wO (ad 10) (ad 11) (ad 12) (ad 13) N (nightsTo g N q), (ad 11, .inl (M.G.2 1, 20, .inl (wcl (nightsTo g N q)))), (ad 12, .inl (M.G.2 0, 25, .inl (wgt (nightsTo g N q)))), (ad 13, .inl (M.G.2 1, 18, .inl (wpl (nightsTo g N q))))] [(5, .int (bitsTo (rightTo (nightsTo g N q) N) 7)), (0, .ref (ad 0)), (1, .int x), (2, .int (togM g N q)), (3, .int (togW g N q)), (4, .int (nI q))] [.int x7] 58 := by
          intro x7 ex7
          subst ex7
          refine V.istore_n (pc' := 59) C [(3, .int (if (bitsTo (rightTo (nightsTo g N q) N) 7) ≤ (togM g N q) then togW g N q else nI q)), (5, .int (bitsTo (rightTo (nightsTo g N q) N) 7)), (0, .ref (ad 0)), (1, .int x), (2, .int (togM g N q)), (4, .int (nI q))] dX0_together_58 rfl 6 hnL rfl rfl ?_
          refine V.iload_n (pc' := 60) C 4 dX0_together_59 rfl rfl ?_
          refine V.iload (pc' := 62) C 1 dX0_together_60 rfl rfl ?_
          refine V.mmax (pc' := 65) C dX0_together_62 rfl q565 q494 q80 q495 rfl rfl rfl rfl ?_
          refine V.topI (y := if (bitsTo (rightTo (nightsTo g N q) N) 7) ≤ (togM g N q) then togM g N q else bitsTo (rightTo (nightsTo g N q) N) 7) tog_m ?_
          refine V.istore_n (pc' := 66) C [(2, .int (if (bitsTo (rightTo (nightsTo g N q) N) 7) ≤ (togM g N q) then togM g N q else bitsTo (rightTo (nightsTo g N q) N) 7)), (3, .int (if (bitsTo (rightTo (nightsTo g N q) N) 7) ≤ (togM g N q) then togW g N q else nI q)), (5, .int (bitsTo (rightTo (nightsTo g N q) N) 7)), (0, .ref (ad 0)), (1, .int x), (4, .int (nI q))] dX0_together_65 rfl 6 hnL rfl rfl ?_
          refine V.aload_n (pc' := 67) C 3 dX0_together_66 rfl rfl ?_
          refine V.aload_n (pc' := 68) C 3 dX0_together_67 rfl rfl ?_
          refine V.get (pc' := 71) C dX0_together_68 rfl 0 rfl rfl in_X0 2 rfl q184 rfl ?_
          refine V.callV (pc' := 74) (wr := [wO (ad 6) (ad 7) (ad 8) (ad 9) N g, (ad 7, .inl (M.G.2 1, 20, .inl (wcl g))), (ad 8, .inl (M.G.2 0, 25, .inl (wgt g))), (ad 9, .inl (M.G.2 1, 18, .inl (wpl g)))]) C (ct_X0_nightGoes M.l M.G ad i j (ad 10) (ad 11) (ad 12) (ad 13) N (nightsTo g N q) hN5 (okK_nights ok.k N q)) dX0_together_71 rfl (lw_V q636 q638 qs17 q64 q639) hyv_X0_nightGoes rfl rfl 0 rfl rfl [0, 1, 2, 3, 4, 5, 10, 11, 12, 13] [6, 7, 8, 9] [4, 5, 6, 7, 8, 9, 0, 1, 2, 3, 10, 11, 12, 13] rfl rfl rfl (fun _ => [xO ad i j, (ad 1, .inl (M.G.2 4, 4, .inr (.inr (.inr (.inr (fun k => some (ad (2 + k)))))))), (ad 2, .inr (1, [])), (ad 3, .inr (2, [])), (ad 4, .inr (3, [])), (ad 5, .inr (4, [])), wO (ad 6) (ad 7) (ad 8) (ad 9) N g, (ad 7, .inl (M.G.2 1, 20, .inl (wcl g))), (ad 8, .inl (M.G.2 0, 25, .inl (wgt g))), (ad 9, .inl (M.G.2 1, 18, .inl (wpl g))), wO (ad 10) (ad 11) (ad 12) (ad 13) N (night (nightsTo g N q) N), (ad 11, .inl (M.G.2 1, 20, .inl (wcl (night (nightsTo g N q) N)))), (ad 12, .inl (M.G.2 0, 25, .inl (wgt (night (nightsTo g N q) N)))), (ad 13, .inl (M.G.2 1, 18, .inl (wpl (night (nightsTo g N q) N))))]) (fun _ => rfl) rfl 0 0 rfl rfl (fun _ => []) (fun _ => rfl) (fun _ _ => ?_)
          refine V.iinc (pc' := 77) C (nI (q + 1)) [(4, .int (nI (q + 1))), (2, .int (if (bitsTo (rightTo (nightsTo g N q) N) 7) ≤ (togM g N q) then togM g N q else bitsTo (rightTo (nightsTo g N q) N) 7)), (3, .int (if (bitsTo (rightTo (nightsTo g N q) N) 7) ≤ (togM g N q) then togW g N q else nI q)), (5, .int (bitsTo (rightTo (nightsTo g N q) N) 7)), (0, .ref (ad 0)), (1, .int x)] dX0_together_74 rfl 6 hnL rfl 5 rfl (ii_N q 1 rfl) rfl ?_
          refine V.goto C 27 dX0_together_77 rfl ?_
          refine V.lvs [4, 5, 1, 2, 0] (lv2 := [(0, .ref (ad 0)), (1, .int x), (2, .int (togM g N (q + 1))), (3, .int (togW g N (q + 1))), (4, .int (nI (q + 1)))]) rfl ?_
          refine V.weq (ws2 := [xO ad i j, (ad 1, .inl (M.G.2 4, 4, .inr (.inr (.inr (.inr (fun k => some (ad (2 + k)))))))), (ad 2, .inr (1, [])), (ad 3, .inr (2, [])), (ad 4, .inr (3, [])), (ad 5, .inr (4, [])), wO (ad 6) (ad 7) (ad 8) (ad 9) N g, (ad 7, .inl (M.G.2 1, 20, .inl (wcl g))), (ad 8, .inl (M.G.2 0, 25, .inl (wgt g))), (ad 9, .inl (M.G.2 1, 18, .inl (wpl g))), wO (ad 10) (ad 11) (ad 12) (ad 13) N (nightsTo g N (q + 1)), (ad 11, .inl (M.G.2 1, 20, .inl (wcl (nightsTo g N (q + 1))))), (ad 12, .inl (M.G.2 0, 25, .inl (wgt (nightsTo g N (q + 1))))), (ad 13, .inl (M.G.2 1, 18, .inl (wpl (nightsTo g N (q + 1)))))]) rfl ?_
          exact ih_L2 (by omega)
        refine V.icmp_le (pc' := 52) C 57 dX0_together_49 rfl rfl (fun h6 => ?_) (fun h6 => ?_)
        · refine V.iload_n (pc' := 58) C 4 dX0_together_57 rfl rfl ?_
          exact J8 _ (by rw [if_pos h6])
        · refine V.iload (pc' := 54) C 5 dX0_together_52 rfl rfl ?_
          refine V.goto C 58 dX0_together_54 rfl ?_
          exact J8 _ (by rw [if_neg h6])
    refine V.lvs [3, 4, 2, 1, 0] (lv2 := [(0, .ref (ad 0)), (1, .int x), (2, .int (togM g N 0)), (3, .int (togW g N 0)), (4, .int (nI 0))]) rfl ?_
    refine V.weq (ws2 := [xO ad i j, (ad 1, .inl (M.G.2 4, 4, .inr (.inr (.inr (.inr (fun k => some (ad (2 + k)))))))), (ad 2, .inr (1, [])), (ad 3, .inr (2, [])), (ad 4, .inr (3, [])), (ad 5, .inr (4, [])), wO (ad 6) (ad 7) (ad 8) (ad 9) N g, (ad 7, .inl (M.G.2 1, 20, .inl (wcl g))), (ad 8, .inl (M.G.2 0, 25, .inl (wgt g))), (ad 9, .inl (M.G.2 1, 18, .inl (wpl g))), wO (ad 10) (ad 11) (ad 12) (ad 13) N (nightsTo g N 0), (ad 11, .inl (M.G.2 1, 20, .inl (wcl (nightsTo g N 0)))), (ad 12, .inl (M.G.2 0, 25, .inl (wgt (nightsTo g N 0)))), (ad 13, .inl (M.G.2 1, 18, .inl (wpl (nightsTo g N 0))))]) rfl ?_
    exact L2 0 (by omega)
  · refine V.iconst (pc' := 8) C dX0_together_7 rfl kci_m1 ?_
    exact V.iret C T dX0_together_8 (i, j, K, t) rfl rfl (if_neg (fun z => h1 z)).symm rfl ⟨rfl, rfl, rfl, rfl, rfl⟩ rfl rfl rfl
set_option maxHeartbeats 4000000 in
theorem ct_X0_donor (l : Launch) (G : GG) (ad : Nat → Nat) (i : Nat → Int32) (j : Nat → Int64) (N : Nat) (g : Pg) (x : Int32) (y : Int32) (hN5 : N ≤ 5) : Ct l G yX0_donor (ws_ yX0_donor cX0_donor 8 (some .int)) ({ frames := 5, cells := 0, slots := 0, locals := 115 } : Room) [.ref (ad 0), .int x, .int y] [xO ad i j, wO (ad 6) (ad 7) (ad 8) (ad 9) N g, (ad 7, .inl (G.2 1, 20, .inl (wcl g))), (ad 8, .inl (G.2 0, 25, .inl (wgt g))), (ad 9, .inl (G.2 1, 18, .inl (wpl g)))] (fun _ : Unit => some (.int (a_donor g N x y))) (fun _ => True) (fun _ => [xO ad i j, wO (ad 6) (ad 7) (ad 8) (ad 9) N g, (ad 7, .inl (G.2 1, 20, .inl (wcl g))), (ad 8, .inl (G.2 0, 25, .inl (wgt g))), (ad 9, .inl (G.2 1, 18, .inl (wpl g)))]) := by
  refine Ct.of rfl rfl ?_
  intro M el eG hnL C T
  subst el
  subst eG
  have C : Cx M cX0_donor "ClockWard" ({ frames := 5, cells := 0, slots := 0, locals := 115 } : Room) := C
  refine V.lvs [0, 1, 2] (lv2 := [(0, .ref (ad 0)), (1, .int x), (2, .int y)]) rfl ?_
  refine V.aload_n (pc' := 1) C 0 dX0_donor_0 rfl rfl ?_
  refine V.iload_n (pc' := 2) C 1 dX0_donor_1 rfl rfl ?_
  refine V.callV (pc' := 5) (wr := []) C (ct_X0_isClock M.l M.G ad i j N g x ) dX0_donor_2 rfl (lw_V q535 q537 qs13 q64 q538) hyv_X0_isClock rfl rfl 0 rfl rfl [0, 1, 2, 3, 4] [] [0, 1, 2, 3, 4] rfl rfl rfl (fun _ => [xO ad i j, wO (ad 6) (ad 7) (ad 8) (ad 9) N g, (ad 7, .inl (M.G.2 1, 20, .inl (wcl g))), (ad 8, .inl (M.G.2 0, 25, .inl (wgt g))), (ad 9, .inl (M.G.2 1, 18, .inl (wpl g)))]) (fun _ => rfl) rfl 0 0 rfl rfl (fun _ => [.int (bI (isC N x))]) (fun _ => rfl) (fun _ _ => ?_)
  refine V.if_eqB (pc' := 8) C 15 dX0_donor_5 rfl rfl (fun h1 => ?_) (fun h1 => ?_)
  · refine V.iconst (pc' := 16) C dX0_donor_15 rfl kci_m1 ?_
    exact V.iret C T dX0_donor_16 () rfl rfl (if_neg (fun z => h1 z.1)).symm rfl trivial rfl rfl rfl
  · obtain ⟨c, hc, rfl⟩ := isC_nat hN5 h1
    refine V.iload_n (pc' := 9) C 2 dX0_donor_8 rfl rfl ?_
    refine V.callS (pc' := 12) (wr := [xO ad i j, wO (ad 6) (ad 7) (ad 8) (ad 9) N g, (ad 7, .inl (M.G.2 1, 20, .inl (wcl g))), (ad 8, .inl (M.G.2 0, 25, .inl (wgt g))), (ad 9, .inl (M.G.2 1, 18, .inl (wpl g)))]) C (ct_X0_isPart M.l M.G y ) dX0_donor_9 rfl (lw_S q668 q669 q64 q670) hys_X0_isPart rfl rfl [] [0, 1, 2, 3, 4] [0, 1, 2, 3, 4] rfl rfl rfl (fun _ => [xO ad i j, wO (ad 6) (ad 7) (ad 8) (ad 9) N g, (ad 7, .inl (M.G.2 1, 20, .inl (wcl g))), (ad 8, .inl (M.G.2 0, 25, .inl (wgt g))), (ad 9, .inl (M.G.2 1, 18, .inl (wpl g)))]) (fun _ => rfl) rfl 0 0 rfl rfl (fun _ => [.int (bI (inI y 0 1))]) (fun _ => rfl) (fun _ _ => ?_)
    refine V.if_neB (pc' := 15) C 17 dX0_donor_12 rfl rfl (fun h2 => ?_) (fun h2 => ?_)
    · refine V.iconst (pc' := 18) C dX0_donor_17 rfl kci_0 ?_
      refine V.istore_n (pc' := 19) C [(3, .int 0), (0, .ref (ad 0)), (1, .int (nI c)), (2, .int y)] dX0_donor_18 rfl 8 hnL rfl rfl ?_
      refine V.bipush (pc' := 21) C dX0_donor_19 rfl kcb_m4 ?_
      refine V.istore (pc' := 23) C [(4, .int (-4)), (3, .int 0), (0, .ref (ad 0)), (1, .int (nI c)), (2, .int y)] dX0_donor_21 rfl 8 hnL rfl rfl ?_
      refine V.iconst (pc' := 24) C dX0_donor_23 rfl kci_0 ?_
      refine V.istore (pc' := 26) C [(5, .int 0), (4, .int (-4)), (3, .int 0), (0, .ref (ad 0)), (1, .int (nI c)), (2, .int y)] dX0_donor_24 rfl 8 hnL rfl rfl ?_
      have L3 : ∀ a : Nat, a ≤ N → V M 0 0 [xO ad i j, wO (ad 6) (ad 7) (ad 8) (ad 9) N g, (ad 7, .inl (M.G.2 1, 20, .inl (wcl g))), (ad 8, .inl (M.G.2 0, 25, .inl (wgt g))), (ad 9, .inl (M.G.2 1, 18, .inl (wpl g)))] [(0, .ref (ad 0)), (1, .int (nI c)), (2, .int y), (3, .int (donM g c a)), (4, .int (donW g c a)), (5, .int (nI a))] [] 26 := by
        refine loopN _ N (fun a ha ih_L3 => ?_)
        refine V.iload (pc' := 28) C 5 dX0_donor_26 rfl rfl ?_
        refine V.aload_n (pc' := 29) C 0 dX0_donor_28 rfl rfl ?_
        refine V.get (pc' := 32) C dX0_donor_29 rfl 0 rfl rfl in_X0 1 rfl q183 rfl ?_
        refine V.getN (pc' := 35) C dX0_donor_32 rfl 1 rfl rfl in_X5 0 rfl q133 rfl ?_
        refine V.icmp_geN (pc' := 38) C a N (by omega) (by omega) 99 dX0_donor_35 rfl rfl (fun h4 => ?_) (fun h4 => ?_)
        · have hx5 : N = a := by omega
          subst hx5
          refine V.iload (pc' := 101) C 4 dX0_donor_99 rfl rfl ?_
          refine V.bipush (pc' := 103) C dX0_donor_101 rfl kcb_m4 ?_
          refine V.icmp_ne (pc' := 106) C 111 dX0_donor_103 rfl rfl (fun h6 => ?_) (fun h6 => ?_)
          · refine V.iload_n (pc' := 112) C 2 dX0_donor_111 rfl rfl ?_
            refine V.if_ne (pc' := 115) C 120 dX0_donor_112 rfl rfl (fun h7 => ?_) (fun h7 => ?_)
            · refine V.iload_n (pc' := 121) C 3 dX0_donor_120 rfl rfl ?_
              exact V.iret C T dX0_donor_121 () rfl rfl (Eq.trans (by rw [cn_nI (by omega), if_neg (fun z => z.elim h6 h7)]) (if_pos ⟨h1, h2⟩).symm) rfl trivial rfl rfl rfl
            · refine V.iload (pc' := 117) C 4 dX0_donor_115 rfl rfl ?_
              refine V.goto C 121 dX0_donor_117 rfl ?_
              exact V.iret C T dX0_donor_121 () rfl rfl (Eq.trans (by rw [cn_nI (by omega), if_pos (Or.inr h7)]) (if_pos ⟨h1, h2⟩).symm) rfl trivial rfl rfl rfl
          · refine V.bipush (pc' := 108) C dX0_donor_106 rfl kcb_m4 ?_
            refine V.goto C 121 dX0_donor_108 rfl ?_
            exact V.iret C T dX0_donor_121 () rfl rfl (Eq.trans (by rw [cn_nI (by omega), if_pos (Or.inl h6), h6]) (if_pos ⟨h1, h2⟩).symm) rfl trivial rfl rfl rfl
        · refine V.iload (pc' := 40) C 5 dX0_donor_38 rfl rfl ?_
          refine V.iload_n (pc' := 41) C 1 dX0_donor_40 rfl rfl ?_
          have J10 : ∀ (x9 : Int32), x9 = (if a = c then 0 else mostTo g a c 9) → V M 0 0 [xO ad i j, wO (ad 6) (ad 7) (ad 8) (ad 9) N g, (ad 7, .inl (M.G.2 1, 20, .inl (wcl g))), (ad 8, .inl (M.G.2 0, 25, .inl (wgt g))), (ad 9, .inl (M.G.2 1, 18, .inl (wpl g)))] [(0, .ref (ad 0)), (1, .int (nI c)), (2, .int y), (3, .int (donM g c a)), (4, .int (donW g c a)), (5, .int (nI a))] [.int x9] 55 := by
            intro x9 ex9
            subst ex9
            refine V.istore (pc' := 57) C [(6, .int (if a = c then 0 else mostTo g a c 9)), (0, .ref (ad 0)), (1, .int (nI c)), (2, .int y), (3, .int (donM g c a)), (4, .int (donW g c a)), (5, .int (nI a))] dX0_donor_55 rfl 8 hnL rfl rfl ?_
            refine V.aload_n (pc' := 58) C 1 dX0_donor_57 rfl rfl ?_
            refine V.get (pc' := 61) C dX0_donor_58 rfl 0 rfl rfl in_X0 1 rfl q183 rfl ?_
            refine V.iload (pc' := 63) C 6 dX0_donor_61 rfl rfl ?_
            refine V.iload_n (pc' := 64) C 2 dX0_donor_63 rfl rfl ?_
            refine V.iload (pc' := 66) C 0 dX0_donor_64 rfl rfl ?_
            refine V.callV (pc' := 69) (wr := [xO ad i j]) C (ct_X5_gets M.l M.G (ad 6) (ad 7) (ad 8) (ad 9) N g a c (if a = c then 0 else mostTo g a c 9) (by omega) (by omega)) dX0_donor_66 rfl (lw_V q681 q619 q620 q69 q621) hyv_X5_gets rfl rfl 0 rfl rfl [1, 2, 3, 4] [0] [0, 1, 2, 3, 4] rfl rfl rfl (fun _ => [xO ad i j, wO (ad 6) (ad 7) (ad 8) (ad 9) N g, (ad 7, .inl (M.G.2 1, 20, .inl (wcl g))), (ad 8, .inl (M.G.2 0, 25, .inl (wgt g))), (ad 9, .inl (M.G.2 1, 18, .inl (wpl g)))]) (fun _ => rfl) rfl 0 0 rfl rfl (fun _ => [.int (gets2 g a c (if a = c then 0 else mostTo g a c 9))]) (fun _ => rfl) (fun _ _ => ?_)
            refine V.topI (y := donG g c a) donG_c ?_
            refine V.istore (pc' := 71) C [(7, .int (donG g c a)), (6, .int (if a = c then 0 else mostTo g a c 9)), (0, .ref (ad 0)), (1, .int (nI c)), (2, .int y), (3, .int (donM g c a)), (4, .int (donW g c a)), (5, .int (nI a))] dX0_donor_69 rfl 8 hnL rfl rfl ?_
            refine V.iload (pc' := 73) C 0 dX0_donor_71 rfl rfl ?_
            refine V.iload_n (pc' := 74) C 5 dX0_donor_73 rfl rfl ?_
            have J13 : ∀ (x12 : Int32), x12 = (if (donG g c a) ≤ (donM g c a) then donW g c a else nI a) → V M 0 0 [xO ad i j, wO (ad 6) (ad 7) (ad 8) (ad 9) N g, (ad 7, .inl (M.G.2 1, 20, .inl (wcl g))), (ad 8, .inl (M.G.2 0, 25, .inl (wgt g))), (ad 9, .inl (M.G.2 1, 18, .inl (wpl g)))] [(7, .int (donG g c a)), (6, .int (if a = c then 0 else mostTo g a c 9)), (0, .ref (ad 0)), (1, .int (nI c)), (2, .int y), (3, .int (donM g c a)), (4, .int (donW g c a)), (5, .int (nI a))] [.int x12] 84 := by
              intro x12 ex12
              subst ex12
              refine V.istore (pc' := 86) C [(4, .int (if (donG g c a) ≤ (donM g c a) then donW g c a else nI a)), (7, .int (donG g c a)), (6, .int (if a = c then 0 else mostTo g a c 9)), (0, .ref (ad 0)), (1, .int (nI c)), (2, .int y), (3, .int (donM g c a)), (5, .int (nI a))] dX0_donor_84 rfl 8 hnL rfl rfl ?_
              refine V.iload_n (pc' := 87) C 6 dX0_donor_86 rfl rfl ?_
              refine V.iload (pc' := 89) C 1 dX0_donor_87 rfl rfl ?_
              refine V.mmax (pc' := 92) C dX0_donor_89 rfl q565 q494 q80 q495 rfl rfl rfl rfl ?_
              refine V.topI (y := if (donG g c a) ≤ (donM g c a) then donM g c a else donG g c a) tog_m ?_
              refine V.istore_n (pc' := 93) C [(3, .int (if (donG g c a) ≤ (donM g c a) then donM g c a else donG g c a)), (4, .int (if (donG g c a) ≤ (donM g c a) then donW g c a else nI a)), (7, .int (donG g c a)), (6, .int (if a = c then 0 else mostTo g a c 9)), (0, .ref (ad 0)), (1, .int (nI c)), (2, .int y), (5, .int (nI a))] dX0_donor_92 rfl 8 hnL rfl rfl ?_
              refine V.iinc (pc' := 96) C (nI (a + 1)) [(5, .int (nI (a + 1))), (3, .int (if (donG g c a) ≤ (donM g c a) then donM g c a else donG g c a)), (4, .int (if (donG g c a) ≤ (donM g c a) then donW g c a else nI a)), (7, .int (donG g c a)), (6, .int (if a = c then 0 else mostTo g a c 9)), (0, .ref (ad 0)), (1, .int (nI c)), (2, .int y)] dX0_donor_93 rfl 8 hnL rfl 7 rfl (ii_N a 1 rfl) rfl ?_
              refine V.goto C 26 dX0_donor_96 rfl ?_
              refine V.lvs [5, 6, 7, 1, 2, 0] (lv2 := [(0, .ref (ad 0)), (1, .int (nI c)), (2, .int y), (3, .int (donM g c (a + 1))), (4, .int (donW g c (a + 1))), (5, .int (nI (a + 1)))]) rfl ?_
              exact ih_L3 (by omega)
            refine V.icmp_le (pc' := 77) C 82 dX0_donor_74 rfl rfl (fun h11 => ?_) (fun h11 => ?_)
            · refine V.iload (pc' := 84) C 6 dX0_donor_82 rfl rfl ?_
              exact J13 _ (by rw [if_pos h11])
            · refine V.iload (pc' := 79) C 7 dX0_donor_77 rfl rfl ?_
              refine V.goto C 84 dX0_donor_79 rfl ?_
              exact J13 _ (by rw [if_neg h11])
          refine V.icmp_neN (pc' := 44) C a c (by omega) (by omega) 48 dX0_donor_41 rfl rfl (fun h8 => ?_) (fun h8 => ?_)
          · refine V.aload_n (pc' := 49) C 0 dX0_donor_48 rfl rfl ?_
            refine V.iload (pc' := 51) C 5 dX0_donor_49 rfl rfl ?_
            refine V.iload_n (pc' := 52) C 1 dX0_donor_51 rfl rfl ?_
            refine V.callV (pc' := 55) (wr := []) C (ct_X0_mostNow M.l M.G ad i j N g a c (by omega) (by omega)) dX0_donor_52 rfl (lw_V q606 q608 qs16 q64 q609) hyv_X0_mostNow rfl rfl 0 rfl rfl [0, 1, 2, 3, 4] [] [0, 1, 2, 3, 4] rfl rfl rfl (fun _ => [xO ad i j, wO (ad 6) (ad 7) (ad 8) (ad 9) N g, (ad 7, .inl (M.G.2 1, 20, .inl (wcl g))), (ad 8, .inl (M.G.2 0, 25, .inl (wgt g))), (ad 9, .inl (M.G.2 1, 18, .inl (wpl g)))]) (fun _ => rfl) rfl 0 0 rfl rfl (fun _ => [.int (mostTo g a c 9)]) (fun _ => rfl) (fun _ _ => ?_)
            exact J10 _ (by rw [if_neg h8])
          · refine V.iconst (pc' := 45) C dX0_donor_44 rfl kci_0 ?_
            refine V.goto C 55 dX0_donor_45 rfl ?_
            exact J10 _ (by rw [if_pos h8])
      refine V.lvs [3, 4, 5, 2, 1, 0] (lv2 := [(0, .ref (ad 0)), (1, .int (nI c)), (2, .int y), (3, .int (donM g c 0)), (4, .int (donW g c 0)), (5, .int (nI 0))]) rfl ?_
      exact L3 0 (by omega)
    · refine V.iconst (pc' := 16) C dX0_donor_15 rfl kci_m1 ?_
      exact V.iret C T dX0_donor_16 () rfl rfl (if_neg (fun z => h2 z.2)).symm rfl trivial rfl rfl rfl
