set_option maxRecDepth 100000
set_option maxHeartbeats 4000000 in
theorem ct_X0_giftsMany (l : Launch) (G : GG) (ad : Nat → Nat) (i : Nat → Int32) (j : Nat → Int64) (N : Nat) (g : Pg)  : Ct l G yX0_giftsMany (ws_ yX0_giftsMany cX0_giftsMany 1 (some .int)) ({ frames := 0, cells := 0, slots := 0, locals := 0 } : Room) [.ref (ad 0)] [xO ad i j, wO (ad 6) (ad 7) (ad 8) (ad 9) N g, (ad 7, .inl (G.2 1, 20, .inl (wcl g))), (ad 8, .inl (G.2 0, 25, .inl (wgt g))), (ad 9, .inl (G.2 1, 18, .inl (wpl g)))] (fun _ : Unit => some (.int (nI (N * N * 9)))) (fun _ => True) (fun _ => [xO ad i j, wO (ad 6) (ad 7) (ad 8) (ad 9) N g, (ad 7, .inl (G.2 1, 20, .inl (wcl g))), (ad 8, .inl (G.2 0, 25, .inl (wgt g))), (ad 9, .inl (G.2 1, 18, .inl (wpl g)))]) := by
  refine Ct.of rfl rfl ?_
  intro M el eG hnL C T
  subst el
  subst eG
  have C : Cx M cX0_giftsMany "ClockWard" ({ frames := 0, cells := 0, slots := 0, locals := 0 } : Room) := C
  refine V.lvs [0] (lv2 := [(0, .ref (ad 0))]) rfl ?_
  refine V.aload_n (pc' := 1) C 0 dX0_giftsMany_0 rfl rfl ?_
  refine V.get (pc' := 4) C dX0_giftsMany_1 rfl 0 rfl rfl in_X0 1 rfl q183 rfl ?_
  refine V.getN (pc' := 7) C dX0_giftsMany_4 rfl 1 rfl rfl in_X5 0 rfl q133 rfl ?_
  refine V.aload_n (pc' := 8) C 0 dX0_giftsMany_7 rfl rfl ?_
  refine V.get (pc' := 11) C dX0_giftsMany_8 rfl 0 rfl rfl in_X0 1 rfl q183 rfl ?_
  refine V.getN (pc' := 14) C dX0_giftsMany_11 rfl 1 rfl rfl in_X5 0 rfl q133 rfl ?_
  refine V.imulN (pc' := 15) C N N dX0_giftsMany_14 rfl ?_
  refine V.bipush (pc' := 17) C dX0_giftsMany_15 rfl kcb_9 ?_
  refine V.imulN (pc' := 18) C (N * N) 9 dX0_giftsMany_17 rfl ?_
  exact V.iret C T dX0_giftsMany_18 () rfl rfl rfl rfl trivial rfl rfl rfl
set_option maxHeartbeats 4000000 in
theorem ct_X0_giver (l : Launch) (G : GG) (ad : Nat → Nat) (i : Nat → Int32) (j : Nat → Int64) (N : Nat) (g : Pg) (q : Nat) (hN5 : N ≤ 5) (hq : q < N * N * 9) : Ct l G yX0_giver (ws_ yX0_giver cX0_giver 2 (some .int)) ({ frames := 0, cells := 0, slots := 0, locals := 0 } : Room) [.ref (ad 0), .int (nI q)] [xO ad i j, wO (ad 6) (ad 7) (ad 8) (ad 9) N g, (ad 7, .inl (G.2 1, 20, .inl (wcl g))), (ad 8, .inl (G.2 0, 25, .inl (wgt g))), (ad 9, .inl (G.2 1, 18, .inl (wpl g)))] (fun _ : Unit => some (.int (nI (q / (9 * N))))) (fun _ => True) (fun _ => [xO ad i j, wO (ad 6) (ad 7) (ad 8) (ad 9) N g, (ad 7, .inl (G.2 1, 20, .inl (wcl g))), (ad 8, .inl (G.2 0, 25, .inl (wgt g))), (ad 9, .inl (G.2 1, 18, .inl (wpl g)))]) := by
  refine Ct.of rfl rfl ?_
  intro M el eG hnL C T
  subst el
  subst eG
  have C : Cx M cX0_giver "ClockWard" ({ frames := 0, cells := 0, slots := 0, locals := 0 } : Room) := C
  have hNN := nn225 hN5
  have h0 := q_pos hq
  refine V.lvs [0, 1] (lv2 := [(0, .ref (ad 0)), (1, .int (nI q))]) rfl ?_
  refine V.iload_n (pc' := 1) C 1 dX0_giver_0 rfl rfl ?_
  refine V.bipush (pc' := 3) C dX0_giver_1 rfl kcb_9 ?_
  refine V.aload_n (pc' := 4) C 0 dX0_giver_3 rfl rfl ?_
  refine V.get (pc' := 7) C dX0_giver_4 rfl 0 rfl rfl in_X0 1 rfl q183 rfl ?_
  refine V.getN (pc' := 10) C dX0_giver_7 rfl 1 rfl rfl in_X5 0 rfl q133 rfl ?_
  refine V.imulN (pc' := 11) C 9 N dX0_giver_10 rfl ?_
  refine V.idivN (pc' := 12) C q (9 * N) (by omega) (by omega) (by omega) dX0_giver_11 rfl ?_
  exact V.iret C T dX0_giver_12 () rfl rfl rfl rfl trivial rfl rfl rfl
set_option maxHeartbeats 4000000 in
theorem ct_X0_taker (l : Launch) (G : GG) (ad : Nat → Nat) (i : Nat → Int32) (j : Nat → Int64) (N : Nat) (g : Pg) (q : Nat) (hN5 : N ≤ 5) (hq : q < N * N * 9) : Ct l G yX0_taker (ws_ yX0_taker cX0_taker 2 (some .int)) ({ frames := 0, cells := 0, slots := 0, locals := 0 } : Room) [.ref (ad 0), .int (nI q)] [xO ad i j, wO (ad 6) (ad 7) (ad 8) (ad 9) N g, (ad 7, .inl (G.2 1, 20, .inl (wcl g))), (ad 8, .inl (G.2 0, 25, .inl (wgt g))), (ad 9, .inl (G.2 1, 18, .inl (wpl g)))] (fun _ : Unit => some (.int (nI (q / 9 % N)))) (fun _ => True) (fun _ => [xO ad i j, wO (ad 6) (ad 7) (ad 8) (ad 9) N g, (ad 7, .inl (G.2 1, 20, .inl (wcl g))), (ad 8, .inl (G.2 0, 25, .inl (wgt g))), (ad 9, .inl (G.2 1, 18, .inl (wpl g)))]) := by
  refine Ct.of rfl rfl ?_
  intro M el eG hnL C T
  subst el
  subst eG
  have C : Cx M cX0_taker "ClockWard" ({ frames := 0, cells := 0, slots := 0, locals := 0 } : Room) := C
  have hNN := nn225 hN5
  have h0 := q_pos hq
  refine V.lvs [0, 1] (lv2 := [(0, .ref (ad 0)), (1, .int (nI q))]) rfl ?_
  refine V.iload_n (pc' := 1) C 1 dX0_taker_0 rfl rfl ?_
  refine V.bipush (pc' := 3) C dX0_taker_1 rfl kcb_9 ?_
  refine V.idivN (pc' := 4) C q 9 (by omega) (by omega) (by omega) dX0_taker_3 rfl ?_
  refine V.aload_n (pc' := 5) C 0 dX0_taker_4 rfl rfl ?_
  refine V.get (pc' := 8) C dX0_taker_5 rfl 0 rfl rfl in_X0 1 rfl q183 rfl ?_
  refine V.getN (pc' := 11) C dX0_taker_8 rfl 1 rfl rfl in_X5 0 rfl q133 rfl ?_
  refine V.iremN (pc' := 12) C (q / 9) N (by omega) h0 (by omega) dX0_taker_11 rfl ?_
  exact V.iret C T dX0_taker_12 () rfl rfl rfl rfl trivial rfl rfl rfl
set_option maxHeartbeats 4000000 in
theorem ct_X0_minutes (l : Launch) (G : GG) (q : Nat) (hq2 : q < 1000) : Ct l G yX0_minutes (ws_ yX0_minutes cX0_minutes 1 (some .int)) ({ frames := 0, cells := 0, slots := 0, locals := 0 } : Room) [.int (nI q)] [] (fun _ : Unit => some (.int (nI (1 + q % 9)))) (fun _ => True) (fun _ => []) := by
  refine Ct.of rfl rfl ?_
  intro M el eG hnL C T
  subst el
  subst eG
  have C : Cx M cX0_minutes "ClockWard" ({ frames := 0, cells := 0, slots := 0, locals := 0 } : Room) := C
  refine V.lvs [0] (lv2 := [(0, .int (nI q))]) rfl ?_
  refine V.iconst (pc' := 1) C dX0_minutes_0 rfl kci_1 ?_
  refine V.iload_n (pc' := 2) C 0 dX0_minutes_1 rfl rfl ?_
  refine V.bipush (pc' := 4) C dX0_minutes_2 rfl kcb_9 ?_
  refine V.iremN (pc' := 5) C q 9 (by omega) (by omega) (by omega) dX0_minutes_4 rfl ?_
  refine V.iaddN (pc' := 6) C 1 (q % 9) dX0_minutes_5 rfl ?_
  exact V.iret C T dX0_minutes_6 () rfl rfl rfl rfl trivial rfl rfl rfl
set_option maxHeartbeats 4000000 in
theorem ct_X0_told (l : Launch) (G : GG) (ad : Nat → Nat) (i : Nat → Int32) (j : Nat → Int64) (N : Nat) (g : Pg) (q : Nat) (hN5 : N ≤ 5) (hq : q < N * N * 9) : Ct l G yX0_told (ws_ yX0_told cX0_told 2 (some .int)) ({ frames := 1, cells := 0, slots := 0, locals := 21 } : Room) [.ref (ad 0), .int (nI q)] [xO ad i j, wO (ad 6) (ad 7) (ad 8) (ad 9) N g, (ad 7, .inl (G.2 1, 20, .inl (wcl g))), (ad 8, .inl (G.2 0, 25, .inl (wgt g))), (ad 9, .inl (G.2 1, 18, .inl (wpl g)))] (fun _ : Unit => some (.int (nI (cd N q)))) (fun _ => True) (fun _ => [xO ad i j, wO (ad 6) (ad 7) (ad 8) (ad 9) N g, (ad 7, .inl (G.2 1, 20, .inl (wcl g))), (ad 8, .inl (G.2 0, 25, .inl (wgt g))), (ad 9, .inl (G.2 1, 18, .inl (wpl g)))]) := by
  refine Ct.of rfl rfl ?_
  intro M el eG hnL C T
  subst el
  subst eG
  have C : Cx M cX0_told "ClockWard" ({ frames := 1, cells := 0, slots := 0, locals := 21 } : Room) := C
  have hNN := nn225 hN5
  refine V.lvs [0, 1] (lv2 := [(0, .ref (ad 0)), (1, .int (nI q))]) rfl ?_
  refine V.bipush (pc' := 2) C dX0_told_0 rfl kcb_100 ?_
  refine V.aload_n (pc' := 3) C 0 dX0_told_2 rfl rfl ?_
  refine V.iload_n (pc' := 4) C 1 dX0_told_3 rfl rfl ?_
  refine V.callV (pc' := 7) (wr := []) C (ct_X0_giver M.l M.G ad i j N g q hN5 hq) dX0_told_4 rfl (lw_V q707 q709 qs23 q64 q710) hyv_X0_giver rfl rfl 0 rfl rfl [0, 1, 2, 3, 4] [] [0, 1, 2, 3, 4] rfl rfl rfl (fun _ => [xO ad i j, wO (ad 6) (ad 7) (ad 8) (ad 9) N g, (ad 7, .inl (M.G.2 1, 20, .inl (wcl g))), (ad 8, .inl (M.G.2 0, 25, .inl (wgt g))), (ad 9, .inl (M.G.2 1, 18, .inl (wpl g)))]) (fun _ => rfl) rfl 0 0 rfl rfl (fun _ => [.int (nI (q / (9 * N))), .int 100]) (fun _ => rfl) (fun _ _ => ?_)
  refine V.imulN (pc' := 8) C 100 (q / (9 * N)) dX0_told_7 rfl ?_
  refine V.bipush (pc' := 10) C dX0_told_8 rfl kcb_10 ?_
  refine V.aload_n (pc' := 11) C 0 dX0_told_10 rfl rfl ?_
  refine V.iload_n (pc' := 12) C 1 dX0_told_11 rfl rfl ?_
  refine V.callV (pc' := 15) (wr := []) C (ct_X0_taker M.l M.G ad i j N g q hN5 hq) dX0_told_12 rfl (lw_V q711 q713 qs24 q64 q714) hyv_X0_taker rfl rfl 0 rfl rfl [0, 1, 2, 3, 4] [] [0, 1, 2, 3, 4] rfl rfl rfl (fun _ => [xO ad i j, wO (ad 6) (ad 7) (ad 8) (ad 9) N g, (ad 7, .inl (M.G.2 1, 20, .inl (wcl g))), (ad 8, .inl (M.G.2 0, 25, .inl (wgt g))), (ad 9, .inl (M.G.2 1, 18, .inl (wpl g)))]) (fun _ => rfl) rfl 0 0 rfl rfl (fun _ => [.int (nI (q / 9 % N)), .int 10, .int (nI (100 * (q / (9 * N))))]) (fun _ => rfl) (fun _ _ => ?_)
  refine V.imulN (pc' := 16) C 10 (q / 9 % N) dX0_told_15 rfl ?_
  refine V.iaddN (pc' := 17) C (100 * (q / (9 * N))) (10 * (q / 9 % N)) dX0_told_16 rfl ?_
  refine V.iload_n (pc' := 18) C 1 dX0_told_17 rfl rfl ?_
  refine V.callS (pc' := 21) (wr := [xO ad i j, wO (ad 6) (ad 7) (ad 8) (ad 9) N g, (ad 7, .inl (M.G.2 1, 20, .inl (wcl g))), (ad 8, .inl (M.G.2 0, 25, .inl (wgt g))), (ad 9, .inl (M.G.2 1, 18, .inl (wpl g)))]) C (ct_X0_minutes M.l M.G q (by omega)) dX0_told_18 rfl (lw_S q715 q716 q64 q717) hys_X0_minutes rfl rfl [] [0, 1, 2, 3, 4] [0, 1, 2, 3, 4] rfl rfl rfl (fun _ => [xO ad i j, wO (ad 6) (ad 7) (ad 8) (ad 9) N g, (ad 7, .inl (M.G.2 1, 20, .inl (wcl g))), (ad 8, .inl (M.G.2 0, 25, .inl (wgt g))), (ad 9, .inl (M.G.2 1, 18, .inl (wpl g)))]) (fun _ => rfl) rfl 0 0 rfl rfl (fun _ => [.int (nI (1 + q % 9)), .int (nI (100 * (q / (9 * N)) + 10 * (q / 9 % N)))]) (fun _ => rfl) (fun _ _ => ?_)
  refine V.iaddN (pc' := 22) C (100 * (q / (9 * N)) + 10 * (q / 9 % N)) (1 + q % 9) dX0_told_21 rfl ?_
  exact V.iret C T dX0_told_22 () rfl rfl rfl rfl trivial rfl rfl rfl
set_option maxHeartbeats 4000000 in
theorem ct_X0_comes1 (l : Launch) (G : GG) (ad : Nat → Nat) (i : Nat → Int32) (j : Nat → Int64) (N : Nat) (g : Pg) (Kh : Nat) (th : Pg) (q : Nat) (n : Nat) (ok : okP g N n) (hq : q < N * N * 9) : Ct l G yX0_comes (ws_ yX0_comes cX0_comes 7 (some .boolean)) ({ frames := 4, cells := 0, slots := 0, locals := 91 } : Room) [.ref (ad 0), .ref (ad 14), .ref (ad 6), .int (nI q)] [xO ad i j, wO (ad 6) (ad 7) (ad 8) (ad 9) N g, (ad 7, .inl (G.2 1, 20, .inl (wcl g))), (ad 8, .inl (G.2 0, 25, .inl (wgt g))), (ad 9, .inl (G.2 1, 18, .inl (wpl g))), wO (ad 14) (ad 15) (ad 16) (ad 17) Kh th, (ad 15, .inl (G.2 1, 20, .inl (wcl th))), (ad 16, .inl (G.2 0, 25, .inl (wgt th))), (ad 17, .inl (G.2 1, 18, .inl (wpl th)))] (fun _ : Unit => some (.int (bI (cmP g N q)))) (fun _ => True) (fun _ => [xO ad i j, wO (ad 6) (ad 7) (ad 8) (ad 9) N g, (ad 7, .inl (G.2 1, 20, .inl (wcl g))), (ad 8, .inl (G.2 0, 25, .inl (wgt g))), (ad 9, .inl (G.2 1, 18, .inl (wpl g))), wO (ad 14) (ad 15) (ad 16) (ad 17) (if cmP g N q then N else Kh) (if cmP g N q then cmG g N q else th), (ad 15, .inl (G.2 1, 20, .inl (wcl (if cmP g N q then cmG g N q else th)))), (ad 16, .inl (G.2 0, 25, .inl (wgt (if cmP g N q then cmG g N q else th)))), (ad 17, .inl (G.2 1, 18, .inl (wpl (if cmP g N q then cmG g N q else th))))]) := by
  refine Ct.of rfl rfl ?_
  intro M el eG hnL C T
  subst el
  subst eG
  have C : Cx M cX0_comes "ClockWard" ({ frames := 4, cells := 0, slots := 0, locals := 91 } : Room) := C
  have hN5 := ok.n5
  have hNN := nn225 hN5
  have hca := Nat.lt_of_lt_of_le (cA_lt hN5 hq) hN5
  have hcb := Nat.lt_of_lt_of_le (cB_lt (N := N) hq) hN5
  refine V.lvs [0, 1, 2, 3] (lv2 := [(0, .ref (ad 0)), (1, .ref (ad 14)), (2, .ref (ad 6)), (3, .int (nI q))]) rfl ?_
  refine V.aload_n (pc' := 1) C 0 dX0_comes_0 rfl rfl ?_
  refine V.iload_n (pc' := 2) C 3 dX0_comes_1 rfl rfl ?_
  refine V.callV (pc' := 5) (wr := [wO (ad 14) (ad 15) (ad 16) (ad 17) Kh th, (ad 15, .inl (M.G.2 1, 20, .inl (wcl th))), (ad 16, .inl (M.G.2 0, 25, .inl (wgt th))), (ad 17, .inl (M.G.2 1, 18, .inl (wpl th)))]) C (ct_X0_giver M.l M.G ad i j N g q hN5 hq) dX0_comes_2 rfl (lw_V q707 q709 qs23 q64 q710) hyv_X0_giver rfl rfl 0 rfl rfl [0, 1, 2, 3, 4] [5, 6, 7, 8] [4, 5, 6, 7, 8, 0, 1, 2, 3] rfl rfl rfl (fun _ => [xO ad i j, wO (ad 6) (ad 7) (ad 8) (ad 9) N g, (ad 7, .inl (M.G.2 1, 20, .inl (wcl g))), (ad 8, .inl (M.G.2 0, 25, .inl (wgt g))), (ad 9, .inl (M.G.2 1, 18, .inl (wpl g))), wO (ad 14) (ad 15) (ad 16) (ad 17) Kh th, (ad 15, .inl (M.G.2 1, 20, .inl (wcl th))), (ad 16, .inl (M.G.2 0, 25, .inl (wgt th))), (ad 17, .inl (M.G.2 1, 18, .inl (wpl th)))]) (fun _ => rfl) rfl 0 0 rfl rfl (fun _ => [.int (nI (q / (9 * N)))]) (fun _ => rfl) (fun _ _ => ?_)
  refine V.istore (pc' := 7) C [(4, .int (nI (q / (9 * N)))), (0, .ref (ad 0)), (1, .ref (ad 14)), (2, .ref (ad 6)), (3, .int (nI q))] dX0_comes_5 rfl 7 hnL rfl rfl ?_
  refine V.aload_n (pc' := 8) C 1 dX0_comes_7 rfl rfl ?_
  refine V.iload_n (pc' := 9) C 4 dX0_comes_8 rfl rfl ?_
  refine V.callV (pc' := 12) (wr := [wO (ad 14) (ad 15) (ad 16) (ad 17) Kh th, (ad 15, .inl (M.G.2 1, 20, .inl (wcl th))), (ad 16, .inl (M.G.2 0, 25, .inl (wgt th))), (ad 17, .inl (M.G.2 1, 18, .inl (wpl th)))]) C (ct_X0_taker M.l M.G ad i j N g q hN5 hq) dX0_comes_9 rfl (lw_V q711 q713 qs24 q64 q714) hyv_X0_taker rfl rfl 0 rfl rfl [0, 1, 2, 3, 4] [5, 6, 7, 8] [4, 5, 6, 7, 8, 0, 1, 2, 3] rfl rfl rfl (fun _ => [xO ad i j, wO (ad 6) (ad 7) (ad 8) (ad 9) N g, (ad 7, .inl (M.G.2 1, 20, .inl (wcl g))), (ad 8, .inl (M.G.2 0, 25, .inl (wgt g))), (ad 9, .inl (M.G.2 1, 18, .inl (wpl g))), wO (ad 14) (ad 15) (ad 16) (ad 17) Kh th, (ad 15, .inl (M.G.2 1, 20, .inl (wcl th))), (ad 16, .inl (M.G.2 0, 25, .inl (wgt th))), (ad 17, .inl (M.G.2 1, 18, .inl (wpl th)))]) (fun _ => rfl) rfl 0 0 rfl rfl (fun _ => [.int (nI (q / 9 % N))]) (fun _ => rfl) (fun _ _ => ?_)
  refine V.istore (pc' := 14) C [(5, .int (nI (q / 9 % N))), (4, .int (nI (q / (9 * N)))), (0, .ref (ad 0)), (1, .ref (ad 14)), (2, .ref (ad 6)), (3, .int (nI q))] dX0_comes_12 rfl 7 hnL rfl rfl ?_
  refine V.iload (pc' := 16) C 1 dX0_comes_14 rfl rfl ?_
  refine V.iload (pc' := 18) C 0 dX0_comes_16 rfl rfl ?_
  refine V.icmp_eqN (pc' := 21) C (q / (9 * N)) (q / 9 % N) (Nat.lt_trans hca (by decide)) (Nat.lt_trans hcb (by decide)) 40 dX0_comes_18 rfl rfl (fun h1 => ?_) (fun h1 => ?_)
  · refine V.iconst (pc' := 41) C dX0_comes_40 rfl kci_0 ?_
    refine V.istore (pc' := 43) C [(6, .int 0), (5, .int (nI (q / 9 % N))), (4, .int (nI (q / (9 * N)))), (0, .ref (ad 0)), (1, .ref (ad 14)), (2, .ref (ad 6)), (3, .int (nI q))] dX0_comes_41 rfl 7 hnL rfl rfl ?_
    refine V.iload (pc' := 45) C 0 dX0_comes_43 rfl rfl ?_
    refine V.if_eq (pc' := 48) C 65 dX0_comes_45 rfl rfl (fun _ => ?_) (fun h2 => absurd h2 (fun z => z rfl))
    refine V.iload (pc' := 67) C 0 dX0_comes_65 rfl rfl ?_
    exact V.iret C T dX0_comes_67 () rfl rfl (bI_f (show ¬ cmP g N q from (fun z => z.1 h1))).symm bI_nar trivial (by rw [if_neg (show ¬ cmP g N q from (fun z => z.1 h1)), if_neg (show ¬ cmP g N q from (fun z => z.1 h1))]) rfl rfl
  · refine V.aload_n (pc' := 22) C 4 dX0_comes_21 rfl rfl ?_
    refine V.iload (pc' := 24) C 1 dX0_comes_22 rfl rfl ?_
    refine V.iload (pc' := 26) C 0 dX0_comes_24 rfl rfl ?_
    refine V.iload_n (pc' := 27) C 5 dX0_comes_26 rfl rfl ?_
    refine V.callS (pc' := 30) (wr := [xO ad i j, wO (ad 6) (ad 7) (ad 8) (ad 9) N g, (ad 7, .inl (M.G.2 1, 20, .inl (wcl g))), (ad 8, .inl (M.G.2 0, 25, .inl (wgt g))), (ad 9, .inl (M.G.2 1, 18, .inl (wpl g))), wO (ad 14) (ad 15) (ad 16) (ad 17) Kh th, (ad 15, .inl (M.G.2 1, 20, .inl (wcl th))), (ad 16, .inl (M.G.2 0, 25, .inl (wgt th))), (ad 17, .inl (M.G.2 1, 18, .inl (wpl th)))]) C (ct_X0_minutes M.l M.G q (by omega)) dX0_comes_27 rfl (lw_S q715 q716 q64 q717) hys_X0_minutes rfl rfl [] [0, 1, 2, 3, 4, 5, 6, 7, 8] [0, 1, 2, 3, 4, 5, 6, 7, 8] rfl rfl rfl (fun _ => [xO ad i j, wO (ad 6) (ad 7) (ad 8) (ad 9) N g, (ad 7, .inl (M.G.2 1, 20, .inl (wcl g))), (ad 8, .inl (M.G.2 0, 25, .inl (wgt g))), (ad 9, .inl (M.G.2 1, 18, .inl (wpl g))), wO (ad 14) (ad 15) (ad 16) (ad 17) Kh th, (ad 15, .inl (M.G.2 1, 20, .inl (wcl th))), (ad 16, .inl (M.G.2 0, 25, .inl (wgt th))), (ad 17, .inl (M.G.2 1, 18, .inl (wpl th)))]) (fun _ => rfl) rfl 0 0 rfl rfl (fun _ => [.int (nI (1 + q % 9)), .int (nI (q / 9 % N)), .int (nI (q / (9 * N))), .ref (ad 6)]) (fun _ => rfl) (fun _ _ => ?_)
    refine V.callV (pc' := 33) (wr := [xO ad i j, wO (ad 14) (ad 15) (ad 16) (ad 17) Kh th, (ad 15, .inl (M.G.2 1, 20, .inl (wcl th))), (ad 16, .inl (M.G.2 0, 25, .inl (wgt th))), (ad 17, .inl (M.G.2 1, 18, .inl (wpl th)))]) C (ct_X5_mayBe M.l M.G (ad 6) (ad 7) (ad 8) (ad 9) N g (q / (9 * N)) (q / 9 % N) (nI (1 + q % 9)) hca hcb) dX0_comes_30 rfl (lw_V q610 q611 q612 q69 q613) hyv_X5_mayBe rfl rfl 0 rfl rfl [1, 2, 3, 4] [0, 5, 6, 7, 8] [0, 5, 6, 7, 8, 1, 2, 3, 4] rfl rfl rfl (fun _ => [xO ad i j, wO (ad 6) (ad 7) (ad 8) (ad 9) N g, (ad 7, .inl (M.G.2 1, 20, .inl (wcl g))), (ad 8, .inl (M.G.2 0, 25, .inl (wgt g))), (ad 9, .inl (M.G.2 1, 18, .inl (wpl g))), wO (ad 14) (ad 15) (ad 16) (ad 17) Kh th, (ad 15, .inl (M.G.2 1, 20, .inl (wcl th))), (ad 16, .inl (M.G.2 0, 25, .inl (wgt th))), (ad 17, .inl (M.G.2 1, 18, .inl (wpl th)))]) (fun _ => rfl) rfl 0 0 rfl rfl (fun _ => [.int (bI (may2 g g (q / (9 * N)) (q / 9 % N) (nI (1 + q % 9))))]) (fun _ => rfl) (fun _ _ => ?_)
    refine V.if_eqB (pc' := 36) C 40 dX0_comes_33 rfl rfl (fun h3 => ?_) (fun h3 => ?_)
    · refine V.iconst (pc' := 41) C dX0_comes_40 rfl kci_0 ?_
      refine V.istore (pc' := 43) C [(6, .int 0), (5, .int (nI (q / 9 % N))), (4, .int (nI (q / (9 * N)))), (0, .ref (ad 0)), (1, .ref (ad 14)), (2, .ref (ad 6)), (3, .int (nI q))] dX0_comes_41 rfl 7 hnL rfl rfl ?_
      refine V.iload (pc' := 45) C 0 dX0_comes_43 rfl rfl ?_
      refine V.if_eq (pc' := 48) C 65 dX0_comes_45 rfl rfl (fun _ => ?_) (fun h4 => absurd h4 (fun z => z rfl))
      refine V.iload (pc' := 67) C 0 dX0_comes_65 rfl rfl ?_
      exact V.iret C T dX0_comes_67 () rfl rfl (bI_f (show ¬ cmP g N q from (fun z => h3 z.2))).symm bI_nar trivial (by rw [if_neg (show ¬ cmP g N q from (fun z => h3 z.2)), if_neg (show ¬ cmP g N q from (fun z => h3 z.2))]) rfl rfl
    · refine V.iconst (pc' := 37) C dX0_comes_36 rfl kci_1 ?_
      refine V.goto C 41 dX0_comes_37 rfl ?_
      refine V.istore (pc' := 43) C [(6, .int 1), (5, .int (nI (q / 9 % N))), (4, .int (nI (q / (9 * N)))), (0, .ref (ad 0)), (1, .ref (ad 14)), (2, .ref (ad 6)), (3, .int (nI q))] dX0_comes_41 rfl 7 hnL rfl rfl ?_
      refine V.iload (pc' := 45) C 0 dX0_comes_43 rfl rfl ?_
      refine V.if_eq (pc' := 48) C 65 dX0_comes_45 rfl rfl (fun h5 => absurd h5 (by decide)) (fun _ => ?_)
      refine V.aload_n (pc' := 49) C 4 dX0_comes_48 rfl rfl ?_
      refine V.aload_n (pc' := 50) C 5 dX0_comes_49 rfl rfl ?_
      refine V.callV (pc' := 53) (wr := [xO ad i j]) C (ct_X5_as M.l M.G (ad 14) (ad 15) (ad 16) (ad 17) Kh th (ad 6) (ad 7) (ad 8) (ad 9) N g ok.w) dX0_comes_50 rfl (lw_V q504 q505 q506 q69 q507) hyv_X5_as rfl rfl 0 rfl rfl [5, 6, 7, 8, 1, 2, 3, 4] [0] [0, 5, 6, 7, 8, 1, 2, 3, 4] rfl rfl rfl (fun _ => [xO ad i j, wO (ad 6) (ad 7) (ad 8) (ad 9) N g, (ad 7, .inl (M.G.2 1, 20, .inl (wcl g))), (ad 8, .inl (M.G.2 0, 25, .inl (wgt g))), (ad 9, .inl (M.G.2 1, 18, .inl (wpl g))), wO (ad 14) (ad 15) (ad 16) (ad 17) N g, (ad 15, .inl (M.G.2 1, 20, .inl (wcl g))), (ad 16, .inl (M.G.2 0, 25, .inl (wgt g))), (ad 17, .inl (M.G.2 1, 18, .inl (wpl g)))]) (fun _ => rfl) rfl 0 0 rfl rfl (fun _ => []) (fun _ => rfl) (fun _ _ => ?_)
      have hgf := (cm_ok ok hq (show cmP g N q from ⟨h1, h3⟩)).2
      refine V.aload_n (pc' := 54) C 4 dX0_comes_53 rfl rfl ?_
      refine V.iload (pc' := 56) C 2 dX0_comes_54 rfl rfl ?_
      refine V.iload (pc' := 58) C 1 dX0_comes_56 rfl rfl ?_
      refine V.iload_n (pc' := 59) C 6 dX0_comes_58 rfl rfl ?_
      refine V.callS (pc' := 62) (wr := [xO ad i j, wO (ad 6) (ad 7) (ad 8) (ad 9) N g, (ad 7, .inl (M.G.2 1, 20, .inl (wcl g))), (ad 8, .inl (M.G.2 0, 25, .inl (wgt g))), (ad 9, .inl (M.G.2 1, 18, .inl (wpl g))), wO (ad 14) (ad 15) (ad 16) (ad 17) N g, (ad 15, .inl (M.G.2 1, 20, .inl (wcl g))), (ad 16, .inl (M.G.2 0, 25, .inl (wgt g))), (ad 17, .inl (M.G.2 1, 18, .inl (wpl g)))]) C (ct_X0_minutes M.l M.G q (by omega)) dX0_comes_59 rfl (lw_S q715 q716 q64 q717) hys_X0_minutes rfl rfl [] [0, 1, 2, 3, 4, 5, 6, 7, 8] [0, 1, 2, 3, 4, 5, 6, 7, 8] rfl rfl rfl (fun _ => [xO ad i j, wO (ad 6) (ad 7) (ad 8) (ad 9) N g, (ad 7, .inl (M.G.2 1, 20, .inl (wcl g))), (ad 8, .inl (M.G.2 0, 25, .inl (wgt g))), (ad 9, .inl (M.G.2 1, 18, .inl (wpl g))), wO (ad 14) (ad 15) (ad 16) (ad 17) N g, (ad 15, .inl (M.G.2 1, 20, .inl (wcl g))), (ad 16, .inl (M.G.2 0, 25, .inl (wgt g))), (ad 17, .inl (M.G.2 1, 18, .inl (wpl g)))]) (fun _ => rfl) rfl 0 0 rfl rfl (fun _ => [.int (nI (1 + q % 9)), .int (nI (q / 9 % N)), .int (nI (q / (9 * N))), .ref (ad 14)]) (fun _ => rfl) (fun _ _ => ?_)
      refine V.callV (pc' := 65) (wr := [xO ad i j, wO (ad 6) (ad 7) (ad 8) (ad 9) N g, (ad 7, .inl (M.G.2 1, 20, .inl (wcl g))), (ad 8, .inl (M.G.2 0, 25, .inl (wgt g))), (ad 9, .inl (M.G.2 1, 18, .inl (wpl g)))]) C (ct_X5_gives M.l M.G (ad 14) (ad 15) (ad 16) (ad 17) N g (q / (9 * N)) (q / 9 % N) (nI (1 + q % 9)) hca hcb hgf.1 hgf.2) dX0_comes_62 rfl (lw_V q626 q627 q628 q69 q629) hyv_X5_gives rfl rfl 0 rfl rfl [5, 6, 7, 8] [0, 1, 2, 3, 4] [0, 1, 2, 3, 4, 5, 6, 7, 8] rfl rfl rfl (fun _ => [xO ad i j, wO (ad 6) (ad 7) (ad 8) (ad 9) N g, (ad 7, .inl (M.G.2 1, 20, .inl (wcl g))), (ad 8, .inl (M.G.2 0, 25, .inl (wgt g))), (ad 9, .inl (M.G.2 1, 18, .inl (wpl g))), wO (ad 14) (ad 15) (ad 16) (ad 17) N (give2 g g (q / (9 * N)) (q / 9 % N) (nI (1 + q % 9))), (ad 15, .inl (M.G.2 1, 20, .inl (wcl (give2 g g (q / (9 * N)) (q / 9 % N) (nI (1 + q % 9)))))), (ad 16, .inl (M.G.2 0, 25, .inl (wgt (give2 g g (q / (9 * N)) (q / 9 % N) (nI (1 + q % 9)))))), (ad 17, .inl (M.G.2 1, 18, .inl (wpl (give2 g g (q / (9 * N)) (q / 9 % N) (nI (1 + q % 9))))))]) (fun _ => rfl) rfl 0 0 rfl rfl (fun _ => []) (fun _ => rfl) (fun _ _ => ?_)
      refine V.iload (pc' := 67) C 0 dX0_comes_65 rfl rfl ?_
      exact V.iret C T dX0_comes_67 () rfl rfl (bI_t (show cmP g N q from ⟨h1, h3⟩)).symm bI_nar trivial (by rw [if_pos (show cmP g N q from ⟨h1, h3⟩), if_pos (show cmP g N q from ⟨h1, h3⟩)]; rfl) rfl rfl
set_option maxHeartbeats 4000000 in
theorem ct_X0_comes2 (l : Launch) (G : GG) (ad : Nat → Nat) (i : Nat → Int32) (j : Nat → Int64) (N : Nat) (g : Pg) (K : Nat) (t : Pg) (Kh : Nat) (th : Pg) (q : Nat) (n : Nat) (ok : okP g N n) (okh : okP th N n) (hq : q < N * N * 9) : Ct l G yX0_comes (ws_ yX0_comes cX0_comes 7 (some .boolean)) ({ frames := 4, cells := 0, slots := 0, locals := 91 } : Room) [.ref (ad 0), .ref (ad 10), .ref (ad 14), .int (nI q)] [xO ad i j, wO (ad 6) (ad 7) (ad 8) (ad 9) N g, (ad 7, .inl (G.2 1, 20, .inl (wcl g))), (ad 8, .inl (G.2 0, 25, .inl (wgt g))), (ad 9, .inl (G.2 1, 18, .inl (wpl g))), wO (ad 10) (ad 11) (ad 12) (ad 13) K t, (ad 11, .inl (G.2 1, 20, .inl (wcl t))), (ad 12, .inl (G.2 0, 25, .inl (wgt t))), (ad 13, .inl (G.2 1, 18, .inl (wpl t))), wO (ad 14) (ad 15) (ad 16) (ad 17) Kh th, (ad 15, .inl (G.2 1, 20, .inl (wcl th))), (ad 16, .inl (G.2 0, 25, .inl (wgt th))), (ad 17, .inl (G.2 1, 18, .inl (wpl th)))] (fun _ : Unit => some (.int (bI (cmP th N q)))) (fun _ => True) (fun _ => [xO ad i j, wO (ad 6) (ad 7) (ad 8) (ad 9) N g, (ad 7, .inl (G.2 1, 20, .inl (wcl g))), (ad 8, .inl (G.2 0, 25, .inl (wgt g))), (ad 9, .inl (G.2 1, 18, .inl (wpl g))), wO (ad 10) (ad 11) (ad 12) (ad 13) (if cmP th N q then Kh else K) (if cmP th N q then cmG th N q else t), (ad 11, .inl (G.2 1, 20, .inl (wcl (if cmP th N q then cmG th N q else t)))), (ad 12, .inl (G.2 0, 25, .inl (wgt (if cmP th N q then cmG th N q else t)))), (ad 13, .inl (G.2 1, 18, .inl (wpl (if cmP th N q then cmG th N q else t)))), wO (ad 14) (ad 15) (ad 16) (ad 17) Kh th, (ad 15, .inl (G.2 1, 20, .inl (wcl th))), (ad 16, .inl (G.2 0, 25, .inl (wgt th))), (ad 17, .inl (G.2 1, 18, .inl (wpl th)))]) := by
  refine Ct.of rfl rfl ?_
  intro M el eG hnL C T
  subst el
  subst eG
  have C : Cx M cX0_comes "ClockWard" ({ frames := 4, cells := 0, slots := 0, locals := 91 } : Room) := C
  have hN5 := ok.n5
  have hNN := nn225 hN5
  have hca := Nat.lt_of_lt_of_le (cA_lt hN5 hq) hN5
  have hcb := Nat.lt_of_lt_of_le (cB_lt (N := N) hq) hN5
  refine V.lvs [0, 1, 2, 3] (lv2 := [(0, .ref (ad 0)), (1, .ref (ad 10)), (2, .ref (ad 14)), (3, .int (nI q))]) rfl ?_
  refine V.aload_n (pc' := 1) C 0 dX0_comes_0 rfl rfl ?_
  refine V.iload_n (pc' := 2) C 3 dX0_comes_1 rfl rfl ?_
  refine V.callV (pc' := 5) (wr := [wO (ad 10) (ad 11) (ad 12) (ad 13) K t, (ad 11, .inl (M.G.2 1, 20, .inl (wcl t))), (ad 12, .inl (M.G.2 0, 25, .inl (wgt t))), (ad 13, .inl (M.G.2 1, 18, .inl (wpl t))), wO (ad 14) (ad 15) (ad 16) (ad 17) Kh th, (ad 15, .inl (M.G.2 1, 20, .inl (wcl th))), (ad 16, .inl (M.G.2 0, 25, .inl (wgt th))), (ad 17, .inl (M.G.2 1, 18, .inl (wpl th)))]) C (ct_X0_giver M.l M.G ad i j N g q hN5 hq) dX0_comes_2 rfl (lw_V q707 q709 qs23 q64 q710) hyv_X0_giver rfl rfl 0 rfl rfl [0, 1, 2, 3, 4] [5, 6, 7, 8, 9, 10, 11, 12] [8, 9, 10, 11, 12, 0, 1, 2, 3, 4, 5, 6, 7] rfl rfl rfl (fun _ => [xO ad i j, wO (ad 6) (ad 7) (ad 8) (ad 9) N g, (ad 7, .inl (M.G.2 1, 20, .inl (wcl g))), (ad 8, .inl (M.G.2 0, 25, .inl (wgt g))), (ad 9, .inl (M.G.2 1, 18, .inl (wpl g))), wO (ad 10) (ad 11) (ad 12) (ad 13) K t, (ad 11, .inl (M.G.2 1, 20, .inl (wcl t))), (ad 12, .inl (M.G.2 0, 25, .inl (wgt t))), (ad 13, .inl (M.G.2 1, 18, .inl (wpl t))), wO (ad 14) (ad 15) (ad 16) (ad 17) Kh th, (ad 15, .inl (M.G.2 1, 20, .inl (wcl th))), (ad 16, .inl (M.G.2 0, 25, .inl (wgt th))), (ad 17, .inl (M.G.2 1, 18, .inl (wpl th)))]) (fun _ => rfl) rfl 0 0 rfl rfl (fun _ => [.int (nI (q / (9 * N)))]) (fun _ => rfl) (fun _ _ => ?_)
  refine V.istore (pc' := 7) C [(4, .int (nI (q / (9 * N)))), (0, .ref (ad 0)), (1, .ref (ad 10)), (2, .ref (ad 14)), (3, .int (nI q))] dX0_comes_5 rfl 7 hnL rfl rfl ?_
  refine V.aload_n (pc' := 8) C 1 dX0_comes_7 rfl rfl ?_
  refine V.iload_n (pc' := 9) C 4 dX0_comes_8 rfl rfl ?_
  refine V.callV (pc' := 12) (wr := [wO (ad 10) (ad 11) (ad 12) (ad 13) K t, (ad 11, .inl (M.G.2 1, 20, .inl (wcl t))), (ad 12, .inl (M.G.2 0, 25, .inl (wgt t))), (ad 13, .inl (M.G.2 1, 18, .inl (wpl t))), wO (ad 14) (ad 15) (ad 16) (ad 17) Kh th, (ad 15, .inl (M.G.2 1, 20, .inl (wcl th))), (ad 16, .inl (M.G.2 0, 25, .inl (wgt th))), (ad 17, .inl (M.G.2 1, 18, .inl (wpl th)))]) C (ct_X0_taker M.l M.G ad i j N g q hN5 hq) dX0_comes_9 rfl (lw_V q711 q713 qs24 q64 q714) hyv_X0_taker rfl rfl 0 rfl rfl [0, 1, 2, 3, 4] [5, 6, 7, 8, 9, 10, 11, 12] [8, 9, 10, 11, 12, 0, 1, 2, 3, 4, 5, 6, 7] rfl rfl rfl (fun _ => [xO ad i j, wO (ad 6) (ad 7) (ad 8) (ad 9) N g, (ad 7, .inl (M.G.2 1, 20, .inl (wcl g))), (ad 8, .inl (M.G.2 0, 25, .inl (wgt g))), (ad 9, .inl (M.G.2 1, 18, .inl (wpl g))), wO (ad 10) (ad 11) (ad 12) (ad 13) K t, (ad 11, .inl (M.G.2 1, 20, .inl (wcl t))), (ad 12, .inl (M.G.2 0, 25, .inl (wgt t))), (ad 13, .inl (M.G.2 1, 18, .inl (wpl t))), wO (ad 14) (ad 15) (ad 16) (ad 17) Kh th, (ad 15, .inl (M.G.2 1, 20, .inl (wcl th))), (ad 16, .inl (M.G.2 0, 25, .inl (wgt th))), (ad 17, .inl (M.G.2 1, 18, .inl (wpl th)))]) (fun _ => rfl) rfl 0 0 rfl rfl (fun _ => [.int (nI (q / 9 % N))]) (fun _ => rfl) (fun _ _ => ?_)
  refine V.istore (pc' := 14) C [(5, .int (nI (q / 9 % N))), (4, .int (nI (q / (9 * N)))), (0, .ref (ad 0)), (1, .ref (ad 10)), (2, .ref (ad 14)), (3, .int (nI q))] dX0_comes_12 rfl 7 hnL rfl rfl ?_
  refine V.iload (pc' := 16) C 1 dX0_comes_14 rfl rfl ?_
  refine V.iload (pc' := 18) C 0 dX0_comes_16 rfl rfl ?_
  refine V.icmp_eqN (pc' := 21) C (q / (9 * N)) (q / 9 % N) (Nat.lt_trans hca (by decide)) (Nat.lt_trans hcb (by decide)) 40 dX0_comes_18 rfl rfl (fun h1 => ?_) (fun h1 => ?_)
  · refine V.iconst (pc' := 41) C dX0_comes_40 rfl kci_0 ?_
    refine V.istore (pc' := 43) C [(6, .int 0), (5, .int (nI (q / 9 % N))), (4, .int (nI (q / (9 * N)))), (0, .ref (ad 0)), (1, .ref (ad 10)), (2, .ref (ad 14)), (3, .int (nI q))] dX0_comes_41 rfl 7 hnL rfl rfl ?_
    refine V.iload (pc' := 45) C 0 dX0_comes_43 rfl rfl ?_
    refine V.if_eq (pc' := 48) C 65 dX0_comes_45 rfl rfl (fun _ => ?_) (fun h2 => absurd h2 (fun z => z rfl))
    refine V.iload (pc' := 67) C 0 dX0_comes_65 rfl rfl ?_
    exact V.iret C T dX0_comes_67 () rfl rfl (bI_f (show ¬ cmP th N q from (fun z => z.1 h1))).symm bI_nar trivial (by rw [if_neg (show ¬ cmP th N q from (fun z => z.1 h1)), if_neg (show ¬ cmP th N q from (fun z => z.1 h1))]) rfl rfl
  · refine V.aload_n (pc' := 22) C 4 dX0_comes_21 rfl rfl ?_
    refine V.iload (pc' := 24) C 1 dX0_comes_22 rfl rfl ?_
    refine V.iload (pc' := 26) C 0 dX0_comes_24 rfl rfl ?_
    refine V.iload_n (pc' := 27) C 5 dX0_comes_26 rfl rfl ?_
    refine V.callS (pc' := 30) (wr := [xO ad i j, wO (ad 6) (ad 7) (ad 8) (ad 9) N g, (ad 7, .inl (M.G.2 1, 20, .inl (wcl g))), (ad 8, .inl (M.G.2 0, 25, .inl (wgt g))), (ad 9, .inl (M.G.2 1, 18, .inl (wpl g))), wO (ad 10) (ad 11) (ad 12) (ad 13) K t, (ad 11, .inl (M.G.2 1, 20, .inl (wcl t))), (ad 12, .inl (M.G.2 0, 25, .inl (wgt t))), (ad 13, .inl (M.G.2 1, 18, .inl (wpl t))), wO (ad 14) (ad 15) (ad 16) (ad 17) Kh th, (ad 15, .inl (M.G.2 1, 20, .inl (wcl th))), (ad 16, .inl (M.G.2 0, 25, .inl (wgt th))), (ad 17, .inl (M.G.2 1, 18, .inl (wpl th)))]) C (ct_X0_minutes M.l M.G q (by omega)) dX0_comes_27 rfl (lw_S q715 q716 q64 q717) hys_X0_minutes rfl rfl [] [0, 1, 2, 3, 4, 5, 6, 7, 8, 9, 10, 11, 12] [0, 1, 2, 3, 4, 5, 6, 7, 8, 9, 10, 11, 12] rfl rfl rfl (fun _ => [xO ad i j, wO (ad 6) (ad 7) (ad 8) (ad 9) N g, (ad 7, .inl (M.G.2 1, 20, .inl (wcl g))), (ad 8, .inl (M.G.2 0, 25, .inl (wgt g))), (ad 9, .inl (M.G.2 1, 18, .inl (wpl g))), wO (ad 10) (ad 11) (ad 12) (ad 13) K t, (ad 11, .inl (M.G.2 1, 20, .inl (wcl t))), (ad 12, .inl (M.G.2 0, 25, .inl (wgt t))), (ad 13, .inl (M.G.2 1, 18, .inl (wpl t))), wO (ad 14) (ad 15) (ad 16) (ad 17) Kh th, (ad 15, .inl (M.G.2 1, 20, .inl (wcl th))), (ad 16, .inl (M.G.2 0, 25, .inl (wgt th))), (ad 17, .inl (M.G.2 1, 18, .inl (wpl th)))]) (fun _ => rfl) rfl 0 0 rfl rfl (fun _ => [.int (nI (1 + q % 9)), .int (nI (q / 9 % N)), .int (nI (q / (9 * N))), .ref (ad 14)]) (fun _ => rfl) (fun _ _ => ?_)
    refine V.callV (pc' := 33) (wr := [xO ad i j, wO (ad 6) (ad 7) (ad 8) (ad 9) N g, (ad 7, .inl (M.G.2 1, 20, .inl (wcl g))), (ad 8, .inl (M.G.2 0, 25, .inl (wgt g))), (ad 9, .inl (M.G.2 1, 18, .inl (wpl g))), wO (ad 10) (ad 11) (ad 12) (ad 13) K t, (ad 11, .inl (M.G.2 1, 20, .inl (wcl t))), (ad 12, .inl (M.G.2 0, 25, .inl (wgt t))), (ad 13, .inl (M.G.2 1, 18, .inl (wpl t)))]) C (ct_X5_mayBe M.l M.G (ad 14) (ad 15) (ad 16) (ad 17) Kh th (q / (9 * N)) (q / 9 % N) (nI (1 + q % 9)) hca hcb) dX0_comes_30 rfl (lw_V q610 q611 q612 q69 q613) hyv_X5_mayBe rfl rfl 0 rfl rfl [9, 10, 11, 12] [0, 1, 2, 3, 4, 5, 6, 7, 8] [0, 1, 2, 3, 4, 5, 6, 7, 8, 9, 10, 11, 12] rfl rfl rfl (fun _ => [xO ad i j, wO (ad 6) (ad 7) (ad 8) (ad 9) N g, (ad 7, .inl (M.G.2 1, 20, .inl (wcl g))), (ad 8, .inl (M.G.2 0, 25, .inl (wgt g))), (ad 9, .inl (M.G.2 1, 18, .inl (wpl g))), wO (ad 10) (ad 11) (ad 12) (ad 13) K t, (ad 11, .inl (M.G.2 1, 20, .inl (wcl t))), (ad 12, .inl (M.G.2 0, 25, .inl (wgt t))), (ad 13, .inl (M.G.2 1, 18, .inl (wpl t))), wO (ad 14) (ad 15) (ad 16) (ad 17) Kh th, (ad 15, .inl (M.G.2 1, 20, .inl (wcl th))), (ad 16, .inl (M.G.2 0, 25, .inl (wgt th))), (ad 17, .inl (M.G.2 1, 18, .inl (wpl th)))]) (fun _ => rfl) rfl 0 0 rfl rfl (fun _ => [.int (bI (may2 th th (q / (9 * N)) (q / 9 % N) (nI (1 + q % 9))))]) (fun _ => rfl) (fun _ _ => ?_)
    refine V.if_eqB (pc' := 36) C 40 dX0_comes_33 rfl rfl (fun h3 => ?_) (fun h3 => ?_)
    · refine V.iconst (pc' := 41) C dX0_comes_40 rfl kci_0 ?_
      refine V.istore (pc' := 43) C [(6, .int 0), (5, .int (nI (q / 9 % N))), (4, .int (nI (q / (9 * N)))), (0, .ref (ad 0)), (1, .ref (ad 10)), (2, .ref (ad 14)), (3, .int (nI q))] dX0_comes_41 rfl 7 hnL rfl rfl ?_
      refine V.iload (pc' := 45) C 0 dX0_comes_43 rfl rfl ?_
      refine V.if_eq (pc' := 48) C 65 dX0_comes_45 rfl rfl (fun _ => ?_) (fun h4 => absurd h4 (fun z => z rfl))
      refine V.iload (pc' := 67) C 0 dX0_comes_65 rfl rfl ?_
      exact V.iret C T dX0_comes_67 () rfl rfl (bI_f (show ¬ cmP th N q from (fun z => h3 z.2))).symm bI_nar trivial (by rw [if_neg (show ¬ cmP th N q from (fun z => h3 z.2)), if_neg (show ¬ cmP th N q from (fun z => h3 z.2))]) rfl rfl
    · refine V.iconst (pc' := 37) C dX0_comes_36 rfl kci_1 ?_
      refine V.goto C 41 dX0_comes_37 rfl ?_
      refine V.istore (pc' := 43) C [(6, .int 1), (5, .int (nI (q / 9 % N))), (4, .int (nI (q / (9 * N)))), (0, .ref (ad 0)), (1, .ref (ad 10)), (2, .ref (ad 14)), (3, .int (nI q))] dX0_comes_41 rfl 7 hnL rfl rfl ?_
      refine V.iload (pc' := 45) C 0 dX0_comes_43 rfl rfl ?_
      refine V.if_eq (pc' := 48) C 65 dX0_comes_45 rfl rfl (fun h5 => absurd h5 (by decide)) (fun _ => ?_)
      refine V.aload_n (pc' := 49) C 4 dX0_comes_48 rfl rfl ?_
      refine V.aload_n (pc' := 50) C 5 dX0_comes_49 rfl rfl ?_
      refine V.callV (pc' := 53) (wr := [xO ad i j, wO (ad 6) (ad 7) (ad 8) (ad 9) N g, (ad 7, .inl (M.G.2 1, 20, .inl (wcl g))), (ad 8, .inl (M.G.2 0, 25, .inl (wgt g))), (ad 9, .inl (M.G.2 1, 18, .inl (wpl g)))]) C (ct_X5_as M.l M.G (ad 10) (ad 11) (ad 12) (ad 13) K t (ad 14) (ad 15) (ad 16) (ad 17) Kh th okh.w) dX0_comes_50 rfl (lw_V q504 q505 q506 q69 q507) hyv_X5_as rfl rfl 0 rfl rfl [5, 6, 7, 8, 9, 10, 11, 12] [0, 1, 2, 3, 4] [0, 1, 2, 3, 4, 5, 6, 7, 8, 9, 10, 11, 12] rfl rfl rfl (fun _ => [xO ad i j, wO (ad 6) (ad 7) (ad 8) (ad 9) N g, (ad 7, .inl (M.G.2 1, 20, .inl (wcl g))), (ad 8, .inl (M.G.2 0, 25, .inl (wgt g))), (ad 9, .inl (M.G.2 1, 18, .inl (wpl g))), wO (ad 10) (ad 11) (ad 12) (ad 13) Kh th, (ad 11, .inl (M.G.2 1, 20, .inl (wcl th))), (ad 12, .inl (M.G.2 0, 25, .inl (wgt th))), (ad 13, .inl (M.G.2 1, 18, .inl (wpl th))), wO (ad 14) (ad 15) (ad 16) (ad 17) Kh th, (ad 15, .inl (M.G.2 1, 20, .inl (wcl th))), (ad 16, .inl (M.G.2 0, 25, .inl (wgt th))), (ad 17, .inl (M.G.2 1, 18, .inl (wpl th)))]) (fun _ => rfl) rfl 0 0 rfl rfl (fun _ => []) (fun _ => rfl) (fun _ _ => ?_)
      have hgf := (cm_ok okh hq (show cmP th N q from ⟨h1, h3⟩)).2
      refine V.aload_n (pc' := 54) C 4 dX0_comes_53 rfl rfl ?_
      refine V.iload (pc' := 56) C 2 dX0_comes_54 rfl rfl ?_
      refine V.iload (pc' := 58) C 1 dX0_comes_56 rfl rfl ?_
      refine V.iload_n (pc' := 59) C 6 dX0_comes_58 rfl rfl ?_
      refine V.callS (pc' := 62) (wr := [xO ad i j, wO (ad 6) (ad 7) (ad 8) (ad 9) N g, (ad 7, .inl (M.G.2 1, 20, .inl (wcl g))), (ad 8, .inl (M.G.2 0, 25, .inl (wgt g))), (ad 9, .inl (M.G.2 1, 18, .inl (wpl g))), wO (ad 10) (ad 11) (ad 12) (ad 13) Kh th, (ad 11, .inl (M.G.2 1, 20, .inl (wcl th))), (ad 12, .inl (M.G.2 0, 25, .inl (wgt th))), (ad 13, .inl (M.G.2 1, 18, .inl (wpl th))), wO (ad 14) (ad 15) (ad 16) (ad 17) Kh th, (ad 15, .inl (M.G.2 1, 20, .inl (wcl th))), (ad 16, .inl (M.G.2 0, 25, .inl (wgt th))), (ad 17, .inl (M.G.2 1, 18, .inl (wpl th)))]) C (ct_X0_minutes M.l M.G q (by omega)) dX0_comes_59 rfl (lw_S q715 q716 q64 q717) hys_X0_minutes rfl rfl [] [0, 1, 2, 3, 4, 5, 6, 7, 8, 9, 10, 11, 12] [0, 1, 2, 3, 4, 5, 6, 7, 8, 9, 10, 11, 12] rfl rfl rfl (fun _ => [xO ad i j, wO (ad 6) (ad 7) (ad 8) (ad 9) N g, (ad 7, .inl (M.G.2 1, 20, .inl (wcl g))), (ad 8, .inl (M.G.2 0, 25, .inl (wgt g))), (ad 9, .inl (M.G.2 1, 18, .inl (wpl g))), wO (ad 10) (ad 11) (ad 12) (ad 13) Kh th, (ad 11, .inl (M.G.2 1, 20, .inl (wcl th))), (ad 12, .inl (M.G.2 0, 25, .inl (wgt th))), (ad 13, .inl (M.G.2 1, 18, .inl (wpl th))), wO (ad 14) (ad 15) (ad 16) (ad 17) Kh th, (ad 15, .inl (M.G.2 1, 20, .inl (wcl th))), (ad 16, .inl (M.G.2 0, 25, .inl (wgt th))), (ad 17, .inl (M.G.2 1, 18, .inl (wpl th)))]) (fun _ => rfl) rfl 0 0 rfl rfl (fun _ => [.int (nI (1 + q % 9)), .int (nI (q / 9 % N)), .int (nI (q / (9 * N))), .ref (ad 10)]) (fun _ => rfl) (fun _ _ => ?_)
      refine V.callV (pc' := 65) (wr := [xO ad i j, wO (ad 6) (ad 7) (ad 8) (ad 9) N g, (ad 7, .inl (M.G.2 1, 20, .inl (wcl g))), (ad 8, .inl (M.G.2 0, 25, .inl (wgt g))), (ad 9, .inl (M.G.2 1, 18, .inl (wpl g))), wO (ad 14) (ad 15) (ad 16) (ad 17) Kh th, (ad 15, .inl (M.G.2 1, 20, .inl (wcl th))), (ad 16, .inl (M.G.2 0, 25, .inl (wgt th))), (ad 17, .inl (M.G.2 1, 18, .inl (wpl th)))]) C (ct_X5_gives M.l M.G (ad 10) (ad 11) (ad 12) (ad 13) Kh th (q / (9 * N)) (q / 9 % N) (nI (1 + q % 9)) hca hcb hgf.1 hgf.2) dX0_comes_62 rfl (lw_V q626 q627 q628 q69 q629) hyv_X5_gives rfl rfl 0 rfl rfl [5, 6, 7, 8] [0, 1, 2, 3, 4, 9, 10, 11, 12] [0, 1, 2, 3, 4, 9, 10, 11, 12, 5, 6, 7, 8] rfl rfl rfl (fun _ => [xO ad i j, wO (ad 6) (ad 7) (ad 8) (ad 9) N g, (ad 7, .inl (M.G.2 1, 20, .inl (wcl g))), (ad 8, .inl (M.G.2 0, 25, .inl (wgt g))), (ad 9, .inl (M.G.2 1, 18, .inl (wpl g))), wO (ad 10) (ad 11) (ad 12) (ad 13) Kh (give2 th th (q / (9 * N)) (q / 9 % N) (nI (1 + q % 9))), (ad 11, .inl (M.G.2 1, 20, .inl (wcl (give2 th th (q / (9 * N)) (q / 9 % N) (nI (1 + q % 9)))))), (ad 12, .inl (M.G.2 0, 25, .inl (wgt (give2 th th (q / (9 * N)) (q / 9 % N) (nI (1 + q % 9)))))), (ad 13, .inl (M.G.2 1, 18, .inl (wpl (give2 th th (q / (9 * N)) (q / 9 % N) (nI (1 + q % 9)))))), wO (ad 14) (ad 15) (ad 16) (ad 17) Kh th, (ad 15, .inl (M.G.2 1, 20, .inl (wcl th))), (ad 16, .inl (M.G.2 0, 25, .inl (wgt th))), (ad 17, .inl (M.G.2 1, 18, .inl (wpl th)))]) (fun _ => rfl) rfl 0 0 rfl rfl (fun _ => []) (fun _ => rfl) (fun _ _ => ?_)
      refine V.iload (pc' := 67) C 0 dX0_comes_65 rfl rfl ?_
      exact V.iret C T dX0_comes_67 () rfl rfl (bI_t (show cmP th N q from ⟨h1, h3⟩)).symm bI_nar trivial (by rw [if_pos (show cmP th N q from ⟨h1, h3⟩), if_pos (show cmP th N q from ⟨h1, h3⟩)]; rfl) rfl rfl
