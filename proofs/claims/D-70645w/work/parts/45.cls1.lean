set_option maxRecDepth 100000
set_option maxHeartbeats 4000000 in
theorem ct_X0_isClock (l : Launch) (G : GG) (ad : Nat → Nat) (i : Nat → Int32) (j : Nat → Int64) (N : Nat) (g : Pg) (x : Int32)  : Ct l G yX0_isClock (ws_ yX0_isClock cX0_isClock 2 (some .boolean)) ({ frames := 1, cells := 0, slots := 0, locals := 25 } : Room) [.ref (ad 0), .int x] [xO ad i j, wO (ad 6) (ad 7) (ad 8) (ad 9) N g, (ad 7, .inl (G.2 1, 20, .inl (wcl g))), (ad 8, .inl (G.2 0, 25, .inl (wgt g))), (ad 9, .inl (G.2 1, 18, .inl (wpl g)))] (fun _ : Unit => some (.int (bI (isC N x)))) (fun _ => True) (fun _ => [xO ad i j, wO (ad 6) (ad 7) (ad 8) (ad 9) N g, (ad 7, .inl (G.2 1, 20, .inl (wcl g))), (ad 8, .inl (G.2 0, 25, .inl (wgt g))), (ad 9, .inl (G.2 1, 18, .inl (wpl g)))]) := by
  refine Ct.of rfl rfl ?_
  intro M el eG hnL C T
  subst el
  subst eG
  have C : Cx M cX0_isClock "ClockWard" ({ frames := 1, cells := 0, slots := 0, locals := 25 } : Room) := C
  refine V.lvs [0, 1] (lv2 := [(0, .ref (ad 0)), (1, .int x)]) rfl ?_
  refine V.iload_n (pc' := 1) C 1 dX0_isClock_0 rfl rfl ?_
  refine V.i2l (pc' := 2) C dX0_isClock_1 rfl ?_
  refine V.lconst (pc' := 3) C dX0_isClock_2 rfl kcl_0 ?_
  refine V.aload_n (pc' := 4) C 0 dX0_isClock_3 rfl rfl ?_
  refine V.get (pc' := 7) C dX0_isClock_4 rfl 0 rfl rfl in_X0 1 rfl q183 rfl ?_
  refine V.getN (pc' := 10) C dX0_isClock_7 rfl 1 rfl rfl in_X5 0 rfl q133 rfl ?_
  refine V.iconst (pc' := 11) C dX0_isClock_10 rfl kci_1 ?_
  refine V.isub (pc' := 12) C dX0_isClock_11 rfl ?_
  refine V.i2l (pc' := 13) C dX0_isClock_12 rfl ?_
  refine V.callS (pc' := 16) (wr := [xO ad i j, wO (ad 6) (ad 7) (ad 8) (ad 9) N g, (ad 7, .inl (M.G.2 1, 20, .inl (wcl g))), (ad 8, .inl (M.G.2 0, 25, .inl (wgt g))), (ad 9, .inl (M.G.2 1, 18, .inl (wpl g)))]) C (ct_X0_in M.l M.G x 0 ((nI N) - 1) ) dX0_isClock_13 rfl (lw_S q261 q262 q64 q263) hys_X0_in rfl rfl [] [0, 1, 2, 3, 4] [0, 1, 2, 3, 4] rfl rfl rfl (fun _ => [xO ad i j, wO (ad 6) (ad 7) (ad 8) (ad 9) N g, (ad 7, .inl (M.G.2 1, 20, .inl (wcl g))), (ad 8, .inl (M.G.2 0, 25, .inl (wgt g))), (ad 9, .inl (M.G.2 1, 18, .inl (wpl g)))]) (fun _ => rfl) rfl 0 0 rfl rfl (fun _ => [.int (bI (inI x 0 ((nI N) - 1)))]) (fun _ => rfl) (fun _ _ => ?_)
  exact V.iret C T dX0_isClock_16 () rfl rfl rfl bI_nar trivial rfl rfl rfl
set_option maxHeartbeats 4000000 in
theorem ct_X0_isPair (l : Launch) (G : GG) (ad : Nat → Nat) (i : Nat → Int32) (j : Nat → Int64) (N : Nat) (g : Pg) (x : Int32) (y : Int32)  : Ct l G yX0_isPair (ws_ yX0_isPair cX0_isPair 3 (some .boolean)) ({ frames := 2, cells := 0, slots := 0, locals := 46 } : Room) [.ref (ad 0), .int x, .int y] [xO ad i j, wO (ad 6) (ad 7) (ad 8) (ad 9) N g, (ad 7, .inl (G.2 1, 20, .inl (wcl g))), (ad 8, .inl (G.2 0, 25, .inl (wgt g))), (ad 9, .inl (G.2 1, 18, .inl (wpl g)))] (fun _ : Unit => some (.int (bI (isTwo N x y)))) (fun _ => True) (fun _ => [xO ad i j, wO (ad 6) (ad 7) (ad 8) (ad 9) N g, (ad 7, .inl (G.2 1, 20, .inl (wcl g))), (ad 8, .inl (G.2 0, 25, .inl (wgt g))), (ad 9, .inl (G.2 1, 18, .inl (wpl g)))]) := by
  refine Ct.of rfl rfl ?_
  intro M el eG hnL C T
  subst el
  subst eG
  have C : Cx M cX0_isPair "ClockWard" ({ frames := 2, cells := 0, slots := 0, locals := 46 } : Room) := C
  refine V.lvs [0, 1, 2] (lv2 := [(0, .ref (ad 0)), (1, .int x), (2, .int y)]) rfl ?_
  refine V.aload_n (pc' := 1) C 0 dX0_isPair_0 rfl rfl ?_
  refine V.iload_n (pc' := 2) C 1 dX0_isPair_1 rfl rfl ?_
  refine V.callV (pc' := 5) (wr := []) C (ct_X0_isClock M.l M.G ad i j N g x ) dX0_isPair_2 rfl (lw_V q535 q537 qs13 q64 q538) hyv_X0_isClock rfl rfl 0 rfl rfl [0, 1, 2, 3, 4] [] [0, 1, 2, 3, 4] rfl rfl rfl (fun _ => [xO ad i j, wO (ad 6) (ad 7) (ad 8) (ad 9) N g, (ad 7, .inl (M.G.2 1, 20, .inl (wcl g))), (ad 8, .inl (M.G.2 0, 25, .inl (wgt g))), (ad 9, .inl (M.G.2 1, 18, .inl (wpl g)))]) (fun _ => rfl) rfl 0 0 rfl rfl (fun _ => [.int (bI (isC N x))]) (fun _ => rfl) (fun _ _ => ?_)
  have J3 : ∀ (x2 : Int32), x2 = (if isC N x then if isC N y then if x = y then 0 else 1 else 0 else 0) → V M 0 0 [xO ad i j, wO (ad 6) (ad 7) (ad 8) (ad 9) N g, (ad 7, .inl (M.G.2 1, 20, .inl (wcl g))), (ad 8, .inl (M.G.2 0, 25, .inl (wgt g))), (ad 9, .inl (M.G.2 1, 18, .inl (wpl g)))] [(0, .ref (ad 0)), (1, .int x), (2, .int y)] [.int x2] 26 := by
    intro x2 ex2
    have ex2 : x2 = bI ((isC N x) ∧ ((isC N y) ∧ (¬ (x = y)))) := ex2.trans (it_a (it_a it_01))
    subst ex2
    exact V.iret C T dX0_isPair_26 () rfl rfl rfl bI_nar trivial rfl rfl rfl
  refine V.if_eqB (pc' := 8) C 25 dX0_isPair_5 rfl rfl (fun h1 => ?_) (fun h1 => ?_)
  · refine V.iconst (pc' := 26) C dX0_isPair_25 rfl kci_0 ?_
    exact J3 _ (by rw [if_neg h1])
  · refine V.aload_n (pc' := 9) C 0 dX0_isPair_8 rfl rfl ?_
    refine V.iload_n (pc' := 10) C 2 dX0_isPair_9 rfl rfl ?_
    refine V.callV (pc' := 13) (wr := []) C (ct_X0_isClock M.l M.G ad i j N g y ) dX0_isPair_10 rfl (lw_V q535 q537 qs13 q64 q538) hyv_X0_isClock rfl rfl 0 rfl rfl [0, 1, 2, 3, 4] [] [0, 1, 2, 3, 4] rfl rfl rfl (fun _ => [xO ad i j, wO (ad 6) (ad 7) (ad 8) (ad 9) N g, (ad 7, .inl (M.G.2 1, 20, .inl (wcl g))), (ad 8, .inl (M.G.2 0, 25, .inl (wgt g))), (ad 9, .inl (M.G.2 1, 18, .inl (wpl g)))]) (fun _ => rfl) rfl 0 0 rfl rfl (fun _ => [.int (bI (isC N y))]) (fun _ => rfl) (fun _ _ => ?_)
    refine V.if_eqB (pc' := 16) C 25 dX0_isPair_13 rfl rfl (fun h2 => ?_) (fun h2 => ?_)
    · refine V.iconst (pc' := 26) C dX0_isPair_25 rfl kci_0 ?_
      exact J3 _ (by rw [if_pos h1, if_neg h2])
    · refine V.iload_n (pc' := 17) C 1 dX0_isPair_16 rfl rfl ?_
      refine V.iload_n (pc' := 18) C 2 dX0_isPair_17 rfl rfl ?_
      refine V.icmp_eq (pc' := 21) C 25 dX0_isPair_18 rfl rfl (fun h3 => ?_) (fun h3 => ?_)
      · refine V.iconst (pc' := 26) C dX0_isPair_25 rfl kci_0 ?_
        exact J3 _ (by rw [if_pos h1, if_pos h2, if_pos h3])
      · refine V.iconst (pc' := 22) C dX0_isPair_21 rfl kci_1 ?_
        refine V.goto C 26 dX0_isPair_22 rfl ?_
        exact J3 _ (by rw [if_pos h1, if_pos h2, if_neg h3])
set_option maxHeartbeats 4000000 in
theorem ct_X0_isPart (l : Launch) (G : GG) (x : Int32)  : Ct l G yX0_isPart (ws_ yX0_isPart cX0_isPart 1 (some .boolean)) ({ frames := 1, cells := 0, slots := 0, locals := 25 } : Room) [.int x] [] (fun _ : Unit => some (.int (bI (inI x 0 1)))) (fun _ => True) (fun _ => []) := by
  refine Ct.of rfl rfl ?_
  intro M el eG hnL C T
  subst el
  subst eG
  have C : Cx M cX0_isPart "ClockWard" ({ frames := 1, cells := 0, slots := 0, locals := 25 } : Room) := C
  refine V.lvs [0] (lv2 := [(0, .int x)]) rfl ?_
  refine V.iload_n (pc' := 1) C 0 dX0_isPart_0 rfl rfl ?_
  refine V.i2l (pc' := 2) C dX0_isPart_1 rfl ?_
  refine V.lconst (pc' := 3) C dX0_isPart_2 rfl kcl_0 ?_
  refine V.lconst (pc' := 4) C dX0_isPart_3 rfl kcl_1 ?_
  refine V.callS (pc' := 7) (wr := []) C (ct_X0_in M.l M.G x 0 1 ) dX0_isPart_4 rfl (lw_S q261 q262 q64 q263) hys_X0_in rfl rfl [] [] [] rfl rfl rfl (fun _ => []) (fun _ => rfl) rfl 0 0 rfl rfl (fun _ => [.int (bI (inI x 0 1))]) (fun _ => rfl) (fun _ _ => ?_)
  exact V.iret C T dX0_isPart_7 () rfl rfl rfl bI_nar trivial rfl rfl rfl
set_option maxHeartbeats 4000000 in
theorem ct_X0_isRowPart (l : Launch) (G : GG) (x : Int32)  : Ct l G yX0_isRowPart (ws_ yX0_isRowPart cX0_isRowPart 1 (some .boolean)) ({ frames := 1, cells := 0, slots := 0, locals := 25 } : Room) [.int x] [] (fun _ : Unit => some (.int (bI (inI x 10 11)))) (fun _ => True) (fun _ => []) := by
  refine Ct.of rfl rfl ?_
  intro M el eG hnL C T
  subst el
  subst eG
  have C : Cx M cX0_isRowPart "ClockWard" ({ frames := 1, cells := 0, slots := 0, locals := 25 } : Room) := C
  refine V.lvs [0] (lv2 := [(0, .int x)]) rfl ?_
  refine V.iload_n (pc' := 1) C 0 dX0_isRowPart_0 rfl rfl ?_
  refine V.i2l (pc' := 2) C dX0_isRowPart_1 rfl ?_
  refine V.ldc2 (pc' := 5) C dX0_isRowPart_2 rfl q689 ?_
  refine V.ldc2 (pc' := 8) C dX0_isRowPart_5 rfl q690 ?_
  refine V.callS (pc' := 11) (wr := []) C (ct_X0_in M.l M.G x 10 11 ) dX0_isRowPart_8 rfl (lw_S q261 q262 q64 q263) hys_X0_in rfl rfl [] [] [] rfl rfl rfl (fun _ => []) (fun _ => rfl) rfl 0 0 rfl rfl (fun _ => [.int (bI (inI x 10 11))]) (fun _ => rfl) (fun _ _ => ?_)
  exact V.iret C T dX0_isRowPart_11 () rfl rfl rfl bI_nar trivial rfl rfl rfl
set_option maxHeartbeats 4000000 in
theorem ct_X0_mostOf (l : Launch) (G : GG) (y : Int32)  : Ct l G yX0_mostOf (ws_ yX0_mostOf cX0_mostOf 1 (some .int)) ({ frames := 0, cells := 0, slots := 0, locals := 0 } : Room) [.int y] [] (fun _ : Unit => some (.int (altMost y))) (fun _ => True) (fun _ => []) := by
  refine Ct.of rfl rfl ?_
  intro M el eG hnL C T
  subst el
  subst eG
  have C : Cx M cX0_mostOf "ClockWard" ({ frames := 0, cells := 0, slots := 0, locals := 0 } : Room) := C
  refine V.lvs [0] (lv2 := [(0, .int y)]) rfl ?_
  refine V.iload_n (pc' := 1) C 0 dX0_mostOf_0 rfl rfl ?_
  have J3 : ∀ (x2 : Int32), x2 = (if y = 0 then 3 else if y = 1 then 3 else if y = 2 then 6 else 99) → V M 0 0 [] [(0, .int y)] [.int x2] 29 := by
    intro x2 ex2
    subst ex2
    exact V.iret C T dX0_mostOf_29 () rfl rfl rfl rfl trivial rfl rfl rfl
  refine V.if_ne (pc' := 4) C 8 dX0_mostOf_1 rfl rfl (fun h1 => ?_) (fun h1 => ?_)
  · refine V.iload_n (pc' := 9) C 0 dX0_mostOf_8 rfl rfl ?_
    refine V.iconst (pc' := 10) C dX0_mostOf_9 rfl kci_1 ?_
    refine V.icmp_ne (pc' := 13) C 17 dX0_mostOf_10 rfl rfl (fun h2 => ?_) (fun h2 => ?_)
    · refine V.iload_n (pc' := 18) C 0 dX0_mostOf_17 rfl rfl ?_
      refine V.iconst (pc' := 19) C dX0_mostOf_18 rfl kci_2 ?_
      refine V.icmp_ne (pc' := 22) C 27 dX0_mostOf_19 rfl rfl (fun h3 => ?_) (fun h3 => ?_)
      · refine V.bipush (pc' := 29) C dX0_mostOf_27 rfl kcb_99 ?_
        exact J3 _ (by rw [if_neg h1, if_neg h2, if_neg h3])
      · refine V.bipush (pc' := 24) C dX0_mostOf_22 rfl kcb_6 ?_
        refine V.goto C 29 dX0_mostOf_24 rfl ?_
        exact J3 _ (by rw [if_neg h1, if_neg h2, if_pos h3])
    · refine V.iconst (pc' := 14) C dX0_mostOf_13 rfl kci_3 ?_
      refine V.goto C 29 dX0_mostOf_14 rfl ?_
      exact J3 _ (by rw [if_neg h1, if_pos h2])
  · refine V.iconst (pc' := 5) C dX0_mostOf_4 rfl kci_3 ?_
    refine V.goto C 29 dX0_mostOf_5 rfl ?_
    exact J3 _ (by rw [if_pos h1])
set_option maxHeartbeats 4000000 in
theorem ct_X0_mostNow (l : Launch) (G : GG) (ad : Nat → Nat) (i : Nat → Int32) (j : Nat → Int64) (N : Nat) (g : Pg) (a : Nat) (b : Nat) (ha : a < 5) (hb : b < 5) : Ct l G yX0_mostNow (ws_ yX0_mostNow cX0_mostNow 5 (some .int)) ({ frames := 4, cells := 0, slots := 0, locals := 91 } : Room) [.ref (ad 0), .int (nI a), .int (nI b)] [xO ad i j, wO (ad 6) (ad 7) (ad 8) (ad 9) N g, (ad 7, .inl (G.2 1, 20, .inl (wcl g))), (ad 8, .inl (G.2 0, 25, .inl (wgt g))), (ad 9, .inl (G.2 1, 18, .inl (wpl g)))] (fun _ : Unit => some (.int (mostTo g a b 9))) (fun _ => True) (fun _ => [xO ad i j, wO (ad 6) (ad 7) (ad 8) (ad 9) N g, (ad 7, .inl (G.2 1, 20, .inl (wcl g))), (ad 8, .inl (G.2 0, 25, .inl (wgt g))), (ad 9, .inl (G.2 1, 18, .inl (wpl g)))]) := by
  refine Ct.of rfl rfl ?_
  intro M el eG hnL C T
  subst el
  subst eG
  have C : Cx M cX0_mostNow "ClockWard" ({ frames := 4, cells := 0, slots := 0, locals := 91 } : Room) := C
  refine V.lvs [0, 1, 2] (lv2 := [(0, .ref (ad 0)), (1, .int (nI a)), (2, .int (nI b))]) rfl ?_
  refine V.iconst (pc' := 1) C dX0_mostNow_0 rfl kci_0 ?_
  refine V.istore_n (pc' := 2) C [(3, .int 0), (0, .ref (ad 0)), (1, .int (nI a)), (2, .int (nI b))] dX0_mostNow_1 rfl 5 hnL rfl rfl ?_
  refine V.iconst (pc' := 3) C dX0_mostNow_2 rfl kci_1 ?_
  refine V.istore (pc' := 5) C [(4, .int 1), (3, .int 0), (0, .ref (ad 0)), (1, .int (nI a)), (2, .int (nI b))] dX0_mostNow_3 rfl 5 hnL rfl rfl ?_
  have L1 : ∀ k : Nat, k ≤ 9 → V M 0 0 [xO ad i j, wO (ad 6) (ad 7) (ad 8) (ad 9) N g, (ad 7, .inl (M.G.2 1, 20, .inl (wcl g))), (ad 8, .inl (M.G.2 0, 25, .inl (wgt g))), (ad 9, .inl (M.G.2 1, 18, .inl (wpl g)))] [(0, .ref (ad 0)), (1, .int (nI a)), (2, .int (nI b)), (3, .int (mostTo g a b k)), (4, .int (nI (k + 1)))] [] 5 := by
    refine loopN _ 9 (fun k hk ih_L1 => ?_)
    refine V.iload (pc' := 7) C 4 dX0_mostNow_5 rfl rfl ?_
    refine V.bipush (pc' := 9) C dX0_mostNow_7 rfl kcb_9 ?_
    refine V.icmp_gtN (pc' := 12) C (k + 1) 9 (by omega) (by omega) 39 dX0_mostNow_9 rfl rfl (fun h2 => ?_) (fun h2 => ?_)
    · have hx3 : 9 = k := by omega
      subst hx3
      refine V.iload_n (pc' := 40) C 3 dX0_mostNow_39 rfl rfl ?_
      exact V.iret C T dX0_mostNow_40 () rfl rfl rfl rfl trivial rfl rfl rfl
    · refine V.aload_n (pc' := 13) C 0 dX0_mostNow_12 rfl rfl ?_
      refine V.get (pc' := 16) C dX0_mostNow_13 rfl 0 rfl rfl in_X0 1 rfl q183 rfl ?_
      refine V.iload_n (pc' := 17) C 1 dX0_mostNow_16 rfl rfl ?_
      refine V.iload_n (pc' := 18) C 2 dX0_mostNow_17 rfl rfl ?_
      refine V.iload (pc' := 20) C 4 dX0_mostNow_18 rfl rfl ?_
      refine V.callV (pc' := 23) (wr := [xO ad i j]) C (ct_X5_mayBe M.l M.G (ad 6) (ad 7) (ad 8) (ad 9) N g a b (nI (k + 1)) (by omega) (by omega)) dX0_mostNow_20 rfl (lw_V q610 q611 q612 q69 q613) hyv_X5_mayBe rfl rfl 0 rfl rfl [1, 2, 3, 4] [0] [0, 1, 2, 3, 4] rfl rfl rfl (fun _ => [xO ad i j, wO (ad 6) (ad 7) (ad 8) (ad 9) N g, (ad 7, .inl (M.G.2 1, 20, .inl (wcl g))), (ad 8, .inl (M.G.2 0, 25, .inl (wgt g))), (ad 9, .inl (M.G.2 1, 18, .inl (wpl g)))]) (fun _ => rfl) rfl 0 0 rfl rfl (fun _ => [.int (bI (may2 g g a b (nI (k + 1))))]) (fun _ => rfl) (fun _ _ => ?_)
      have J6 : ∀ (x5 : Int32), x5 = (if may2 g g a b (nI (k + 1)) then nI (k + 1) else mostTo g a b k) → V M 0 0 [xO ad i j, wO (ad 6) (ad 7) (ad 8) (ad 9) N g, (ad 7, .inl (M.G.2 1, 20, .inl (wcl g))), (ad 8, .inl (M.G.2 0, 25, .inl (wgt g))), (ad 9, .inl (M.G.2 1, 18, .inl (wpl g)))] [(0, .ref (ad 0)), (1, .int (nI a)), (2, .int (nI b)), (3, .int (mostTo g a b k)), (4, .int (nI (k + 1)))] [.int x5] 32 := by
        intro x5 ex5
        subst ex5
        refine V.istore_n (pc' := 33) C [(3, .int (if may2 g g a b (nI (k + 1)) then nI (k + 1) else mostTo g a b k)), (0, .ref (ad 0)), (1, .int (nI a)), (2, .int (nI b)), (4, .int (nI (k + 1)))] dX0_mostNow_32 rfl 5 hnL rfl rfl ?_
        refine V.iinc (pc' := 36) C (nI (k + 1 + 1)) [(4, .int (nI (k + 1 + 1))), (3, .int (if may2 g g a b (nI (k + 1)) then nI (k + 1) else mostTo g a b k)), (0, .ref (ad 0)), (1, .int (nI a)), (2, .int (nI b))] dX0_mostNow_33 rfl 5 hnL rfl 4 rfl (ii_N (k + 1) 1 rfl) rfl ?_
        refine V.goto C 5 dX0_mostNow_36 rfl ?_
        refine V.lvs [2, 3, 4, 1, 0] (lv2 := [(0, .ref (ad 0)), (1, .int (nI a)), (2, .int (nI b)), (3, .int (mostTo g a b (k + 1))), (4, .int (nI ((k + 1) + 1)))]) rfl ?_
        exact ih_L1 (by omega)
      refine V.if_eqB (pc' := 26) C 31 dX0_mostNow_23 rfl rfl (fun h4 => ?_) (fun h4 => ?_)
      · refine V.iload_n (pc' := 32) C 3 dX0_mostNow_31 rfl rfl ?_
        exact J6 _ (by rw [if_neg h4])
      · refine V.iload (pc' := 28) C 4 dX0_mostNow_26 rfl rfl ?_
        refine V.goto C 32 dX0_mostNow_28 rfl ?_
        exact J6 _ (by rw [if_pos h4])
  refine V.lvs [2, 3, 4, 1, 0] (lv2 := [(0, .ref (ad 0)), (1, .int (nI a)), (2, .int (nI b)), (3, .int (mostTo g a b 0)), (4, .int (nI (0 + 1)))]) rfl ?_
  exact L1 0 (by omega)
set_option maxHeartbeats 4000000 in
theorem ct_X0_feed (l : Launch) (G : GG) (ad : Nat → Nat) (i : Nat → Int32) (j : Nat → Int64) (tp : Nat → Int32) (x : Int32) (td : Nat) (ht : i 11 = nI td) (ht2 : td ≤ 160) : Ct l G yX0_feed (ws_ yX0_feed cX0_feed 2 (some .int)) ({ frames := 1, cells := 0, slots := 0, locals := 25 } : Room) [.ref (ad 0), .int x] [xO ad i j, (ad 28, .inl (G.2 1, 160, .inl tp))] (fun _ : Unit => some (.int (a_feed td x))) (fun _ => True) (fun _ => [xO ad (upd i 11 (nI (n_feed td x))) j, (ad 28, .inl (G.2 1, 160, .inl (g_feed tp td x)))]) := by
  refine Ct.of rfl rfl ?_
  intro M el eG hnL C T
  subst el
  subst eG
  have C : Cx M cX0_feed "ClockWard" ({ frames := 1, cells := 0, slots := 0, locals := 25 } : Room) := C
  refine V.lvs [0, 1] (lv2 := [(0, .ref (ad 0)), (1, .int x)]) rfl ?_
  refine V.iload_n (pc' := 1) C 1 dX0_feed_0 rfl rfl ?_
  refine V.i2l (pc' := 2) C dX0_feed_1 rfl ?_
  refine V.lconst (pc' := 3) C dX0_feed_2 rfl kcl_0 ?_
  refine V.ldc2 (pc' := 6) C dX0_feed_3 rfl q260 ?_
  refine V.callS (pc' := 9) (wr := [xO ad i j, (ad 28, .inl (M.G.2 1, 160, .inl tp))]) C (ct_X0_in M.l M.G x 0 127 ) dX0_feed_6 rfl (lw_S q261 q262 q64 q263) hys_X0_in rfl rfl [] [0, 1] [0, 1] rfl rfl rfl (fun _ => [xO ad i j, (ad 28, .inl (M.G.2 1, 160, .inl tp))]) (fun _ => rfl) rfl 0 0 rfl rfl (fun _ => [.int (bI (inI x 0 127))]) (fun _ => rfl) (fun _ _ => ?_)
  refine V.if_neB (pc' := 12) C 14 dX0_feed_9 rfl rfl (fun h1 => ?_) (fun h1 => ?_)
  · have hfx := in_fit h1
    refine V.aload_n (pc' := 15) C 0 dX0_feed_14 rfl rfl ?_
    refine V.get (pc' := 18) C dX0_feed_15 rfl 0 rfl rfl in_X0 11 rfl q194 rfl ?_
    refine V.topI ht ?_
    refine V.sipush (pc' := 21) C dX0_feed_18 rfl kcs_160 ?_
    refine V.icmp_neN (pc' := 24) C td 160 (by omega) (by omega) 27 dX0_feed_21 rfl rfl (fun h2 => ?_) (fun h2 => ?_)
    · refine V.aload_n (pc' := 28) C 0 dX0_feed_27 rfl rfl ?_
      refine V.get (pc' := 31) C dX0_feed_28 rfl 0 rfl rfl in_X0 10 rfl q193 rfl ?_
      refine V.aload_n (pc' := 32) C 0 dX0_feed_31 rfl rfl ?_
      refine V.get (pc' := 35) C dX0_feed_32 rfl 0 rfl rfl in_X0 11 rfl q194 rfl ?_
      refine V.topI ht ?_
      refine V.iload_n (pc' := 36) C 1 dX0_feed_35 rfl rfl ?_
      refine V.i2b (pc' := 37) C dX0_feed_36 rfl ?_
      refine V.bast (pc' := 38) C td [xO ad i j, (ad 28, .inl (M.G.2 1, 160, .inl (upd tp td x)))] dX0_feed_37 rfl 1 rfl (by omega) rfl x ((pk_vb _).trans hfx) rfl ?_
      refine V.aload_n (pc' := 39) C 0 dX0_feed_38 rfl rfl ?_
      refine V.dup (pc' := 40) C rfl dX0_feed_39 rfl ?_
      refine V.get (pc' := 43) C dX0_feed_40 rfl 0 rfl rfl in_X0 11 rfl q194 rfl ?_
      refine V.topI ht ?_
      refine V.iconst (pc' := 44) C dX0_feed_43 rfl kci_1 ?_
      refine V.iaddN (pc' := 45) C td 1 dX0_feed_44 rfl ?_
      refine V.put (pc' := 48) C [(ad 0, .inr (0, [.ref (ad 1), .ref (ad 6), .ref (ad 10), .ref (ad 14), .ref (ad 18), .int (i 5), .ref (ad 27), .int (i 7), .int (i 8), .int (i 9), .ref (ad 28), .int (nI (td + 1)), .int (i 12), .int (i 13), .int (i 14), .int (i 15), .ref (ad 29), .long (j 17), .long (j 18), .long (j 19), .ref (ad 30), .ref (ad 31), .ref (ad 32), .int (i 23)])), (ad 28, .inl (M.G.2 1, 160, .inl (upd tp td x)))] dX0_feed_45 rfl 0 rfl rfl in_X0 tyX0_ok nmX0 11 rfl q194 rfl rfl rfl rfl rfl ?_
      refine V.aload_n (pc' := 49) C 0 dX0_feed_48 rfl rfl ?_
      refine V.get (pc' := 52) C dX0_feed_49 rfl 0 rfl rfl in_X0 11 rfl q194 rfl ?_
      exact V.iret C T dX0_feed_52 () rfl rfl (by unfold a_feed; rw [if_pos h1, if_neg h2]) rfl trivial (by unfold n_feed g_feed; rw [if_pos h1, if_pos h1]; rw [if_neg h2, if_neg h2]; first | rfl | (rw [← ht]; rfl)) rfl rfl
    · refine V.bipush (pc' := 26) C dX0_feed_24 rfl kcb_m3 ?_
      exact V.iret C T dX0_feed_26 () rfl rfl (by unfold a_feed; rw [if_pos h1, if_pos h2]) rfl trivial (by unfold n_feed g_feed; rw [if_pos h1, if_pos h1]; rw [if_pos h2, if_pos h2]; first | rfl | (rw [← ht]; rfl)) rfl rfl
  · refine V.iconst (pc' := 13) C dX0_feed_12 rfl kci_m1 ?_
    exact V.iret C T dX0_feed_13 () rfl rfl (by unfold a_feed; rw [if_neg h1]) rfl trivial (by unfold n_feed g_feed; rw [if_neg h1, if_neg h1]; first | rfl | (rw [← ht]; rfl)) rfl rfl
set_option maxHeartbeats 4000000 in
theorem ct_X0_end (l : Launch) (G : GG) (ad : Nat → Nat) (i : Nat → Int32) (j : Nat → Int64) (x : Int32) (td : Nat) (ht : i 11 = nI td) (ht2 : td ≤ 160) : Ct l G yX0_end (ws_ yX0_end cX0_end 3 (some .int)) ({ frames := 1, cells := 0, slots := 0, locals := 25 } : Room) [.ref (ad 0), .int x] [xO ad i j] (fun _ : Unit => some (.int (a_end td x))) (fun _ => True) (fun _ => [xO ad (upd i 11 (nI (n_end td x))) j]) := by
  refine Ct.of rfl rfl ?_
  intro M el eG hnL C T
  subst el
  subst eG
  have C : Cx M cX0_end "ClockWard" ({ frames := 1, cells := 0, slots := 0, locals := 25 } : Room) := C
  refine V.lvs [0, 1] (lv2 := [(0, .ref (ad 0)), (1, .int x)]) rfl ?_
  refine V.iload_n (pc' := 1) C 1 dX0_end_0 rfl rfl ?_
  refine V.i2l (pc' := 2) C dX0_end_1 rfl ?_
  refine V.lconst (pc' := 3) C dX0_end_2 rfl kcl_0 ?_
  refine V.aload_n (pc' := 4) C 0 dX0_end_3 rfl rfl ?_
  refine V.get (pc' := 7) C dX0_end_4 rfl 0 rfl rfl in_X0 11 rfl q194 rfl ?_
  refine V.topI ht ?_
  refine V.i2l (pc' := 8) C dX0_end_7 rfl ?_
  refine V.callS (pc' := 11) (wr := [xO ad i j]) C (ct_X0_in M.l M.G x 0 (nI td) ) dX0_end_8 rfl (lw_S q261 q262 q64 q263) hys_X0_in rfl rfl [] [0] [0] rfl rfl rfl (fun _ => [xO ad i j]) (fun _ => rfl) rfl 0 0 rfl rfl (fun _ => [.int (bI (inI x 0 (nI td)))]) (fun _ => rfl) (fun _ _ => ?_)
  refine V.if_neB (pc' := 14) C 16 dX0_end_11 rfl rfl (fun h1 => ?_) (fun h1 => ?_)
  · obtain ⟨jj, hjj, rfl⟩ := inI_nat (by omega) h1
    refine V.aload_n (pc' := 17) C 0 dX0_end_16 rfl rfl ?_
    refine V.get (pc' := 20) C dX0_end_17 rfl 0 rfl rfl in_X0 11 rfl q194 rfl ?_
    refine V.topI ht ?_
    refine V.istore_n (pc' := 21) C [(2, .int (nI td)), (0, .ref (ad 0)), (1, .int (nI jj))] dX0_end_20 rfl 3 hnL rfl rfl ?_
    refine V.aload_n (pc' := 22) C 1 dX0_end_21 rfl rfl ?_
    refine V.iload_n (pc' := 23) C 2 dX0_end_22 rfl rfl ?_
    refine V.put (pc' := 26) C [(ad 0, .inr (0, [.ref (ad 1), .ref (ad 6), .ref (ad 10), .ref (ad 14), .ref (ad 18), .int (i 5), .ref (ad 27), .int (i 7), .int (i 8), .int (i 9), .ref (ad 28), .int (nI jj), .int (i 12), .int (i 13), .int (i 14), .int (i 15), .ref (ad 29), .long (j 17), .long (j 18), .long (j 19), .ref (ad 30), .ref (ad 31), .ref (ad 32), .int (i 23)]))] dX0_end_23 rfl 0 rfl rfl in_X0 tyX0_ok nmX0 11 rfl q194 rfl rfl rfl rfl rfl ?_
    refine V.iload_n (pc' := 27) C 0 dX0_end_26 rfl rfl ?_
    exact V.iret C T dX0_end_27 () rfl rfl (by unfold a_end; rw [if_pos h1]) rfl trivial (by unfold n_end; rw [if_pos h1, cn_nI (by omega)]; first | rfl | (rw [← ht]; rfl)) rfl rfl
  · refine V.iconst (pc' := 15) C dX0_end_14 rfl kci_m1 ?_
    exact V.iret C T dX0_end_15 () rfl rfl (by unfold a_end; rw [if_neg h1]) rfl trivial (by unfold n_end; rw [if_neg h1]; first | rfl | (rw [← ht]; rfl)) rfl rfl
set_option maxHeartbeats 4000000 in
theorem ct_X0_fault (l : Launch) (G : GG) (ad : Nat → Nat) (i : Nat → Int32) (j : Nat → Int64)  : Ct l G yX0_fault (ws_ yX0_fault cX0_fault 1 (some .int)) ({ frames := 0, cells := 0, slots := 0, locals := 0 } : Room) [.ref (ad 0)] [xO ad i j] (fun _ : Unit => some (.int (i 12))) (fun _ => True) (fun _ => [xO ad i j]) := by
  refine Ct.of rfl rfl ?_
  intro M el eG hnL C T
  subst el
  subst eG
  have C : Cx M cX0_fault "ClockWard" ({ frames := 0, cells := 0, slots := 0, locals := 0 } : Room) := C
  refine V.lvs [0] (lv2 := [(0, .ref (ad 0))]) rfl ?_
  refine V.aload_n (pc' := 1) C 0 dX0_fault_0 rfl rfl ?_
  refine V.get (pc' := 4) C dX0_fault_1 rfl 0 rfl rfl in_X0 12 rfl q195 rfl ?_
  exact V.iret C T dX0_fault_4 () rfl rfl rfl rfl trivial rfl rfl rfl
set_option maxHeartbeats 4000000 in
theorem ct_X0_torn (l : Launch) (G : GG) (ad : Nat → Nat) (i : Nat → Int32) (j : Nat → Int64)  : Ct l G yX0_torn (ws_ yX0_torn cX0_torn 1 (some .int)) ({ frames := 0, cells := 0, slots := 0, locals := 0 } : Room) [.ref (ad 0)] [xO ad i j] (fun _ : Unit => some (.int (i 23))) (fun _ => True) (fun _ => [xO ad i j]) := by
  refine Ct.of rfl rfl ?_
  intro M el eG hnL C T
  subst el
  subst eG
  have C : Cx M cX0_torn "ClockWard" ({ frames := 0, cells := 0, slots := 0, locals := 0 } : Room) := C
  refine V.lvs [0] (lv2 := [(0, .ref (ad 0))]) rfl ?_
  refine V.aload_n (pc' := 1) C 0 dX0_torn_0 rfl rfl ?_
  refine V.get (pc' := 4) C dX0_torn_1 rfl 0 rfl rfl in_X0 23 rfl q206 rfl ?_
  exact V.iret C T dX0_torn_4 () rfl rfl rfl rfl trivial rfl rfl rfl
set_option maxHeartbeats 4000000 in
theorem ct_X0_rule (l : Launch) (G : GG) (ad : Nat → Nat) (i : Nat → Int32) (j : Nat → Int64) (N : Nat) (g : Pg) (x : Int32) (hN5 : N ≤ 5) : Ct l G yX0_rule (ws_ yX0_rule cX0_rule 2 (some .int)) ({ frames := 2, cells := 0, slots := 0, locals := 44 } : Room) [.ref (ad 0), .int x] [xO ad i j, wO (ad 6) (ad 7) (ad 8) (ad 9) N g, (ad 7, .inl (G.2 1, 20, .inl (wcl g))), (ad 8, .inl (G.2 0, 25, .inl (wgt g))), (ad 9, .inl (G.2 1, 18, .inl (wpl g)))] (fun _ : Unit => some (.int (a_rule g N x))) (fun _ => True) (fun _ => [xO ad i j, wO (ad 6) (ad 7) (ad 8) (ad 9) N g, (ad 7, .inl (G.2 1, 20, .inl (wcl g))), (ad 8, .inl (G.2 0, 25, .inl (wgt g))), (ad 9, .inl (G.2 1, 18, .inl (wpl g)))]) := by
  refine Ct.of rfl rfl ?_
  intro M el eG hnL C T
  subst el
  subst eG
  have C : Cx M cX0_rule "ClockWard" ({ frames := 2, cells := 0, slots := 0, locals := 44 } : Room) := C
  refine V.lvs [0, 1] (lv2 := [(0, .ref (ad 0)), (1, .int x)]) rfl ?_
  refine V.iload_n (pc' := 1) C 1 dX0_rule_0 rfl rfl ?_
  by_cases h1 : x = 0
  · subst h1
    refine V.tableIn C 44 dX0_rule_1 (by decide) (by decide) rfl rfl ?_
    refine V.aload_n (pc' := 45) C 0 dX0_rule_44 rfl rfl ?_
    refine V.get (pc' := 48) C dX0_rule_45 rfl 0 rfl rfl in_X0 1 rfl q183 rfl ?_
    refine V.getN (pc' := 51) C dX0_rule_48 rfl 1 rfl rfl in_X5 0 rfl q133 rfl ?_
    exact V.iret C T dX0_rule_51 () rfl rfl rfl rfl trivial rfl rfl rfl
  by_cases h2 : x = 1
  · subst h2
    refine V.tableIn C 52 dX0_rule_1 (by decide) (by decide) rfl rfl ?_
    refine V.aload_n (pc' := 53) C 0 dX0_rule_52 rfl rfl ?_
    refine V.get (pc' := 56) C dX0_rule_53 rfl 0 rfl rfl in_X0 1 rfl q183 rfl ?_
    refine V.getN (pc' := 59) C dX0_rule_56 rfl 1 rfl rfl in_X5 2 rfl q138 rfl ?_
    exact V.iret C T dX0_rule_59 () rfl rfl rfl rfl trivial rfl rfl rfl
  by_cases h3 : x = 2
  · subst h3
    refine V.tableIn C 60 dX0_rule_1 (by decide) (by decide) rfl rfl ?_
    refine V.aload_n (pc' := 61) C 0 dX0_rule_60 rfl rfl ?_
    refine V.get (pc' := 64) C dX0_rule_61 rfl 0 rfl rfl in_X0 1 rfl q183 rfl ?_
    refine V.getN (pc' := 67) C dX0_rule_64 rfl 1 rfl rfl in_X5 3 rfl q140 rfl ?_
    exact V.iret C T dX0_rule_67 () rfl rfl rfl rfl trivial rfl rfl rfl
  by_cases h4 : x = 3
  · subst h4
    refine V.tableIn C 68 dX0_rule_1 (by decide) (by decide) rfl rfl ?_
    refine V.aload_n (pc' := 69) C 0 dX0_rule_68 rfl rfl ?_
    refine V.get (pc' := 72) C dX0_rule_69 rfl 0 rfl rfl in_X0 1 rfl q183 rfl ?_
    refine V.getN (pc' := 75) C dX0_rule_72 rfl 1 rfl rfl in_X5 6 rfl q146 rfl ?_
    exact V.iret C T dX0_rule_75 () rfl rfl rfl rfl trivial rfl rfl rfl
  by_cases h5 : x = 4
  · subst h5
    refine V.tableIn C 76 dX0_rule_1 (by decide) (by decide) rfl rfl ?_
    refine V.aload_n (pc' := 77) C 0 dX0_rule_76 rfl rfl ?_
    refine V.get (pc' := 80) C dX0_rule_77 rfl 0 rfl rfl in_X0 1 rfl q183 rfl ?_
    refine V.callV (pc' := 83) (wr := [xO ad i j]) C (ct_X5_right M.l M.G (ad 6) (ad 7) (ad 8) (ad 9) N g (by omega)) dX0_rule_80 rfl (lw_V q519 q520 q521 q69 q522) hyv_X5_right rfl rfl 0 rfl rfl [1, 2, 3, 4] [0] [0, 1, 2, 3, 4] rfl rfl rfl (fun _ => [xO ad i j, wO (ad 6) (ad 7) (ad 8) (ad 9) N g, (ad 7, .inl (M.G.2 1, 20, .inl (wcl g))), (ad 8, .inl (M.G.2 0, 25, .inl (wgt g))), (ad 9, .inl (M.G.2 1, 18, .inl (wpl g)))]) (fun _ => rfl) rfl 0 0 rfl rfl (fun _ => [.int (rightTo g N)]) (fun _ => rfl) (fun _ _ => ?_)
    exact V.iret C T dX0_rule_83 () rfl rfl rfl rfl trivial rfl rfl rfl
  by_cases h6 : x = 5
  · subst h6
    refine V.tableIn C 84 dX0_rule_1 (by decide) (by decide) rfl rfl ?_
    refine V.aload_n (pc' := 85) C 0 dX0_rule_84 rfl rfl ?_
    refine V.get (pc' := 88) C dX0_rule_85 rfl 0 rfl rfl in_X0 1 rfl q183 rfl ?_
    refine V.callV (pc' := 91) (wr := [xO ad i j]) C (ct_X5_allTimes M.l M.G (ad 6) (ad 7) (ad 8) (ad 9) N g (by omega)) dX0_rule_88 rfl (lw_V q527 q528 q529 q69 q530) hyv_X5_allTimes rfl rfl 0 rfl rfl [1, 2, 3, 4] [0] [0, 1, 2, 3, 4] rfl rfl rfl (fun _ => [xO ad i j, wO (ad 6) (ad 7) (ad 8) (ad 9) N g, (ad 7, .inl (M.G.2 1, 20, .inl (wcl g))), (ad 8, .inl (M.G.2 0, 25, .inl (wgt g))), (ad 9, .inl (M.G.2 1, 18, .inl (wpl g)))]) (fun _ => rfl) rfl 0 0 rfl rfl (fun _ => [.int (sumTo g N)]) (fun _ => rfl) (fun _ _ => ?_)
    exact V.iret C T dX0_rule_91 () rfl rfl rfl rfl trivial rfl rfl rfl
  by_cases h7 : x = 6
  · subst h7
    refine V.tableIn C 92 dX0_rule_1 (by decide) (by decide) rfl rfl ?_
    refine V.aload_n (pc' := 93) C 0 dX0_rule_92 rfl rfl ?_
    refine V.get (pc' := 96) C dX0_rule_93 rfl 0 rfl rfl in_X0 1 rfl q183 rfl ?_
    refine V.getN (pc' := 99) C dX0_rule_96 rfl 1 rfl rfl in_X5 4 rfl q142 rfl ?_
    exact V.iret C T dX0_rule_99 () rfl rfl rfl rfl trivial rfl rfl rfl
  refine V.tableOut C 100 dX0_rule_1 (by have := lv_neT (a := 0) h1 (by decide); have := lv_neT (a := 1) h2 (by decide); have := lv_neT (a := 2) h3 (by decide); have := lv_neT (a := 3) h4 (by decide); have := lv_neT (a := 4) h5 (by decide); have := lv_neT (a := 5) h6 (by decide); have := lv_neT (a := 6) h7 (by decide); omega) rfl ?_
  refine V.iconst (pc' := 101) C dX0_rule_100 rfl kci_m1 ?_
  exact V.iret C T dX0_rule_101 () rfl rfl (by unfold a_rule; rw [if_neg h1, if_neg h2, if_neg h3, if_neg h4, if_neg h5, if_neg h6, if_neg h7]) rfl trivial rfl rfl rfl
set_option maxHeartbeats 4000000 in
theorem ct_X0_clock (l : Launch) (G : GG) (ad : Nat → Nat) (i : Nat → Int32) (j : Nat → Int64) (N : Nat) (g : Pg) (x : Int32) (y : Int32) (n : Nat) (ok : okP g N n) : Ct l G yX0_clock (ws_ yX0_clock cX0_clock 3 (some .int)) ({ frames := 4, cells := 0, slots := 0, locals := 85 } : Room) [.ref (ad 0), .int x, .int y] [xO ad i j, (ad 1, .inl (G.2 4, 4, .inr (.inr (.inr (.inr (fun k => some (ad (2 + k)))))))), (ad 2, .inr (1, [])), (ad 3, .inr (2, [])), (ad 4, .inr (3, [])), (ad 5, .inr (4, [])), wO (ad 6) (ad 7) (ad 8) (ad 9) N g, (ad 7, .inl (G.2 1, 20, .inl (wcl g))), (ad 8, .inl (G.2 0, 25, .inl (wgt g))), (ad 9, .inl (G.2 1, 18, .inl (wpl g)))] (fun _ : Unit => some (.int (a_clock g N x y))) (fun _ => True) (fun _ => [xO ad i j, (ad 1, .inl (G.2 4, 4, .inr (.inr (.inr (.inr (fun k => some (ad (2 + k)))))))), (ad 2, .inr (1, [])), (ad 3, .inr (2, [])), (ad 4, .inr (3, [])), (ad 5, .inr (4, [])), wO (ad 6) (ad 7) (ad 8) (ad 9) N g, (ad 7, .inl (G.2 1, 20, .inl (wcl g))), (ad 8, .inl (G.2 0, 25, .inl (wgt g))), (ad 9, .inl (G.2 1, 18, .inl (wpl g)))]) := by
  refine Ct.of rfl rfl ?_
  intro M el eG hnL C T
  subst el
  subst eG
  have C : Cx M cX0_clock "ClockWard" ({ frames := 4, cells := 0, slots := 0, locals := 85 } : Room) := C
  have hN5 := ok.n5
  have hn6 := ok.n6
  refine V.lvs [0, 1, 2] (lv2 := [(0, .ref (ad 0)), (1, .int x), (2, .int y)]) rfl ?_
  refine V.aload_n (pc' := 1) C 0 dX0_clock_0 rfl rfl ?_
  refine V.iload_n (pc' := 2) C 1 dX0_clock_1 rfl rfl ?_
  refine V.callV (pc' := 5) (wr := [(ad 1, .inl (M.G.2 4, 4, .inr (.inr (.inr (.inr (fun k => some (ad (2 + k)))))))), (ad 2, .inr (1, [])), (ad 3, .inr (2, [])), (ad 4, .inr (3, [])), (ad 5, .inr (4, []))]) C (ct_X0_isClock M.l M.G ad i j N g x ) dX0_clock_2 rfl (lw_V q535 q537 qs13 q64 q538) hyv_X0_isClock rfl rfl 0 rfl rfl [0, 6, 7, 8, 9] [1, 2, 3, 4, 5] [5, 0, 1, 2, 3, 4, 6, 7, 8, 9] rfl rfl rfl (fun _ => [xO ad i j, (ad 1, .inl (M.G.2 4, 4, .inr (.inr (.inr (.inr (fun k => some (ad (2 + k)))))))), (ad 2, .inr (1, [])), (ad 3, .inr (2, [])), (ad 4, .inr (3, [])), (ad 5, .inr (4, [])), wO (ad 6) (ad 7) (ad 8) (ad 9) N g, (ad 7, .inl (M.G.2 1, 20, .inl (wcl g))), (ad 8, .inl (M.G.2 0, 25, .inl (wgt g))), (ad 9, .inl (M.G.2 1, 18, .inl (wpl g)))]) (fun _ => rfl) rfl 0 0 rfl rfl (fun _ => [.int (bI (isC N x))]) (fun _ => rfl) (fun _ _ => ?_)
  refine V.if_eqB (pc' := 8) C 20 dX0_clock_5 rfl rfl (fun h1 => ?_) (fun h1 => ?_)
  · refine V.iconst (pc' := 21) C dX0_clock_20 rfl kci_m1 ?_
    exact V.iret C T dX0_clock_21 () rfl rfl (if_neg (fun z => h1 z.1)).symm rfl trivial rfl rfl rfl
  · obtain ⟨c, hc, rfl⟩ := isC_nat hN5 h1
    refine V.iload_n (pc' := 9) C 2 dX0_clock_8 rfl rfl ?_
    refine V.i2l (pc' := 10) C dX0_clock_9 rfl ?_
    refine V.lconst (pc' := 11) C dX0_clock_10 rfl kcl_0 ?_
    refine V.ldc2 (pc' := 14) C dX0_clock_11 rfl q539 ?_
    refine V.callS (pc' := 17) (wr := [xO ad i j, (ad 1, .inl (M.G.2 4, 4, .inr (.inr (.inr (.inr (fun k => some (ad (2 + k)))))))), (ad 2, .inr (1, [])), (ad 3, .inr (2, [])), (ad 4, .inr (3, [])), (ad 5, .inr (4, [])), wO (ad 6) (ad 7) (ad 8) (ad 9) N g, (ad 7, .inl (M.G.2 1, 20, .inl (wcl g))), (ad 8, .inl (M.G.2 0, 25, .inl (wgt g))), (ad 9, .inl (M.G.2 1, 18, .inl (wpl g)))]) C (ct_X0_in M.l M.G y 0 4 ) dX0_clock_14 rfl (lw_S q261 q262 q64 q263) hys_X0_in rfl rfl [] [0, 1, 2, 3, 4, 5, 6, 7, 8, 9] [0, 1, 2, 3, 4, 5, 6, 7, 8, 9] rfl rfl rfl (fun _ => [xO ad i j, (ad 1, .inl (M.G.2 4, 4, .inr (.inr (.inr (.inr (fun k => some (ad (2 + k)))))))), (ad 2, .inr (1, [])), (ad 3, .inr (2, [])), (ad 4, .inr (3, [])), (ad 5, .inr (4, [])), wO (ad 6) (ad 7) (ad 8) (ad 9) N g, (ad 7, .inl (M.G.2 1, 20, .inl (wcl g))), (ad 8, .inl (M.G.2 0, 25, .inl (wgt g))), (ad 9, .inl (M.G.2 1, 18, .inl (wpl g)))]) (fun _ => rfl) rfl 0 0 rfl rfl (fun _ => [.int (bI (inI y 0 4))]) (fun _ => rfl) (fun _ _ => ?_)
    refine V.if_neB (pc' := 20) C 22 dX0_clock_17 rfl rfl (fun h2 => ?_) (fun h2 => ?_)
    · obtain ⟨w, hw, rfl⟩ := in_nat (m := 4) (by decide) h2
      refine V.iload_n (pc' := 23) C 2 dX0_clock_22 rfl rfl ?_
      refine V.iconst (pc' := 24) C dX0_clock_23 rfl kci_4 ?_
      refine V.icmp_geN (pc' := 27) C w 4 (by omega) (by omega) 39 dX0_clock_24 rfl rfl (fun h3 => ?_) (fun h3 => ?_)
      · refine V.aload_n (pc' := 40) C 0 dX0_clock_39 rfl rfl ?_
        refine V.aload_n (pc' := 41) C 0 dX0_clock_40 rfl rfl ?_
        refine V.get (pc' := 44) C dX0_clock_41 rfl 0 rfl rfl in_X0 1 rfl q183 rfl ?_
        refine V.iload_n (pc' := 45) C 1 dX0_clock_44 rfl rfl ?_
        refine V.callV (pc' := 48) (wr := []) C (ct_X0_timeThen M.l M.G ad i j (ad 6) (ad 7) (ad 8) (ad 9) N g c (pN g c) (by omega) (ok.k c (by omega)).2 (ok.k c (by omega)).1) dX0_clock_45 rfl (lw_V q541 q543 qs14 q64 q544) hyv_X0_timeThen rfl rfl 0 rfl rfl [0, 1, 2, 3, 4, 5, 6, 7, 8, 9] [] [0, 1, 2, 3, 4, 5, 6, 7, 8, 9] rfl rfl rfl (fun _ => [xO ad i j, (ad 1, .inl (M.G.2 4, 4, .inr (.inr (.inr (.inr (fun k => some (ad (2 + k)))))))), (ad 2, .inr (1, [])), (ad 3, .inr (2, [])), (ad 4, .inr (3, [])), (ad 5, .inr (4, [])), wO (ad 6) (ad 7) (ad 8) (ad 9) N g, (ad 7, .inl (M.G.2 1, 20, .inl (wcl g))), (ad 8, .inl (M.G.2 0, 25, .inl (wgt g))), (ad 9, .inl (M.G.2 1, 18, .inl (wpl g)))]) (fun _ => rfl) rfl 0 0 rfl rfl (fun _ => [.int (thenI g c)]) (fun _ => rfl) (fun _ _ => ?_)
        exact V.iret C T dX0_clock_48 () rfl rfl (Eq.trans (by rw [if_pos (show nI w = 4 from congrArg nI (show w = 4 by omega)), cn_nI (by omega)]) (if_pos ⟨h1, h2⟩).symm) rfl trivial rfl rfl rfl
      · refine V.aload_n (pc' := 28) C 0 dX0_clock_27 rfl rfl ?_
        refine V.get (pc' := 31) C dX0_clock_28 rfl 0 rfl rfl in_X0 1 rfl q183 rfl ?_
        refine V.iload_n (pc' := 32) C 1 dX0_clock_31 rfl rfl ?_
        refine V.iload_n (pc' := 33) C 2 dX0_clock_32 rfl rfl ?_
        refine V.callV (pc' := 36) (wr := [xO ad i j, (ad 1, .inl (M.G.2 4, 4, .inr (.inr (.inr (.inr (fun k => some (ad (2 + k)))))))), (ad 2, .inr (1, [])), (ad 3, .inr (2, [])), (ad 4, .inr (3, [])), (ad 5, .inr (4, []))]) C (ct_X5_of M.l M.G (ad 6) (ad 7) (ad 8) (ad 9) N g c w (by omega) (by omega)) dX0_clock_33 rfl (lw_V q540 q524 q525 q69 q526) hyv_X5_of rfl rfl 0 rfl rfl [6, 7, 8, 9] [0, 1, 2, 3, 4, 5] [0, 1, 2, 3, 4, 5, 6, 7, 8, 9] rfl rfl rfl (fun _ => [xO ad i j, (ad 1, .inl (M.G.2 4, 4, .inr (.inr (.inr (.inr (fun k => some (ad (2 + k)))))))), (ad 2, .inr (1, [])), (ad 3, .inr (2, [])), (ad 4, .inr (3, [])), (ad 5, .inr (4, [])), wO (ad 6) (ad 7) (ad 8) (ad 9) N g, (ad 7, .inl (M.G.2 1, 20, .inl (wcl g))), (ad 8, .inl (M.G.2 0, 25, .inl (wgt g))), (ad 9, .inl (M.G.2 1, 18, .inl (wpl g)))]) (fun _ => rfl) rfl 0 0 rfl rfl (fun _ => [.int (wof g w c)]) (fun _ => rfl) (fun _ _ => ?_)
        refine V.goto C 48 dX0_clock_36 rfl ?_
        exact V.iret C T dX0_clock_48 () rfl rfl (Eq.trans (by rw [if_neg (show ¬ nI w = 4 from fun z => absurd ((nI_eq (a := w) (b := 4) (by omega) (by omega)).mp z) (by omega)), cn_nI (by omega), cn_nI (by omega), wof_ix, wix_eq (by omega)]) (if_pos ⟨h1, h2⟩).symm) rfl trivial rfl rfl rfl
    · refine V.iconst (pc' := 21) C dX0_clock_20 rfl kci_m1 ?_
      exact V.iret C T dX0_clock_21 () rfl rfl (if_neg (fun z => h2 z.2)).symm rfl trivial rfl rfl rfl
set_option maxHeartbeats 4000000 in
theorem ct_X0_got (l : Launch) (G : GG) (ad : Nat → Nat) (i : Nat → Int32) (j : Nat → Int64) (N : Nat) (g : Pg) (x : Int32) (y : Int32) (hN5 : N ≤ 5) : Ct l G yX0_got (ws_ yX0_got cX0_got 3 (some .int)) ({ frames := 3, cells := 0, slots := 0, locals := 68 } : Room) [.ref (ad 0), .int x, .int y] [xO ad i j, wO (ad 6) (ad 7) (ad 8) (ad 9) N g, (ad 7, .inl (G.2 1, 20, .inl (wcl g))), (ad 8, .inl (G.2 0, 25, .inl (wgt g))), (ad 9, .inl (G.2 1, 18, .inl (wpl g)))] (fun _ : Unit => some (.int (a_got g N x y))) (fun _ => True) (fun _ => [xO ad i j, wO (ad 6) (ad 7) (ad 8) (ad 9) N g, (ad 7, .inl (G.2 1, 20, .inl (wcl g))), (ad 8, .inl (G.2 0, 25, .inl (wgt g))), (ad 9, .inl (G.2 1, 18, .inl (wpl g)))]) := by
  refine Ct.of rfl rfl ?_
  intro M el eG hnL C T
  subst el
  subst eG
  have C : Cx M cX0_got "ClockWard" ({ frames := 3, cells := 0, slots := 0, locals := 68 } : Room) := C
  refine V.lvs [0, 1, 2] (lv2 := [(0, .ref (ad 0)), (1, .int x), (2, .int y)]) rfl ?_
  refine V.aload_n (pc' := 1) C 0 dX0_got_0 rfl rfl ?_
  refine V.iload_n (pc' := 2) C 1 dX0_got_1 rfl rfl ?_
  refine V.iload_n (pc' := 3) C 2 dX0_got_2 rfl rfl ?_
  refine V.callV (pc' := 6) (wr := []) C (ct_X0_isPair M.l M.G ad i j N g x y ) dX0_got_3 rfl (lw_V q570 q572 qs15 q64 q573) hyv_X0_isPair rfl rfl 0 rfl rfl [0, 1, 2, 3, 4] [] [0, 1, 2, 3, 4] rfl rfl rfl (fun _ => [xO ad i j, wO (ad 6) (ad 7) (ad 8) (ad 9) N g, (ad 7, .inl (M.G.2 1, 20, .inl (wcl g))), (ad 8, .inl (M.G.2 0, 25, .inl (wgt g))), (ad 9, .inl (M.G.2 1, 18, .inl (wpl g)))]) (fun _ => rfl) rfl 0 0 rfl rfl (fun _ => [.int (bI (isTwo N x y))]) (fun _ => rfl) (fun _ _ => ?_)
  refine V.if_eqB (pc' := 9) C 25 dX0_got_6 rfl rfl (fun h1 => ?_) (fun h1 => ?_)
  · refine V.iconst (pc' := 26) C dX0_got_25 rfl kci_m1 ?_
    exact V.iret C T dX0_got_26 () rfl rfl (if_neg (fun z => h1 z)).symm rfl trivial rfl rfl rfl
  · obtain ⟨a, ha, rfl⟩ := isC_nat hN5 h1.1
    obtain ⟨b, hb, rfl⟩ := isC_nat hN5 h1.2.1
    refine V.aload_n (pc' := 10) C 0 dX0_got_9 rfl rfl ?_
    refine V.get (pc' := 13) C dX0_got_10 rfl 0 rfl rfl in_X0 1 rfl q183 rfl ?_
    refine V.getN (pc' := 16) C dX0_got_13 rfl 1 rfl rfl in_X5 5 rfl q144 rfl ?_
    refine V.iconst (pc' := 17) C dX0_got_16 rfl kci_5 ?_
    refine V.iload_n (pc' := 18) C 1 dX0_got_17 rfl rfl ?_
    refine V.imulN (pc' := 19) C 5 a dX0_got_18 rfl ?_
    refine V.iload_n (pc' := 20) C 2 dX0_got_19 rfl rfl ?_
    refine V.iaddN (pc' := 21) C (5 * a) b dX0_got_20 rfl ?_
    refine V.iald (pc' := 22) C (5 * a + b) dX0_got_21 rfl 3 rfl (by omega) rfl ?_
    refine V.goto C 26 dX0_got_22 rfl ?_
    exact V.iret C T dX0_got_26 () rfl rfl (Eq.trans (by rw [cn_nI (by omega), cn_nI (by omega), Nat.add_assoc]; rfl) (if_pos h1).symm) rfl trivial rfl rfl rfl
set_option maxHeartbeats 4000000 in
theorem ct_X0_gift (l : Launch) (G : GG) (ad : Nat → Nat) (i : Nat → Int32) (j : Nat → Int64) (N : Nat) (g : Pg) (x : Int32) (y : Int32) (n : Nat) (ok : okP g N n) : Ct l G yX0_gift (ws_ yX0_gift cX0_gift 3 (some .int)) ({ frames := 1, cells := 0, slots := 0, locals := 25 } : Room) [.ref (ad 0), .int x, .int y] [xO ad i j, wO (ad 6) (ad 7) (ad 8) (ad 9) N g, (ad 7, .inl (G.2 1, 20, .inl (wcl g))), (ad 8, .inl (G.2 0, 25, .inl (wgt g))), (ad 9, .inl (G.2 1, 18, .inl (wpl g)))] (fun _ : Unit => some (.int (a_gift g x y))) (fun _ => True) (fun _ => [xO ad i j, wO (ad 6) (ad 7) (ad 8) (ad 9) N g, (ad 7, .inl (G.2 1, 20, .inl (wcl g))), (ad 8, .inl (G.2 0, 25, .inl (wgt g))), (ad 9, .inl (G.2 1, 18, .inl (wpl g)))]) := by
  refine Ct.of rfl rfl ?_
  intro M el eG hnL C T
  subst el
  subst eG
  have C : Cx M cX0_gift "ClockWard" ({ frames := 1, cells := 0, slots := 0, locals := 25 } : Room) := C
  have hN5 := ok.n5
  have hn6 := ok.n6
  refine V.lvs [0, 1, 2] (lv2 := [(0, .ref (ad 0)), (1, .int x), (2, .int y)]) rfl ?_
  refine V.iload_n (pc' := 1) C 1 dX0_gift_0 rfl rfl ?_
  refine V.i2l (pc' := 2) C dX0_gift_1 rfl ?_
  refine V.lconst (pc' := 3) C dX0_gift_2 rfl kcl_0 ?_
  refine V.aload_n (pc' := 4) C 0 dX0_gift_3 rfl rfl ?_
  refine V.get (pc' := 7) C dX0_gift_4 rfl 0 rfl rfl in_X0 1 rfl q183 rfl ?_
  refine V.getN (pc' := 10) C dX0_gift_7 rfl 1 rfl rfl in_X5 6 rfl q146 rfl ?_
  refine V.topI ok.2.2.1 ?_
  refine V.iconst (pc' := 11) C dX0_gift_10 rfl kci_1 ?_
  refine V.isub (pc' := 12) C dX0_gift_11 rfl ?_
  refine V.i2l (pc' := 13) C dX0_gift_12 rfl ?_
  refine V.callS (pc' := 16) (wr := [xO ad i j, wO (ad 6) (ad 7) (ad 8) (ad 9) N g, (ad 7, .inl (M.G.2 1, 20, .inl (wcl g))), (ad 8, .inl (M.G.2 0, 25, .inl (wgt g))), (ad 9, .inl (M.G.2 1, 18, .inl (wpl g)))]) C (ct_X0_in M.l M.G x 0 ((nI n) - 1) ) dX0_gift_13 rfl (lw_S q261 q262 q64 q263) hys_X0_in rfl rfl [] [0, 1, 2, 3, 4] [0, 1, 2, 3, 4] rfl rfl rfl (fun _ => [xO ad i j, wO (ad 6) (ad 7) (ad 8) (ad 9) N g, (ad 7, .inl (M.G.2 1, 20, .inl (wcl g))), (ad 8, .inl (M.G.2 0, 25, .inl (wgt g))), (ad 9, .inl (M.G.2 1, 18, .inl (wpl g)))]) (fun _ => rfl) rfl 0 0 rfl rfl (fun _ => [.int (bI (inI x 0 ((nI n) - 1)))]) (fun _ => rfl) (fun _ _ => ?_)
  refine V.if_eqB (pc' := 19) C 47 dX0_gift_16 rfl rfl (fun h1 => ?_) (fun h1 => ?_)
  · refine V.iconst (pc' := 48) C dX0_gift_47 rfl kci_m1 ?_
    exact V.iret C T dX0_gift_48 () rfl rfl (by unfold a_gift; rw [ok.2.2.1]; exact (if_neg (fun z => h1 z.1)).symm) rfl trivial rfl rfl rfl
  · obtain ⟨a, ha, rfl⟩ := inC_nat (by omega) h1
    refine V.iload_n (pc' := 20) C 2 dX0_gift_19 rfl rfl ?_
    refine V.i2l (pc' := 21) C dX0_gift_20 rfl ?_
    refine V.lconst (pc' := 22) C dX0_gift_21 rfl kcl_0 ?_
    refine V.ldc2 (pc' := 25) C dX0_gift_22 rfl q578 ?_
    refine V.callS (pc' := 28) (wr := [xO ad i j, wO (ad 6) (ad 7) (ad 8) (ad 9) N g, (ad 7, .inl (M.G.2 1, 20, .inl (wcl g))), (ad 8, .inl (M.G.2 0, 25, .inl (wgt g))), (ad 9, .inl (M.G.2 1, 18, .inl (wpl g)))]) C (ct_X0_in M.l M.G y 0 2 ) dX0_gift_25 rfl (lw_S q261 q262 q64 q263) hys_X0_in rfl rfl [] [0, 1, 2, 3, 4] [0, 1, 2, 3, 4] rfl rfl rfl (fun _ => [xO ad i j, wO (ad 6) (ad 7) (ad 8) (ad 9) N g, (ad 7, .inl (M.G.2 1, 20, .inl (wcl g))), (ad 8, .inl (M.G.2 0, 25, .inl (wgt g))), (ad 9, .inl (M.G.2 1, 18, .inl (wpl g)))]) (fun _ => rfl) rfl 0 0 rfl rfl (fun _ => [.int (bI (inI y 0 2))]) (fun _ => rfl) (fun _ _ => ?_)
    refine V.if_eqB (pc' := 31) C 47 dX0_gift_28 rfl rfl (fun h2 => ?_) (fun h2 => ?_)
    · refine V.iconst (pc' := 48) C dX0_gift_47 rfl kci_m1 ?_
      exact V.iret C T dX0_gift_48 () rfl rfl (by unfold a_gift; rw [ok.2.2.1]; exact (if_neg (fun z => h2 z.2)).symm) rfl trivial rfl rfl rfl
    · obtain ⟨b, hb, rfl⟩ := in_nat (m := 2) (by decide) h2
      refine V.aload_n (pc' := 32) C 0 dX0_gift_31 rfl rfl ?_
      refine V.get (pc' := 35) C dX0_gift_32 rfl 0 rfl rfl in_X0 1 rfl q183 rfl ?_
      refine V.getN (pc' := 38) C dX0_gift_35 rfl 1 rfl rfl in_X5 7 rfl q149 rfl ?_
      refine V.iconst (pc' := 39) C dX0_gift_38 rfl kci_3 ?_
      refine V.iload_n (pc' := 40) C 1 dX0_gift_39 rfl rfl ?_
      refine V.imulN (pc' := 41) C 3 a dX0_gift_40 rfl ?_
      refine V.iload_n (pc' := 42) C 2 dX0_gift_41 rfl rfl ?_
      refine V.iaddN (pc' := 43) C (3 * a) b dX0_gift_42 rfl ?_
      refine V.bald (pc' := 44) C (3 * a + b) dX0_gift_43 rfl 4 rfl (by omega) rfl ?_
      refine V.goto C 48 dX0_gift_44 rfl ?_
      exact V.iret C T dX0_gift_48 () rfl rfl (by unfold a_gift; rw [ok.2.2.1]; exact (Eq.trans (by rw [cn_nI (by omega), cn_nI (by omega), Nat.add_assoc]; rfl) (if_pos ⟨h1, h2⟩).symm)) rfl trivial rfl rfl rfl
set_option maxHeartbeats 4000000 in
theorem ct_X0_alter (l : Launch) (G : GG) (ad : Nat → Nat) (i : Nat → Int32) (j : Nat → Int64) (N : Nat) (g : Pg) (x : Int32) (y : Int32) (v : Int32) (hN5 : N ≤ 5) : Ct l G yX0_alter (ws_ yX0_alter cX0_alter 5 (some .int)) ({ frames := 2, cells := 0, slots := 0, locals := 46 } : Room) [.ref (ad 0), .int x, .int y, .int v] [xO ad i j, wO (ad 6) (ad 7) (ad 8) (ad 9) N g, (ad 7, .inl (G.2 1, 20, .inl (wcl g))), (ad 8, .inl (G.2 0, 25, .inl (wgt g))), (ad 9, .inl (G.2 1, 18, .inl (wpl g)))] (fun _ : Unit => some (.int (a_alter g N x y v))) (fun _ => True) (fun _ => [xO ad i j, wO (ad 6) (ad 7) (ad 8) (ad 9) N (g_alter g N x y v), (ad 7, .inl (G.2 1, 20, .inl (wcl (g_alter g N x y v)))), (ad 8, .inl (G.2 0, 25, .inl (wgt (g_alter g N x y v)))), (ad 9, .inl (G.2 1, 18, .inl (wpl (g_alter g N x y v))))]) := by
  refine Ct.of rfl rfl ?_
  intro M el eG hnL C T
  subst el
  subst eG
  have C : Cx M cX0_alter "ClockWard" ({ frames := 2, cells := 0, slots := 0, locals := 46 } : Room) := C
  refine V.lvs [0, 1, 2, 3] (lv2 := [(0, .ref (ad 0)), (1, .int x), (2, .int y), (3, .int v)]) rfl ?_
  refine V.aload_n (pc' := 1) C 0 dX0_alter_0 rfl rfl ?_
  refine V.iload_n (pc' := 2) C 1 dX0_alter_1 rfl rfl ?_
  refine V.callV (pc' := 5) (wr := []) C (ct_X0_isClock M.l M.G ad i j N g x ) dX0_alter_2 rfl (lw_V q535 q537 qs13 q64 q538) hyv_X0_isClock rfl rfl 0 rfl rfl [0, 1, 2, 3, 4] [] [0, 1, 2, 3, 4] rfl rfl rfl (fun _ => [xO ad i j, wO (ad 6) (ad 7) (ad 8) (ad 9) N g, (ad 7, .inl (M.G.2 1, 20, .inl (wcl g))), (ad 8, .inl (M.G.2 0, 25, .inl (wgt g))), (ad 9, .inl (M.G.2 1, 18, .inl (wpl g)))]) (fun _ => rfl) rfl 0 0 rfl rfl (fun _ => [.int (bI (isC N x))]) (fun _ => rfl) (fun _ _ => ?_)
  refine V.if_eqB (pc' := 8) C 34 dX0_alter_5 rfl rfl (fun h1 => ?_) (fun h1 => ?_)
  · refine V.iconst (pc' := 35) C dX0_alter_34 rfl kci_m1 ?_
    exact V.iret C T dX0_alter_35 () rfl rfl (if_neg (fun z => h1 z.1)).symm rfl trivial (by unfold g_alter; rw [if_neg (fun z => h1 z.1)]) rfl rfl
  · obtain ⟨c, hc, rfl⟩ := isC_nat hN5 h1
    refine V.iload_n (pc' := 9) C 2 dX0_alter_8 rfl rfl ?_
    refine V.i2l (pc' := 10) C dX0_alter_9 rfl ?_
    refine V.lconst (pc' := 11) C dX0_alter_10 rfl kcl_0 ?_
    refine V.ldc2 (pc' := 14) C dX0_alter_11 rfl q583 ?_
    refine V.callS (pc' := 17) (wr := [xO ad i j, wO (ad 6) (ad 7) (ad 8) (ad 9) N g, (ad 7, .inl (M.G.2 1, 20, .inl (wcl g))), (ad 8, .inl (M.G.2 0, 25, .inl (wgt g))), (ad 9, .inl (M.G.2 1, 18, .inl (wpl g)))]) C (ct_X0_in M.l M.G y 0 3 ) dX0_alter_14 rfl (lw_S q261 q262 q64 q263) hys_X0_in rfl rfl [] [0, 1, 2, 3, 4] [0, 1, 2, 3, 4] rfl rfl rfl (fun _ => [xO ad i j, wO (ad 6) (ad 7) (ad 8) (ad 9) N g, (ad 7, .inl (M.G.2 1, 20, .inl (wcl g))), (ad 8, .inl (M.G.2 0, 25, .inl (wgt g))), (ad 9, .inl (M.G.2 1, 18, .inl (wpl g)))]) (fun _ => rfl) rfl 0 0 rfl rfl (fun _ => [.int (bI (inI y 0 3))]) (fun _ => rfl) (fun _ _ => ?_)
    refine V.if_eqB (pc' := 20) C 34 dX0_alter_17 rfl rfl (fun h2 => ?_) (fun h2 => ?_)
    · refine V.iconst (pc' := 35) C dX0_alter_34 rfl kci_m1 ?_
      exact V.iret C T dX0_alter_35 () rfl rfl (if_neg (fun z => h2 z.2.1)).symm rfl trivial (by unfold g_alter; rw [if_neg (fun z => h2 z.2.1)]) rfl rfl
    · obtain ⟨w, hw, rfl⟩ := in_nat (m := 3) (by decide) h2
      refine V.iload_n (pc' := 21) C 3 dX0_alter_20 rfl rfl ?_
      refine V.i2l (pc' := 22) C dX0_alter_21 rfl ?_
      refine V.lconst (pc' := 23) C dX0_alter_22 rfl kcl_0 ?_
      refine V.iload_n (pc' := 24) C 2 dX0_alter_23 rfl rfl ?_
      refine V.callS (pc' := 27) (wr := [xO ad i j, wO (ad 6) (ad 7) (ad 8) (ad 9) N g, (ad 7, .inl (M.G.2 1, 20, .inl (wcl g))), (ad 8, .inl (M.G.2 0, 25, .inl (wgt g))), (ad 9, .inl (M.G.2 1, 18, .inl (wpl g)))]) C (ct_X0_mostOf M.l M.G (nI w) ) dX0_alter_24 rfl (lw_S q584 q585 q64 q586) hys_X0_mostOf rfl rfl [] [0, 1, 2, 3, 4] [0, 1, 2, 3, 4] rfl rfl rfl (fun _ => [xO ad i j, wO (ad 6) (ad 7) (ad 8) (ad 9) N g, (ad 7, .inl (M.G.2 1, 20, .inl (wcl g))), (ad 8, .inl (M.G.2 0, 25, .inl (wgt g))), (ad 9, .inl (M.G.2 1, 18, .inl (wpl g)))]) (fun _ => rfl) rfl 0 0 rfl rfl (fun _ => [.int (altMost (nI w)), .long 0, .long v.toInt64]) (fun _ => rfl) (fun _ _ => ?_)
      refine V.i2l (pc' := 28) C dX0_alter_27 rfl ?_
      refine V.callS (pc' := 31) (wr := [xO ad i j, wO (ad 6) (ad 7) (ad 8) (ad 9) N g, (ad 7, .inl (M.G.2 1, 20, .inl (wcl g))), (ad 8, .inl (M.G.2 0, 25, .inl (wgt g))), (ad 9, .inl (M.G.2 1, 18, .inl (wpl g)))]) C (ct_X0_in M.l M.G v 0 (altMost (nI w)) ) dX0_alter_28 rfl (lw_S q261 q262 q64 q263) hys_X0_in rfl rfl [] [0, 1, 2, 3, 4] [0, 1, 2, 3, 4] rfl rfl rfl (fun _ => [xO ad i j, wO (ad 6) (ad 7) (ad 8) (ad 9) N g, (ad 7, .inl (M.G.2 1, 20, .inl (wcl g))), (ad 8, .inl (M.G.2 0, 25, .inl (wgt g))), (ad 9, .inl (M.G.2 1, 18, .inl (wpl g)))]) (fun _ => rfl) rfl 0 0 rfl rfl (fun _ => [.int (bI (inI v 0 (altMost (nI w))))]) (fun _ => rfl) (fun _ _ => ?_)
      refine V.if_neB (pc' := 34) C 36 dX0_alter_31 rfl rfl (fun h3 => ?_) (fun h3 => ?_)
      · have hal := h3
        refine V.aload_n (pc' := 37) C 0 dX0_alter_36 rfl rfl ?_
        refine V.get (pc' := 40) C dX0_alter_37 rfl 0 rfl rfl in_X0 1 rfl q183 rfl ?_
        refine V.iload_n (pc' := 41) C 1 dX0_alter_40 rfl rfl ?_
        refine V.iload_n (pc' := 42) C 2 dX0_alter_41 rfl rfl ?_
        refine V.callV (pc' := 45) (wr := [xO ad i j]) C (ct_X5_of M.l M.G (ad 6) (ad 7) (ad 8) (ad 9) N g c w (by omega) (by omega)) dX0_alter_42 rfl (lw_V q540 q524 q525 q69 q526) hyv_X5_of rfl rfl 0 rfl rfl [1, 2, 3, 4] [0] [0, 1, 2, 3, 4] rfl rfl rfl (fun _ => [xO ad i j, wO (ad 6) (ad 7) (ad 8) (ad 9) N g, (ad 7, .inl (M.G.2 1, 20, .inl (wcl g))), (ad 8, .inl (M.G.2 0, 25, .inl (wgt g))), (ad 9, .inl (M.G.2 1, 18, .inl (wpl g)))]) (fun _ => rfl) rfl 0 0 rfl rfl (fun _ => [.int (wof g w c)]) (fun _ => rfl) (fun _ _ => ?_)
        refine V.istore (pc' := 47) C [(4, .int (wof g w c)), (0, .ref (ad 0)), (1, .int (nI c)), (2, .int (nI w)), (3, .int v)] dX0_alter_45 rfl 5 hnL rfl rfl ?_
        refine V.aload_n (pc' := 48) C 1 dX0_alter_47 rfl rfl ?_
        refine V.get (pc' := 51) C dX0_alter_48 rfl 0 rfl rfl in_X0 1 rfl q183 rfl ?_
        refine V.iload_n (pc' := 52) C 2 dX0_alter_51 rfl rfl ?_
        refine V.iload_n (pc' := 53) C 3 dX0_alter_52 rfl rfl ?_
        refine V.iload_n (pc' := 54) C 4 dX0_alter_53 rfl rfl ?_
        refine V.callV (pc' := 57) (wr := [xO ad i j]) C (ct_X5_becomes M.l M.G (ad 6) (ad 7) (ad 8) (ad 9) N g c w v (by omega) (by omega) (alt_fit hal)) dX0_alter_54 rfl (lw_V q587 q501 q502 q69 q503) hyv_X5_becomes rfl rfl 0 rfl rfl [1, 2, 3, 4] [0] [0, 1, 2, 3, 4] rfl rfl rfl (fun _ => [xO ad i j, wO (ad 6) (ad 7) (ad 8) (ad 9) N (wput g w c v), (ad 7, .inl (M.G.2 1, 20, .inl (wcl (wput g w c v)))), (ad 8, .inl (M.G.2 0, 25, .inl (wgt (wput g w c v)))), (ad 9, .inl (M.G.2 1, 18, .inl (wpl (wput g w c v))))]) (fun _ => rfl) rfl 0 0 rfl rfl (fun _ => []) (fun _ => rfl) (fun _ _ => ?_)
        refine V.iload (pc' := 59) C 0 dX0_alter_57 rfl rfl ?_
        exact V.iret C T dX0_alter_59 () rfl rfl (by unfold a_alter; rw [if_pos ⟨h1, h2, h3⟩, cn_nI (by omega), cn_nI (by omega), wof_ix, wix_eq (by omega)]) rfl trivial (by unfold g_alter; rw [if_pos ⟨h1, h2, h3⟩, cn_nI (by omega), cn_nI (by omega), wput_ix, wix_eq (by omega)]) rfl rfl
      · refine V.iconst (pc' := 35) C dX0_alter_34 rfl kci_m1 ?_
        exact V.iret C T dX0_alter_35 () rfl rfl (if_neg (fun z => h3 z.2.2)).symm rfl trivial (by unfold g_alter; rw [if_neg (fun z => h3 z.2.2)]) rfl rfl
