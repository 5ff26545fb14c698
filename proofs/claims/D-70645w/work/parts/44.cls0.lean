set_option maxRecDepth 100000
set_option maxHeartbeats 4000000 in
theorem ct_X0_in (l : Launch) (G : GG) (v : Int32) (lo : Int32) (hi : Int32)  : Ct l G yX0_in (ws_ yX0_in cX0_in 6 (some .boolean)) ({ frames := 0, cells := 0, slots := 0, locals := 0 } : Room) [.long v.toInt64, .long lo.toInt64, .long hi.toInt64] [] (fun _ : Unit => some (.int (bI (inI v lo hi)))) (fun _ => True) (fun _ => []) := by
  refine Ct.of rfl rfl ?_
  intro M el eG hnL C T
  subst el
  subst eG
  have C : Cx M cX0_in "ClockWard" ({ frames := 0, cells := 0, slots := 0, locals := 0 } : Room) := C
  refine V.lvs [0, 1, 2] (lv2 := [(0, .long v.toInt64), (2, .long lo.toInt64), (4, .long hi.toInt64)]) rfl ?_
  refine V.lload_n (pc' := 1) C 0 dX0_in_0 rfl rfl ?_
  refine V.lload_n (pc' := 2) C 1 dX0_in_1 rfl rfl ?_
  refine V.lcmp (pc' := 3) C dX0_in_2 rfl ?_
  have J3 : ∀ (x2 : Int32), x2 = (if (lg_cmp v.toInt64 lo.toInt64) < 0 then 0 else if 0 < (lg_cmp v.toInt64 hi.toInt64) then 0 else 1) → V M 0 0 [] [(0, .long v.toInt64), (2, .long lo.toInt64), (4, .long hi.toInt64)] [.int x2] 18 := by
    intro x2 ex2
    have ex2 : x2 = bI (¬ ((lg_cmp v.toInt64 lo.toInt64) < 0) ∧ (¬ (0 < (lg_cmp v.toInt64 hi.toInt64)))) := ex2.trans (it_0 it_01)
    subst ex2
    exact V.iret C T dX0_in_18 () rfl rfl (in_val _ _ _) bI_nar trivial rfl rfl rfl
  refine V.if_lt (pc' := 6) C 17 dX0_in_3 rfl rfl (fun h1 => ?_) (fun h1 => ?_)
  · refine V.iconst (pc' := 18) C dX0_in_17 rfl kci_0 ?_
    exact J3 _ (by rw [if_pos h1])
  · refine V.lload_n (pc' := 7) C 0 dX0_in_6 rfl rfl ?_
    refine V.lload (pc' := 9) C 2 dX0_in_7 rfl rfl ?_
    refine V.lcmp (pc' := 10) C dX0_in_9 rfl ?_
    refine V.if_gt (pc' := 13) C 17 dX0_in_10 rfl rfl (fun h2 => ?_) (fun h2 => ?_)
    · refine V.iconst (pc' := 18) C dX0_in_17 rfl kci_0 ?_
      exact J3 _ (by rw [if_neg h1, if_pos h2])
    · refine V.iconst (pc' := 14) C dX0_in_13 rfl kci_1 ?_
      refine V.goto C 18 dX0_in_14 rfl ?_
      exact J3 _ (by rw [if_neg h1, if_neg h2])
set_option maxHeartbeats 4000000 in
theorem ct_X0_has (l : Launch) (G : GG) (x : Int32) (y : Int32)  : Ct l G yX0_has (ws_ yX0_has cX0_has 2 (some .boolean)) ({ frames := 0, cells := 0, slots := 0, locals := 0 } : Room) [.int x, .int y] [] (fun _ : Unit => some (.int (bI ((x >>> (y &&& 31)) &&& 1 = 1)))) (fun _ => True) (fun _ => []) := by
  refine Ct.of rfl rfl ?_
  intro M el eG hnL C T
  subst el
  subst eG
  have C : Cx M cX0_has "ClockWard" ({ frames := 0, cells := 0, slots := 0, locals := 0 } : Room) := C
  refine V.lvs [0, 1] (lv2 := [(0, .int x), (1, .int y)]) rfl ?_
  refine V.iload_n (pc' := 1) C 0 dX0_has_0 rfl rfl ?_
  refine V.iload_n (pc' := 2) C 1 dX0_has_1 rfl rfl ?_
  refine V.ishr (pc' := 3) C dX0_has_2 rfl ?_
  refine V.iconst (pc' := 4) C dX0_has_3 rfl kci_1 ?_
  refine V.iand (pc' := 5) C dX0_has_4 rfl ?_
  refine V.iconst (pc' := 6) C dX0_has_5 rfl kci_1 ?_
  have J3 : ∀ (x2 : Int32), x2 = (if ((x >>> (y &&& 31)) &&& 1) = 1 then 1 else 0) → V M 0 0 [] [(0, .int x), (1, .int y)] [.int x2] 14 := by
    intro x2 ex2
    have ex2 : x2 = bI (((x >>> (y &&& 31)) &&& 1) = 1) := ex2.trans it_10
    subst ex2
    exact V.iret C T dX0_has_14 () rfl rfl rfl bI_nar trivial rfl rfl rfl
  refine V.icmp_ne (pc' := 9) C 13 dX0_has_6 rfl rfl (fun h1 => ?_) (fun h1 => ?_)
  · refine V.iconst (pc' := 14) C dX0_has_13 rfl kci_0 ?_
    exact J3 _ (by rw [if_neg h1])
  · refine V.iconst (pc' := 10) C dX0_has_9 rfl kci_1 ?_
    refine V.goto C 14 dX0_has_10 rfl ?_
    exact J3 _ (by rw [if_pos h1])
set_option maxHeartbeats 4000000 in
theorem ct_X0_timeThen (l : Launch) (G : GG) (ad : Nat → Nat) (i : Nat → Int32) (j : Nat → Int64) (w0 : Nat) (w1 : Nat) (w2 : Nat) (w3 : Nat) (N : Nat) (g : Pg) (c : Nat) (kd : Nat) (hc : c < 5) (hkd : kd < 4) (ek : g c = nI kd) : Ct l G yX0_timeThen (ws_ yX0_timeThen cX0_timeThen 3 (some .int)) ({ frames := 3, cells := 0, slots := 0, locals := 63 } : Room) [.ref (ad 0), .ref w0, .int (nI c)] [xO ad i j, (ad 1, .inl (G.2 4, 4, .inr (.inr (.inr (.inr (fun k => some (ad (2 + k)))))))), (ad 2, .inr (1, [])), (ad 3, .inr (2, [])), (ad 4, .inr (3, [])), (ad 5, .inr (4, [])), wO w0 w1 w2 w3 N g, (w1, .inl (G.2 1, 20, .inl (wcl g))), (w2, .inl (G.2 0, 25, .inl (wgt g))), (w3, .inl (G.2 1, 18, .inl (wpl g)))] (fun _ : Unit => some (.int (thenI g c))) (fun _ => True) (fun _ => [xO ad i j, (ad 1, .inl (G.2 4, 4, .inr (.inr (.inr (.inr (fun k => some (ad (2 + k)))))))), (ad 2, .inr (1, [])), (ad 3, .inr (2, [])), (ad 4, .inr (3, [])), (ad 5, .inr (4, [])), wO w0 w1 w2 w3 N g, (w1, .inl (G.2 1, 20, .inl (wcl g))), (w2, .inl (G.2 0, 25, .inl (wgt g))), (w3, .inl (G.2 1, 18, .inl (wpl g)))]) := by
  refine Ct.of rfl rfl ?_
  intro M el eG hnL C T
  subst el
  subst eG
  have C : Cx M cX0_timeThen "ClockWard" ({ frames := 3, cells := 0, slots := 0, locals := 63 } : Room) := C
  refine V.lvs [0, 1, 2] (lv2 := [(0, .ref (ad 0)), (1, .ref w0), (2, .int (nI c))]) rfl ?_
  rcases lt4 hkd with rfl | rfl | rfl | rfl
  · refine V.iconst (pc' := 1) C dX0_timeThen_0 rfl kci_0 ?_
    refine V.bipush (pc' := 3) C dX0_timeThen_1 rfl kcb_99 ?_
    refine V.aload_n (pc' := 4) C 1 dX0_timeThen_3 rfl rfl ?_
    refine V.iload_n (pc' := 5) C 2 dX0_timeThen_4 rfl rfl ?_
    refine V.iconst (pc' := 6) C dX0_timeThen_5 rfl kci_3 ?_
    refine V.callV (pc' := 9) (wr := [xO ad i j, (ad 1, .inl (M.G.2 4, 4, .inr (.inr (.inr (.inr (fun k => some (ad (2 + k)))))))), (ad 2, .inr (1, [])), (ad 3, .inr (2, [])), (ad 4, .inr (3, [])), (ad 5, .inr (4, []))]) C (ct_X5_of M.l M.G w0 w1 w2 w3 N g c 3 (by omega) (by omega)) dX0_timeThen_6 rfl (lw_V q540 q524 q525 q69 q526) hyv_X5_of rfl rfl 0 rfl rfl [6, 7, 8, 9] [0, 1, 2, 3, 4, 5] [0, 1, 2, 3, 4, 5, 6, 7, 8, 9] rfl rfl rfl (fun _ => [xO ad i j, (ad 1, .inl (M.G.2 4, 4, .inr (.inr (.inr (.inr (fun k => some (ad (2 + k)))))))), (ad 2, .inr (1, [])), (ad 3, .inr (2, [])), (ad 4, .inr (3, [])), (ad 5, .inr (4, [])), wO w0 w1 w2 w3 N g, (w1, .inl (M.G.2 1, 20, .inl (wcl g))), (w2, .inl (M.G.2 0, 25, .inl (wgt g))), (w3, .inl (M.G.2 1, 18, .inl (wpl g)))]) (fun _ => rfl) rfl 0 0 rfl rfl (fun _ => [.int (g (15 + c)), .int 99, .int 0]) (fun _ => rfl) (fun _ _ => ?_)
    refine V.aload_n (pc' := 10) C 0 dX0_timeThen_9 rfl rfl ?_
    refine V.get (pc' := 13) C dX0_timeThen_10 rfl 0 rfl rfl in_X0 0 rfl q182 rfl ?_
    refine V.aload_n (pc' := 14) C 1 dX0_timeThen_13 rfl rfl ?_
    refine V.iload_n (pc' := 15) C 2 dX0_timeThen_14 rfl rfl ?_
    refine V.iconst (pc' := 16) C dX0_timeThen_15 rfl kci_0 ?_
    refine V.callV (pc' := 19) (wr := [xO ad i j, (ad 1, .inl (M.G.2 4, 4, .inr (.inr (.inr (.inr (fun k => some (ad (2 + k)))))))), (ad 2, .inr (1, [])), (ad 3, .inr (2, [])), (ad 4, .inr (3, [])), (ad 5, .inr (4, []))]) C (ct_X5_of M.l M.G w0 w1 w2 w3 N g c 0 (by omega) (by omega)) dX0_timeThen_16 rfl (lw_V q540 q524 q525 q69 q526) hyv_X5_of rfl rfl 0 rfl rfl [6, 7, 8, 9] [0, 1, 2, 3, 4, 5] [0, 1, 2, 3, 4, 5, 6, 7, 8, 9] rfl rfl rfl (fun _ => [xO ad i j, (ad 1, .inl (M.G.2 4, 4, .inr (.inr (.inr (.inr (fun k => some (ad (2 + k)))))))), (ad 2, .inr (1, [])), (ad 3, .inr (2, [])), (ad 4, .inr (3, [])), (ad 5, .inr (4, [])), wO w0 w1 w2 w3 N g, (w1, .inl (M.G.2 1, 20, .inl (wcl g))), (w2, .inl (M.G.2 0, 25, .inl (wgt g))), (w3, .inl (M.G.2 1, 18, .inl (wpl g)))]) (fun _ => rfl) rfl 0 0 rfl rfl (fun _ => [.int (g c), .ref (ad 1), .int (g (15 + c)), .int 99, .int 0]) (fun _ => rfl) (fun _ _ => ?_)
    refine V.topI (y := nI 0) ek ?_
    refine V.aald (pc' := 20) C 0 dX0_timeThen_19 rfl 1 4 rfl rfl (by omega) rfl rfl ?_
    refine V.aload_n (pc' := 21) C 1 dX0_timeThen_20 rfl rfl ?_
    refine V.iload_n (pc' := 22) C 2 dX0_timeThen_21 rfl rfl ?_
    refine V.iconst (pc' := 23) C dX0_timeThen_22 rfl kci_2 ?_
    refine V.callV (pc' := 26) (wr := [xO ad i j, (ad 1, .inl (M.G.2 4, 4, .inr (.inr (.inr (.inr (fun k => some (ad (2 + k)))))))), (ad 2, .inr (1, [])), (ad 3, .inr (2, [])), (ad 4, .inr (3, [])), (ad 5, .inr (4, []))]) C (ct_X5_of M.l M.G w0 w1 w2 w3 N g c 2 (by omega) (by omega)) dX0_timeThen_23 rfl (lw_V q540 q524 q525 q69 q526) hyv_X5_of rfl rfl 0 rfl rfl [6, 7, 8, 9] [0, 1, 2, 3, 4, 5] [0, 1, 2, 3, 4, 5, 6, 7, 8, 9] rfl rfl rfl (fun _ => [xO ad i j, (ad 1, .inl (M.G.2 4, 4, .inr (.inr (.inr (.inr (fun k => some (ad (2 + k)))))))), (ad 2, .inr (1, [])), (ad 3, .inr (2, [])), (ad 4, .inr (3, [])), (ad 5, .inr (4, [])), wO w0 w1 w2 w3 N g, (w1, .inl (M.G.2 1, 20, .inl (wcl g))), (w2, .inl (M.G.2 0, 25, .inl (wgt g))), (w3, .inl (M.G.2 1, 18, .inl (wpl g)))]) (fun _ => rfl) rfl 0 0 rfl rfl (fun _ => [.int (g (10 + c)), .ref (ad 2), .int (g (15 + c)), .int 99, .int 0]) (fun _ => rfl) (fun _ _ => ?_)
    refine V.callV (pc' := 29) (wr := [xO ad i j, (ad 1, .inl (M.G.2 4, 4, .inr (.inr (.inr (.inr (fun k => some (ad (2 + k)))))))), (ad 3, .inr (2, [])), (ad 4, .inr (3, [])), (ad 5, .inr (4, [])), wO w0 w1 w2 w3 N g, (w1, .inl (M.G.2 1, 20, .inl (wcl g))), (w2, .inl (M.G.2 0, 25, .inl (wgt g))), (w3, .inl (M.G.2 1, 18, .inl (wpl g)))]) C (ct_X1_gains M.l M.G (ad 2) 1 _ (g (10 + c)) rfl) dX0_timeThen_26 rfl (lw_V q545 q546 q547 q65 q561) hyv_X1_gains rfl rfl 0 rfl rfl [2] [0, 1, 3, 4, 5, 6, 7, 8, 9] [0, 1, 9, 2, 3, 4, 5, 6, 7, 8] rfl rfl rfl (fun _ => [xO ad i j, (ad 1, .inl (M.G.2 4, 4, .inr (.inr (.inr (.inr (fun k => some (ad (2 + k)))))))), (ad 2, .inr (1, [])), (ad 3, .inr (2, [])), (ad 4, .inr (3, [])), (ad 5, .inr (4, [])), wO w0 w1 w2 w3 N g, (w1, .inl (M.G.2 1, 20, .inl (wcl g))), (w2, .inl (M.G.2 0, 25, .inl (wgt g))), (w3, .inl (M.G.2 1, 18, .inl (wpl g)))]) (fun _ => rfl) rfl 0 0 rfl rfl (fun _ => [.int ((g (10 + c)) - 3), .int (g (15 + c)), .int 99, .int 0]) (fun _ => rfl) (fun _ _ => ?_)
    refine V.iadd (pc' := 30) C dX0_timeThen_29 rfl ?_
    refine V.mmin (pc' := 33) C dX0_timeThen_30 rfl q562 q563 q80 q564 rfl rfl rfl rfl ?_
    refine V.mmax (pc' := 36) C dX0_timeThen_33 rfl q565 q494 q80 q495 rfl rfl rfl rfl ?_
    exact V.iret C T dX0_timeThen_36 () rfl rfl (by rw [mm_clamp]; unfold thenI; rw [ek]; rfl) rfl trivial rfl rfl rfl
  · refine V.iconst (pc' := 1) C dX0_timeThen_0 rfl kci_0 ?_
    refine V.bipush (pc' := 3) C dX0_timeThen_1 rfl kcb_99 ?_
    refine V.aload_n (pc' := 4) C 1 dX0_timeThen_3 rfl rfl ?_
    refine V.iload_n (pc' := 5) C 2 dX0_timeThen_4 rfl rfl ?_
    refine V.iconst (pc' := 6) C dX0_timeThen_5 rfl kci_3 ?_
    refine V.callV (pc' := 9) (wr := [xO ad i j, (ad 1, .inl (M.G.2 4, 4, .inr (.inr (.inr (.inr (fun k => some (ad (2 + k)))))))), (ad 2, .inr (1, [])), (ad 3, .inr (2, [])), (ad 4, .inr (3, [])), (ad 5, .inr (4, []))]) C (ct_X5_of M.l M.G w0 w1 w2 w3 N g c 3 (by omega) (by omega)) dX0_timeThen_6 rfl (lw_V q540 q524 q525 q69 q526) hyv_X5_of rfl rfl 0 rfl rfl [6, 7, 8, 9] [0, 1, 2, 3, 4, 5] [0, 1, 2, 3, 4, 5, 6, 7, 8, 9] rfl rfl rfl (fun _ => [xO ad i j, (ad 1, .inl (M.G.2 4, 4, .inr (.inr (.inr (.inr (fun k => some (ad (2 + k)))))))), (ad 2, .inr (1, [])), (ad 3, .inr (2, [])), (ad 4, .inr (3, [])), (ad 5, .inr (4, [])), wO w0 w1 w2 w3 N g, (w1, .inl (M.G.2 1, 20, .inl (wcl g))), (w2, .inl (M.G.2 0, 25, .inl (wgt g))), (w3, .inl (M.G.2 1, 18, .inl (wpl g)))]) (fun _ => rfl) rfl 0 0 rfl rfl (fun _ => [.int (g (15 + c)), .int 99, .int 0]) (fun _ => rfl) (fun _ _ => ?_)
    refine V.aload_n (pc' := 10) C 0 dX0_timeThen_9 rfl rfl ?_
    refine V.get (pc' := 13) C dX0_timeThen_10 rfl 0 rfl rfl in_X0 0 rfl q182 rfl ?_
    refine V.aload_n (pc' := 14) C 1 dX0_timeThen_13 rfl rfl ?_
    refine V.iload_n (pc' := 15) C 2 dX0_timeThen_14 rfl rfl ?_
    refine V.iconst (pc' := 16) C dX0_timeThen_15 rfl kci_0 ?_
    refine V.callV (pc' := 19) (wr := [xO ad i j, (ad 1, .inl (M.G.2 4, 4, .inr (.inr (.inr (.inr (fun k => some (ad (2 + k)))))))), (ad 2, .inr (1, [])), (ad 3, .inr (2, [])), (ad 4, .inr (3, [])), (ad 5, .inr (4, []))]) C (ct_X5_of M.l M.G w0 w1 w2 w3 N g c 0 (by omega) (by omega)) dX0_timeThen_16 rfl (lw_V q540 q524 q525 q69 q526) hyv_X5_of rfl rfl 0 rfl rfl [6, 7, 8, 9] [0, 1, 2, 3, 4, 5] [0, 1, 2, 3, 4, 5, 6, 7, 8, 9] rfl rfl rfl (fun _ => [xO ad i j, (ad 1, .inl (M.G.2 4, 4, .inr (.inr (.inr (.inr (fun k => some (ad (2 + k)))))))), (ad 2, .inr (1, [])), (ad 3, .inr (2, [])), (ad 4, .inr (3, [])), (ad 5, .inr (4, [])), wO w0 w1 w2 w3 N g, (w1, .inl (M.G.2 1, 20, .inl (wcl g))), (w2, .inl (M.G.2 0, 25, .inl (wgt g))), (w3, .inl (M.G.2 1, 18, .inl (wpl g)))]) (fun _ => rfl) rfl 0 0 rfl rfl (fun _ => [.int (g c), .ref (ad 1), .int (g (15 + c)), .int 99, .int 0]) (fun _ => rfl) (fun _ _ => ?_)
    refine V.topI (y := nI 1) ek ?_
    refine V.aald (pc' := 20) C 1 dX0_timeThen_19 rfl 1 4 rfl rfl (by omega) rfl rfl ?_
    refine V.aload_n (pc' := 21) C 1 dX0_timeThen_20 rfl rfl ?_
    refine V.iload_n (pc' := 22) C 2 dX0_timeThen_21 rfl rfl ?_
    refine V.iconst (pc' := 23) C dX0_timeThen_22 rfl kci_2 ?_
    refine V.callV (pc' := 26) (wr := [xO ad i j, (ad 1, .inl (M.G.2 4, 4, .inr (.inr (.inr (.inr (fun k => some (ad (2 + k)))))))), (ad 2, .inr (1, [])), (ad 3, .inr (2, [])), (ad 4, .inr (3, [])), (ad 5, .inr (4, []))]) C (ct_X5_of M.l M.G w0 w1 w2 w3 N g c 2 (by omega) (by omega)) dX0_timeThen_23 rfl (lw_V q540 q524 q525 q69 q526) hyv_X5_of rfl rfl 0 rfl rfl [6, 7, 8, 9] [0, 1, 2, 3, 4, 5] [0, 1, 2, 3, 4, 5, 6, 7, 8, 9] rfl rfl rfl (fun _ => [xO ad i j, (ad 1, .inl (M.G.2 4, 4, .inr (.inr (.inr (.inr (fun k => some (ad (2 + k)))))))), (ad 2, .inr (1, [])), (ad 3, .inr (2, [])), (ad 4, .inr (3, [])), (ad 5, .inr (4, [])), wO w0 w1 w2 w3 N g, (w1, .inl (M.G.2 1, 20, .inl (wcl g))), (w2, .inl (M.G.2 0, 25, .inl (wgt g))), (w3, .inl (M.G.2 1, 18, .inl (wpl g)))]) (fun _ => rfl) rfl 0 0 rfl rfl (fun _ => [.int (g (10 + c)), .ref (ad 3), .int (g (15 + c)), .int 99, .int 0]) (fun _ => rfl) (fun _ _ => ?_)
    refine V.callO (pc' := 29) (wr := [xO ad i j, (ad 1, .inl (M.G.2 4, 4, .inr (.inr (.inr (.inr (fun k => some (ad (2 + k)))))))), (ad 2, .inr (1, [])), (ad 4, .inr (3, [])), (ad 5, .inr (4, [])), wO w0 w1 w2 w3 N g, (w1, .inl (M.G.2 1, 20, .inl (wcl g))), (w2, .inl (M.G.2 0, 25, .inl (wgt g))), (w3, .inl (M.G.2 1, 18, .inl (wpl g)))]) C (ct_X2_gains M.l M.G (ad 3) 2 _ (g (10 + c)) rfl) dX0_timeThen_26 rfl q545 q548 q546 q553 q554 q66 q555 q561 hys_X1_gains rfl rfl 0 rfl rfl [3] [0, 1, 2, 4, 5, 6, 7, 8, 9] [0, 1, 2, 9, 3, 4, 5, 6, 7, 8] rfl rfl rfl (fun _ => [xO ad i j, (ad 1, .inl (M.G.2 4, 4, .inr (.inr (.inr (.inr (fun k => some (ad (2 + k)))))))), (ad 2, .inr (1, [])), (ad 3, .inr (2, [])), (ad 4, .inr (3, [])), (ad 5, .inr (4, [])), wO w0 w1 w2 w3 N g, (w1, .inl (M.G.2 1, 20, .inl (wcl g))), (w2, .inl (M.G.2 0, 25, .inl (wgt g))), (w3, .inl (M.G.2 1, 18, .inl (wpl g)))]) (fun _ => rfl) rfl 0 0 rfl rfl (fun _ => [.int (2 * ((g (10 + c)) - 3)), .int (g (15 + c)), .int 99, .int 0]) (fun _ => rfl) (fun _ _ => ?_)
    refine V.iadd (pc' := 30) C dX0_timeThen_29 rfl ?_
    refine V.mmin (pc' := 33) C dX0_timeThen_30 rfl q562 q563 q80 q564 rfl rfl rfl rfl ?_
    refine V.mmax (pc' := 36) C dX0_timeThen_33 rfl q565 q494 q80 q495 rfl rfl rfl rfl ?_
    exact V.iret C T dX0_timeThen_36 () rfl rfl (by rw [mm_clamp]; unfold thenI; rw [ek]; rfl) rfl trivial rfl rfl rfl
  · refine V.iconst (pc' := 1) C dX0_timeThen_0 rfl kci_0 ?_
    refine V.bipush (pc' := 3) C dX0_timeThen_1 rfl kcb_99 ?_
    refine V.aload_n (pc' := 4) C 1 dX0_timeThen_3 rfl rfl ?_
    refine V.iload_n (pc' := 5) C 2 dX0_timeThen_4 rfl rfl ?_
    refine V.iconst (pc' := 6) C dX0_timeThen_5 rfl kci_3 ?_
    refine V.callV (pc' := 9) (wr := [xO ad i j, (ad 1, .inl (M.G.2 4, 4, .inr (.inr (.inr (.inr (fun k => some (ad (2 + k)))))))), (ad 2, .inr (1, [])), (ad 3, .inr (2, [])), (ad 4, .inr (3, [])), (ad 5, .inr (4, []))]) C (ct_X5_of M.l M.G w0 w1 w2 w3 N g c 3 (by omega) (by omega)) dX0_timeThen_6 rfl (lw_V q540 q524 q525 q69 q526) hyv_X5_of rfl rfl 0 rfl rfl [6, 7, 8, 9] [0, 1, 2, 3, 4, 5] [0, 1, 2, 3, 4, 5, 6, 7, 8, 9] rfl rfl rfl (fun _ => [xO ad i j, (ad 1, .inl (M.G.2 4, 4, .inr (.inr (.inr (.inr (fun k => some (ad (2 + k)))))))), (ad 2, .inr (1, [])), (ad 3, .inr (2, [])), (ad 4, .inr (3, [])), (ad 5, .inr (4, [])), wO w0 w1 w2 w3 N g, (w1, .inl (M.G.2 1, 20, .inl (wcl g))), (w2, .inl (M.G.2 0, 25, .inl (wgt g))), (w3, .inl (M.G.2 1, 18, .inl (wpl g)))]) (fun _ => rfl) rfl 0 0 rfl rfl (fun _ => [.int (g (15 + c)), .int 99, .int 0]) (fun _ => rfl) (fun _ _ => ?_)
    refine V.aload_n (pc' := 10) C 0 dX0_timeThen_9 rfl rfl ?_
    refine V.get (pc' := 13) C dX0_timeThen_10 rfl 0 rfl rfl in_X0 0 rfl q182 rfl ?_
    refine V.aload_n (pc' := 14) C 1 dX0_timeThen_13 rfl rfl ?_
    refine V.iload_n (pc' := 15) C 2 dX0_timeThen_14 rfl rfl ?_
    refine V.iconst (pc' := 16) C dX0_timeThen_15 rfl kci_0 ?_
    refine V.callV (pc' := 19) (wr := [xO ad i j, (ad 1, .inl (M.G.2 4, 4, .inr (.inr (.inr (.inr (fun k => some (ad (2 + k)))))))), (ad 2, .inr (1, [])), (ad 3, .inr (2, [])), (ad 4, .inr (3, [])), (ad 5, .inr (4, []))]) C (ct_X5_of M.l M.G w0 w1 w2 w3 N g c 0 (by omega) (by omega)) dX0_timeThen_16 rfl (lw_V q540 q524 q525 q69 q526) hyv_X5_of rfl rfl 0 rfl rfl [6, 7, 8, 9] [0, 1, 2, 3, 4, 5] [0, 1, 2, 3, 4, 5, 6, 7, 8, 9] rfl rfl rfl (fun _ => [xO ad i j, (ad 1, .inl (M.G.2 4, 4, .inr (.inr (.inr (.inr (fun k => some (ad (2 + k)))))))), (ad 2, .inr (1, [])), (ad 3, .inr (2, [])), (ad 4, .inr (3, [])), (ad 5, .inr (4, [])), wO w0 w1 w2 w3 N g, (w1, .inl (M.G.2 1, 20, .inl (wcl g))), (w2, .inl (M.G.2 0, 25, .inl (wgt g))), (w3, .inl (M.G.2 1, 18, .inl (wpl g)))]) (fun _ => rfl) rfl 0 0 rfl rfl (fun _ => [.int (g c), .ref (ad 1), .int (g (15 + c)), .int 99, .int 0]) (fun _ => rfl) (fun _ _ => ?_)
    refine V.topI (y := nI 2) ek ?_
    refine V.aald (pc' := 20) C 2 dX0_timeThen_19 rfl 1 4 rfl rfl (by omega) rfl rfl ?_
    refine V.aload_n (pc' := 21) C 1 dX0_timeThen_20 rfl rfl ?_
    refine V.iload_n (pc' := 22) C 2 dX0_timeThen_21 rfl rfl ?_
    refine V.iconst (pc' := 23) C dX0_timeThen_22 rfl kci_2 ?_
    refine V.callV (pc' := 26) (wr := [xO ad i j, (ad 1, .inl (M.G.2 4, 4, .inr (.inr (.inr (.inr (fun k => some (ad (2 + k)))))))), (ad 2, .inr (1, [])), (ad 3, .inr (2, [])), (ad 4, .inr (3, [])), (ad 5, .inr (4, []))]) C (ct_X5_of M.l M.G w0 w1 w2 w3 N g c 2 (by omega) (by omega)) dX0_timeThen_23 rfl (lw_V q540 q524 q525 q69 q526) hyv_X5_of rfl rfl 0 rfl rfl [6, 7, 8, 9] [0, 1, 2, 3, 4, 5] [0, 1, 2, 3, 4, 5, 6, 7, 8, 9] rfl rfl rfl (fun _ => [xO ad i j, (ad 1, .inl (M.G.2 4, 4, .inr (.inr (.inr (.inr (fun k => some (ad (2 + k)))))))), (ad 2, .inr (1, [])), (ad 3, .inr (2, [])), (ad 4, .inr (3, [])), (ad 5, .inr (4, [])), wO w0 w1 w2 w3 N g, (w1, .inl (M.G.2 1, 20, .inl (wcl g))), (w2, .inl (M.G.2 0, 25, .inl (wgt g))), (w3, .inl (M.G.2 1, 18, .inl (wpl g)))]) (fun _ => rfl) rfl 0 0 rfl rfl (fun _ => [.int (g (10 + c)), .ref (ad 4), .int (g (15 + c)), .int 99, .int 0]) (fun _ => rfl) (fun _ _ => ?_)
    refine V.callO (pc' := 29) (wr := [xO ad i j, (ad 1, .inl (M.G.2 4, 4, .inr (.inr (.inr (.inr (fun k => some (ad (2 + k)))))))), (ad 2, .inr (1, [])), (ad 3, .inr (2, [])), (ad 5, .inr (4, [])), wO w0 w1 w2 w3 N g, (w1, .inl (M.G.2 1, 20, .inl (wcl g))), (w2, .inl (M.G.2 0, 25, .inl (wgt g))), (w3, .inl (M.G.2 1, 18, .inl (wpl g)))]) C (ct_X3_gains M.l M.G (ad 4) 3 _ (g (10 + c)) rfl) dX0_timeThen_26 rfl q545 q548 q546 q557 q558 q67 q559 q561 hys_X1_gains rfl rfl 0 rfl rfl [4] [0, 1, 2, 3, 5, 6, 7, 8, 9] [0, 1, 2, 3, 9, 4, 5, 6, 7, 8] rfl rfl rfl (fun _ => [xO ad i j, (ad 1, .inl (M.G.2 4, 4, .inr (.inr (.inr (.inr (fun k => some (ad (2 + k)))))))), (ad 2, .inr (1, [])), (ad 3, .inr (2, [])), (ad 4, .inr (3, [])), (ad 5, .inr (4, [])), wO w0 w1 w2 w3 N g, (w1, .inl (M.G.2 1, 20, .inl (wcl g))), (w2, .inl (M.G.2 0, 25, .inl (wgt g))), (w3, .inl (M.G.2 1, 18, .inl (wpl g)))]) (fun _ => rfl) rfl 0 0 rfl rfl (fun _ => [.int (2 * ((g (10 + c)) - 3) - 1), .int (g (15 + c)), .int 99, .int 0]) (fun _ => rfl) (fun _ _ => ?_)
    refine V.iadd (pc' := 30) C dX0_timeThen_29 rfl ?_
    refine V.mmin (pc' := 33) C dX0_timeThen_30 rfl q562 q563 q80 q564 rfl rfl rfl rfl ?_
    refine V.mmax (pc' := 36) C dX0_timeThen_33 rfl q565 q494 q80 q495 rfl rfl rfl rfl ?_
    exact V.iret C T dX0_timeThen_36 () rfl rfl (by rw [mm_clamp]; unfold thenI; rw [ek]; rfl) rfl trivial rfl rfl rfl
  · refine V.iconst (pc' := 1) C dX0_timeThen_0 rfl kci_0 ?_
    refine V.bipush (pc' := 3) C dX0_timeThen_1 rfl kcb_99 ?_
    refine V.aload_n (pc' := 4) C 1 dX0_timeThen_3 rfl rfl ?_
    refine V.iload_n (pc' := 5) C 2 dX0_timeThen_4 rfl rfl ?_
    refine V.iconst (pc' := 6) C dX0_timeThen_5 rfl kci_3 ?_
    refine V.callV (pc' := 9) (wr := [xO ad i j, (ad 1, .inl (M.G.2 4, 4, .inr (.inr (.inr (.inr (fun k => some (ad (2 + k)))))))), (ad 2, .inr (1, [])), (ad 3, .inr (2, [])), (ad 4, .inr (3, [])), (ad 5, .inr (4, []))]) C (ct_X5_of M.l M.G w0 w1 w2 w3 N g c 3 (by omega) (by omega)) dX0_timeThen_6 rfl (lw_V q540 q524 q525 q69 q526) hyv_X5_of rfl rfl 0 rfl rfl [6, 7, 8, 9] [0, 1, 2, 3, 4, 5] [0, 1, 2, 3, 4, 5, 6, 7, 8, 9] rfl rfl rfl (fun _ => [xO ad i j, (ad 1, .inl (M.G.2 4, 4, .inr (.inr (.inr (.inr (fun k => some (ad (2 + k)))))))), (ad 2, .inr (1, [])), (ad 3, .inr (2, [])), (ad 4, .inr (3, [])), (ad 5, .inr (4, [])), wO w0 w1 w2 w3 N g, (w1, .inl (M.G.2 1, 20, .inl (wcl g))), (w2, .inl (M.G.2 0, 25, .inl (wgt g))), (w3, .inl (M.G.2 1, 18, .inl (wpl g)))]) (fun _ => rfl) rfl 0 0 rfl rfl (fun _ => [.int (g (15 + c)), .int 99, .int 0]) (fun _ => rfl) (fun _ _ => ?_)
    refine V.aload_n (pc' := 10) C 0 dX0_timeThen_9 rfl rfl ?_
    refine V.get (pc' := 13) C dX0_timeThen_10 rfl 0 rfl rfl in_X0 0 rfl q182 rfl ?_
    refine V.aload_n (pc' := 14) C 1 dX0_timeThen_13 rfl rfl ?_
    refine V.iload_n (pc' := 15) C 2 dX0_timeThen_14 rfl rfl ?_
    refine V.iconst (pc' := 16) C dX0_timeThen_15 rfl kci_0 ?_
    refine V.callV (pc' := 19) (wr := [xO ad i j, (ad 1, .inl (M.G.2 4, 4, .inr (.inr (.inr (.inr (fun k => some (ad (2 + k)))))))), (ad 2, .inr (1, [])), (ad 3, .inr (2, [])), (ad 4, .inr (3, [])), (ad 5, .inr (4, []))]) C (ct_X5_of M.l M.G w0 w1 w2 w3 N g c 0 (by omega) (by omega)) dX0_timeThen_16 rfl (lw_V q540 q524 q525 q69 q526) hyv_X5_of rfl rfl 0 rfl rfl [6, 7, 8, 9] [0, 1, 2, 3, 4, 5] [0, 1, 2, 3, 4, 5, 6, 7, 8, 9] rfl rfl rfl (fun _ => [xO ad i j, (ad 1, .inl (M.G.2 4, 4, .inr (.inr (.inr (.inr (fun k => some (ad (2 + k)))))))), (ad 2, .inr (1, [])), (ad 3, .inr (2, [])), (ad 4, .inr (3, [])), (ad 5, .inr (4, [])), wO w0 w1 w2 w3 N g, (w1, .inl (M.G.2 1, 20, .inl (wcl g))), (w2, .inl (M.G.2 0, 25, .inl (wgt g))), (w3, .inl (M.G.2 1, 18, .inl (wpl g)))]) (fun _ => rfl) rfl 0 0 rfl rfl (fun _ => [.int (g c), .ref (ad 1), .int (g (15 + c)), .int 99, .int 0]) (fun _ => rfl) (fun _ _ => ?_)
    refine V.topI (y := nI 3) ek ?_
    refine V.aald (pc' := 20) C 3 dX0_timeThen_19 rfl 1 4 rfl rfl (by omega) rfl rfl ?_
    refine V.aload_n (pc' := 21) C 1 dX0_timeThen_20 rfl rfl ?_
    refine V.iload_n (pc' := 22) C 2 dX0_timeThen_21 rfl rfl ?_
    refine V.iconst (pc' := 23) C dX0_timeThen_22 rfl kci_2 ?_
    refine V.callV (pc' := 26) (wr := [xO ad i j, (ad 1, .inl (M.G.2 4, 4, .inr (.inr (.inr (.inr (fun k => some (ad (2 + k)))))))), (ad 2, .inr (1, [])), (ad 3, .inr (2, [])), (ad 4, .inr (3, [])), (ad 5, .inr (4, []))]) C (ct_X5_of M.l M.G w0 w1 w2 w3 N g c 2 (by omega) (by omega)) dX0_timeThen_23 rfl (lw_V q540 q524 q525 q69 q526) hyv_X5_of rfl rfl 0 rfl rfl [6, 7, 8, 9] [0, 1, 2, 3, 4, 5] [0, 1, 2, 3, 4, 5, 6, 7, 8, 9] rfl rfl rfl (fun _ => [xO ad i j, (ad 1, .inl (M.G.2 4, 4, .inr (.inr (.inr (.inr (fun k => some (ad (2 + k)))))))), (ad 2, .inr (1, [])), (ad 3, .inr (2, [])), (ad 4, .inr (3, [])), (ad 5, .inr (4, [])), wO w0 w1 w2 w3 N g, (w1, .inl (M.G.2 1, 20, .inl (wcl g))), (w2, .inl (M.G.2 0, 25, .inl (wgt g))), (w3, .inl (M.G.2 1, 18, .inl (wpl g)))]) (fun _ => rfl) rfl 0 0 rfl rfl (fun _ => [.int (g (10 + c)), .ref (ad 5), .int (g (15 + c)), .int 99, .int 0]) (fun _ => rfl) (fun _ _ => ?_)
    refine V.callO (pc' := 29) (wr := [xO ad i j, (ad 1, .inl (M.G.2 4, 4, .inr (.inr (.inr (.inr (fun k => some (ad (2 + k)))))))), (ad 2, .inr (1, [])), (ad 3, .inr (2, [])), (ad 4, .inr (3, [])), wO w0 w1 w2 w3 N g, (w1, .inl (M.G.2 1, 20, .inl (wcl g))), (w2, .inl (M.G.2 0, 25, .inl (wgt g))), (w3, .inl (M.G.2 1, 18, .inl (wpl g)))]) C (ct_X4_gains M.l M.G (ad 5) 4 _ (g (10 + c)) rfl) dX0_timeThen_26 rfl q545 q548 q546 q549 q550 q68 q551 q561 hys_X1_gains rfl rfl 0 rfl rfl [5] [0, 1, 2, 3, 4, 6, 7, 8, 9] [0, 1, 2, 3, 4, 9, 5, 6, 7, 8] rfl rfl rfl (fun _ => [xO ad i j, (ad 1, .inl (M.G.2 4, 4, .inr (.inr (.inr (.inr (fun k => some (ad (2 + k)))))))), (ad 2, .inr (1, [])), (ad 3, .inr (2, [])), (ad 4, .inr (3, [])), (ad 5, .inr (4, [])), wO w0 w1 w2 w3 N g, (w1, .inl (M.G.2 1, 20, .inl (wcl g))), (w2, .inl (M.G.2 0, 25, .inl (wgt g))), (w3, .inl (M.G.2 1, 18, .inl (wpl g)))]) (fun _ => rfl) rfl 0 0 rfl rfl (fun _ => [.int (-((g (10 + c)) - 3)), .int (g (15 + c)), .int 99, .int 0]) (fun _ => rfl) (fun _ _ => ?_)
    refine V.iadd (pc' := 30) C dX0_timeThen_29 rfl ?_
    refine V.mmin (pc' := 33) C dX0_timeThen_30 rfl q562 q563 q80 q564 rfl rfl rfl rfl ?_
    refine V.mmax (pc' := 36) C dX0_timeThen_33 rfl q565 q494 q80 q495 rfl rfl rfl rfl ?_
    exact V.iret C T dX0_timeThen_36 () rfl rfl (by rw [mm_clamp]; unfold thenI; rw [ek]; rfl) rfl trivial rfl rfl rfl
set_option maxHeartbeats 4000000 in
theorem ct_X0_nightGoes (l : Launch) (G : GG) (ad : Nat → Nat) (i : Nat → Int32) (j : Nat → Int64) (w0 : Nat) (w1 : Nat) (w2 : Nat) (w3 : Nat) (N : Nat) (g : Pg) (hN5 : N ≤ 5) (hk : okK g) : Ct l G yX0_nightGoes (ws_ yX0_nightGoes cX0_nightGoes 3 none) ({ frames := 4, cells := 0, slots := 0, locals := 85 } : Room) [.ref (ad 0), .ref w0] [xO ad i j, (ad 1, .inl (G.2 4, 4, .inr (.inr (.inr (.inr (fun k => some (ad (2 + k)))))))), (ad 2, .inr (1, [])), (ad 3, .inr (2, [])), (ad 4, .inr (3, [])), (ad 5, .inr (4, [])), wO w0 w1 w2 w3 N g, (w1, .inl (G.2 1, 20, .inl (wcl g))), (w2, .inl (G.2 0, 25, .inl (wgt g))), (w3, .inl (G.2 1, 18, .inl (wpl g)))] (fun _ : Unit => none) (fun _ => True) (fun _ => [xO ad i j, (ad 1, .inl (G.2 4, 4, .inr (.inr (.inr (.inr (fun k => some (ad (2 + k)))))))), (ad 2, .inr (1, [])), (ad 3, .inr (2, [])), (ad 4, .inr (3, [])), (ad 5, .inr (4, [])), wO w0 w1 w2 w3 N (night g N), (w1, .inl (G.2 1, 20, .inl (wcl (night g N)))), (w2, .inl (G.2 0, 25, .inl (wgt (night g N)))), (w3, .inl (G.2 1, 18, .inl (wpl (night g N))))]) := by
  refine Ct.of rfl rfl ?_
  intro M el eG hnL C T
  subst el
  subst eG
  have C : Cx M cX0_nightGoes "ClockWard" ({ frames := 4, cells := 0, slots := 0, locals := 85 } : Room) := C
  refine V.lvs [0, 1] (lv2 := [(0, .ref (ad 0)), (1, .ref w0)]) rfl ?_
  refine V.iconst (pc' := 1) C dX0_nightGoes_0 rfl kci_0 ?_
  refine V.istore_n (pc' := 2) C [(2, .int 0), (0, .ref (ad 0)), (1, .ref w0)] dX0_nightGoes_1 rfl 3 hnL rfl rfl ?_
  have L1 : ∀ c : Nat, c ≤ N → V M 0 0 [xO ad i j, (ad 1, .inl (M.G.2 4, 4, .inr (.inr (.inr (.inr (fun k => some (ad (2 + k)))))))), (ad 2, .inr (1, [])), (ad 3, .inr (2, [])), (ad 4, .inr (3, [])), (ad 5, .inr (4, [])), wO w0 w1 w2 w3 N (nightTo g c), (w1, .inl (M.G.2 1, 20, .inl (wcl (nightTo g c)))), (w2, .inl (M.G.2 0, 25, .inl (wgt (nightTo g c)))), (w3, .inl (M.G.2 1, 18, .inl (wpl (nightTo g c))))] [(0, .ref (ad 0)), (1, .ref w0), (2, .int (nI c))] [] 2 := by
    refine loopN _ N (fun c hc ih_L1 => ?_)
    refine V.iload_n (pc' := 3) C 2 dX0_nightGoes_2 rfl rfl ?_
    refine V.aload_n (pc' := 4) C 1 dX0_nightGoes_3 rfl rfl ?_
    refine V.getN (pc' := 7) C dX0_nightGoes_4 rfl 6 rfl rfl in_X5 0 rfl q133 rfl ?_
    refine V.icmp_geN (pc' := 10) C c N (by omega) (by omega) 28 dX0_nightGoes_7 rfl rfl (fun h2 => ?_) (fun h2 => ?_)
    · have hx3 : N = c := by omega
      subst hx3
      refine V.aload_n (pc' := 29) C 1 dX0_nightGoes_28 rfl rfl ?_
      refine V.dup (pc' := 30) C rfl dX0_nightGoes_29 rfl ?_
      refine V.getN (pc' := 33) C dX0_nightGoes_30 rfl 6 rfl rfl in_X5 3 rfl q140 rfl ?_
      refine V.iconst (pc' := 34) C dX0_nightGoes_33 rfl kci_1 ?_
      refine V.iadd (pc' := 35) C dX0_nightGoes_34 rfl ?_
      refine V.putN (pc' := 38) C [xO ad i j, (ad 1, .inl (M.G.2 4, 4, .inr (.inr (.inr (.inr (fun k => some (ad (2 + k)))))))), (ad 2, .inr (1, [])), (ad 3, .inr (2, [])), (ad 4, .inr (3, [])), (ad 5, .inr (4, [])), (w0, .inr (5, [.int (nI N), .ref w1, .int ((nightTo g N) 20 + 40), .int (((nightTo g N) 21) + 1), .int ((nightTo g N) 22), .ref w2, .int ((nightTo g N) 66), .ref w3])), (w1, .inl (M.G.2 1, 20, .inl (wcl (nightTo g N)))), (w2, .inl (M.G.2 0, 25, .inl (wgt (nightTo g N)))), (w3, .inl (M.G.2 1, 18, .inl (wpl (nightTo g N))))] dX0_nightGoes_35 rfl 6 rfl rfl in_X5 tyX5_ok nmX5 3 rfl q140 rfl rfl rfl rfl rfl ?_
      refine V.arr 7 (wcl (night g N)) (ws2 := [xO ad i j, (ad 1, .inl (M.G.2 4, 4, .inr (.inr (.inr (.inr (fun k => some (ad (2 + k)))))))), (ad 2, .inr (1, [])), (ad 3, .inr (2, [])), (ad 4, .inr (3, [])), (ad 5, .inr (4, [])), (w0, .inr (5, [.int (nI N), .ref w1, .int ((nightTo g N) 20 + 40), .int (((nightTo g N) 21) + 1), .int ((nightTo g N) 22), .ref w2, .int ((nightTo g N) 66), .ref w3])), (w1, .inl (M.G.2 1, 20, .inl (wcl (night g N)))), (w2, .inl (M.G.2 0, 25, .inl (wgt (nightTo g N)))), (w3, .inl (M.G.2 1, 18, .inl (wpl (nightTo g N))))]) rfl (wcl_hi (k := 21) (by omega)) rfl ?_
      exact V.vret C T dX0_nightGoes_38 () rfl trivial (by unfold night; rw [wgt_lo (k := 21) (by omega), wpl_lo (k := 21) (by omega)]; rfl) rfl rfl
    · refine V.aload_n (pc' := 11) C 1 dX0_nightGoes_10 rfl rfl ?_
      refine V.iload_n (pc' := 12) C 2 dX0_nightGoes_11 rfl rfl ?_
      refine V.iconst (pc' := 13) C dX0_nightGoes_12 rfl kci_3 ?_
      refine V.aload_n (pc' := 14) C 0 dX0_nightGoes_13 rfl rfl ?_
      refine V.aload_n (pc' := 15) C 1 dX0_nightGoes_14 rfl rfl ?_
      refine V.iload_n (pc' := 16) C 2 dX0_nightGoes_15 rfl rfl ?_
      refine V.callV (pc' := 19) (wr := []) C (ct_X0_timeThen M.l M.G ad i j w0 w1 w2 w3 N (nightTo g c) c (pN (nightTo g c) c) (by omega) (okK_nightTo hk c c (by omega)).2 (okK_nightTo hk c c (by omega)).1) dX0_nightGoes_16 rfl (lw_V q541 q543 qs14 q64 q544) hyv_X0_timeThen rfl rfl 0 rfl rfl [0, 1, 2, 3, 4, 5, 6, 7, 8, 9] [] [0, 1, 2, 3, 4, 5, 6, 7, 8, 9] rfl rfl rfl (fun _ => [xO ad i j, (ad 1, .inl (M.G.2 4, 4, .inr (.inr (.inr (.inr (fun k => some (ad (2 + k)))))))), (ad 2, .inr (1, [])), (ad 3, .inr (2, [])), (ad 4, .inr (3, [])), (ad 5, .inr (4, [])), wO w0 w1 w2 w3 N (nightTo g c), (w1, .inl (M.G.2 1, 20, .inl (wcl (nightTo g c)))), (w2, .inl (M.G.2 0, 25, .inl (wgt (nightTo g c)))), (w3, .inl (M.G.2 1, 18, .inl (wpl (nightTo g c))))]) (fun _ => rfl) rfl 0 0 rfl rfl (fun _ => [.int (thenI (nightTo g c) c), .int 3, .int (nI c), .ref w0]) (fun _ => rfl) (fun _ _ => ?_)
      refine V.callV (pc' := 22) (wr := [xO ad i j, (ad 1, .inl (M.G.2 4, 4, .inr (.inr (.inr (.inr (fun k => some (ad (2 + k)))))))), (ad 2, .inr (1, [])), (ad 3, .inr (2, [])), (ad 4, .inr (3, [])), (ad 5, .inr (4, []))]) C (ct_X5_becomes M.l M.G w0 w1 w2 w3 N (nightTo g c) c 3 (thenI (nightTo g c) c) (by omega) (by omega) (thenI_fit _ _)) dX0_nightGoes_19 rfl (lw_V q587 q501 q502 q69 q503) hyv_X5_becomes rfl rfl 0 rfl rfl [6, 7, 8, 9] [0, 1, 2, 3, 4, 5] [0, 1, 2, 3, 4, 5, 6, 7, 8, 9] rfl rfl rfl (fun _ => [xO ad i j, (ad 1, .inl (M.G.2 4, 4, .inr (.inr (.inr (.inr (fun k => some (ad (2 + k)))))))), (ad 2, .inr (1, [])), (ad 3, .inr (2, [])), (ad 4, .inr (3, [])), (ad 5, .inr (4, [])), wO w0 w1 w2 w3 N (upd (nightTo g c) (15 + c) (thenI (nightTo g c) c)), (w1, .inl (M.G.2 1, 20, .inl (wcl (upd (nightTo g c) (15 + c) (thenI (nightTo g c) c))))), (w2, .inl (M.G.2 0, 25, .inl (wgt (upd (nightTo g c) (15 + c) (thenI (nightTo g c) c))))), (w3, .inl (M.G.2 1, 18, .inl (wpl (upd (nightTo g c) (15 + c) (thenI (nightTo g c) c)))))]) (fun _ => rfl) rfl 0 0 rfl rfl (fun _ => []) (fun _ => rfl) (fun _ _ => ?_)
      refine V.iinc (pc' := 25) C (nI (c + 1)) [(2, .int (nI (c + 1))), (0, .ref (ad 0)), (1, .ref w0)] dX0_nightGoes_22 rfl 3 hnL rfl 2 rfl (ii_N c 1 rfl) rfl ?_
      refine V.goto C 2 dX0_nightGoes_25 rfl ?_
      refine V.lvs [1, 2, 0] (lv2 := [(0, .ref (ad 0)), (1, .ref w0), (2, .int (nI (c + 1)))]) rfl ?_
      refine V.weq (ws2 := [xO ad i j, (ad 1, .inl (M.G.2 4, 4, .inr (.inr (.inr (.inr (fun k => some (ad (2 + k)))))))), (ad 2, .inr (1, [])), (ad 3, .inr (2, [])), (ad 4, .inr (3, [])), (ad 5, .inr (4, [])), wO w0 w1 w2 w3 N (nightTo g (c + 1)), (w1, .inl (M.G.2 1, 20, .inl (wcl (nightTo g (c + 1))))), (w2, .inl (M.G.2 0, 25, .inl (wgt (nightTo g (c + 1))))), (w3, .inl (M.G.2 1, 18, .inl (wpl (nightTo g (c + 1)))))]) rfl ?_
      exact ih_L1 (by omega)
  refine V.lvs [1, 2, 0] (lv2 := [(0, .ref (ad 0)), (1, .ref w0), (2, .int (nI 0))]) rfl ?_
  refine V.weq (ws2 := [xO ad i j, (ad 1, .inl (M.G.2 4, 4, .inr (.inr (.inr (.inr (fun k => some (ad (2 + k)))))))), (ad 2, .inr (1, [])), (ad 3, .inr (2, [])), (ad 4, .inr (3, [])), (ad 5, .inr (4, [])), wO w0 w1 w2 w3 N (nightTo g 0), (w1, .inl (M.G.2 1, 20, .inl (wcl (nightTo g 0)))), (w2, .inl (M.G.2 0, 25, .inl (wgt (nightTo g 0)))), (w3, .inl (M.G.2 1, 18, .inl (wpl (nightTo g 0))))]) rfl ?_
  exact L1 0 (by omega)
set_option maxHeartbeats 4000000 in
theorem ct_X0_goes (l : Launch) (G : GG) (ad : Nat → Nat) (i : Nat → Int32) (j : Nat → Int64) (w0 : Nat) (w1 : Nat) (w2 : Nat) (w3 : Nat) (N : Nat) (g : Pg) (x : Int32) (n : Nat) (ok : okP g N n) : Ct l G yX0_goes (ws_ yX0_goes cX0_goes 8 none) ({ frames := 4, cells := 0, slots := 0, locals := 91 } : Room) [.ref (ad 0), .ref w0, .int x] [xO ad i j, wO w0 w1 w2 w3 N g, (w1, .inl (G.2 1, 20, .inl (wcl g))), (w2, .inl (G.2 0, 25, .inl (wgt g))), (w3, .inl (G.2 1, 18, .inl (wpl g)))] (fun _ : Unit => none) (fun _ => True) (fun _ => [xO ad (upd (upd i 8 (goC g g x n)) 9 (goH g g x n)) j, wO w0 w1 w2 w3 N (goG g g x n), (w1, .inl (G.2 1, 20, .inl (wcl (goG g g x n)))), (w2, .inl (G.2 0, 25, .inl (wgt (goG g g x n)))), (w3, .inl (G.2 1, 18, .inl (wpl (goG g g x n))))]) := by
  refine Ct.of rfl rfl ?_
  intro M el eG hnL C T
  subst el
  subst eG
  have C : Cx M cX0_goes "ClockWard" ({ frames := 4, cells := 0, slots := 0, locals := 91 } : Room) := C
  have hN5 := ok.n5
  have hn6 := ok.n6
  refine V.lvs [0, 1, 2] (lv2 := [(0, .ref (ad 0)), (1, .ref w0), (2, .int x)]) rfl ?_
  refine V.aload_n (pc' := 1) C 0 dX0_goes_0 rfl rfl ?_
  refine V.iconst (pc' := 2) C dX0_goes_1 rfl kci_0 ?_
  refine V.put (pc' := 5) C [(ad 0, .inr (0, [.ref (ad 1), .ref (ad 6), .ref (ad 10), .ref (ad 14), .ref (ad 18), .int (i 5), .ref (ad 27), .int (i 7), .int 0, .int (i 9), .ref (ad 28), .int (i 11), .int (i 12), .int (i 13), .int (i 14), .int (i 15), .ref (ad 29), .long (j 17), .long (j 18), .long (j 19), .ref (ad 30), .ref (ad 31), .ref (ad 32), .int (i 23)])), wO w0 w1 w2 w3 N g, (w1, .inl (M.G.2 1, 20, .inl (wcl g))), (w2, .inl (M.G.2 0, 25, .inl (wgt g))), (w3, .inl (M.G.2 1, 18, .inl (wpl g)))] dX0_goes_2 rfl 0 rfl rfl in_X0 tyX0_ok nmX0 8 rfl q190 rfl rfl rfl rfl rfl ?_
  refine V.aload_n (pc' := 6) C 0 dX0_goes_5 rfl rfl ?_
  refine V.bipush (pc' := 8) C dX0_goes_6 rfl kcb_m4 ?_
  refine V.put (pc' := 11) C [(ad 0, .inr (0, [.ref (ad 1), .ref (ad 6), .ref (ad 10), .ref (ad 14), .ref (ad 18), .int (i 5), .ref (ad 27), .int (i 7), .int 0, .int (-4), .ref (ad 28), .int (i 11), .int (i 12), .int (i 13), .int (i 14), .int (i 15), .ref (ad 29), .long (j 17), .long (j 18), .long (j 19), .ref (ad 30), .ref (ad 31), .ref (ad 32), .int (i 23)])), wO w0 w1 w2 w3 N g, (w1, .inl (M.G.2 1, 20, .inl (wcl g))), (w2, .inl (M.G.2 0, 25, .inl (wgt g))), (w3, .inl (M.G.2 1, 18, .inl (wpl g)))] dX0_goes_8 rfl 0 rfl rfl in_X0 tyX0_ok nmX0 9 rfl q191 rfl rfl rfl rfl rfl ?_
  refine V.iconst (pc' := 12) C dX0_goes_11 rfl kci_0 ?_
  refine V.istore_n (pc' := 13) C [(3, .int 0), (0, .ref (ad 0)), (1, .ref w0), (2, .int x)] dX0_goes_12 rfl 8 hnL rfl rfl ?_
  have L1 : ∀ i2 : Nat, i2 ≤ n → V M 0 0 [(ad 0, .inr (0, [.ref (ad 1), .ref (ad 6), .ref (ad 10), .ref (ad 14), .ref (ad 18), .int (i 5), .ref (ad 27), .int (i 7), .int (goC g g x i2), .int (goH g g x i2), .ref (ad 28), .int (i 11), .int (i 12), .int (i 13), .int (i 14), .int (i 15), .ref (ad 29), .long (j 17), .long (j 18), .long (j 19), .ref (ad 30), .ref (ad 31), .ref (ad 32), .int (i 23)])), wO w0 w1 w2 w3 N (goG g g x i2), (w1, .inl (M.G.2 1, 20, .inl (wcl (goG g g x i2)))), (w2, .inl (M.G.2 0, 25, .inl (wgt (goG g g x i2)))), (w3, .inl (M.G.2 1, 18, .inl (wpl (goG g g x i2))))] [(0, .ref (ad 0)), (1, .ref w0), (2, .int x), (3, .int (nI i2))] [] 13 := by
    refine loopN _ n (fun i2 hi2 ih_L1 => ?_)
    refine V.iload_n (pc' := 14) C 3 dX0_goes_13 rfl rfl ?_
    refine V.aload_n (pc' := 15) C 1 dX0_goes_14 rfl rfl ?_
    refine V.getN (pc' := 18) C dX0_goes_15 rfl 1 rfl rfl in_X5 6 rfl q146 rfl ?_
    refine V.topI (((goG_kk ok x i2 (by omega)).1 66 (by omega)).trans ok.2.2.1) ?_
    refine V.icmp_geN (pc' := 21) C i2 n (by omega) (by omega) 132 dX0_goes_18 rfl rfl (fun h2 => ?_) (fun h2 => ?_)
    · have hx3 : n = i2 := by omega
      subst hx3
      exact V.vret C T dX0_goes_132 () rfl trivial rfl rfl rfl
    · obtain ⟨hkk, hok⟩ := goG_kk ok x i2 (by omega)
      obtain ⟨p1, p2, p3, p4⟩ := ok.2.2.2.2.2.1 i2 (by omega)
      refine V.aload_n (pc' := 22) C 1 dX0_goes_21 rfl rfl ?_
      refine V.getN (pc' := 25) C dX0_goes_22 rfl 1 rfl rfl in_X5 7 rfl q149 rfl ?_
      refine V.iconst (pc' := 26) C dX0_goes_25 rfl kci_3 ?_
      refine V.iload_n (pc' := 27) C 3 dX0_goes_26 rfl rfl ?_
      refine V.imulN (pc' := 28) C 3 i2 dX0_goes_27 rfl ?_
      refine V.bald (pc' := 29) C (3 * i2) dX0_goes_28 rfl 4 rfl (by omega) rfl ?_
      refine V.topI (y := nI (pN g (48 + 3 * i2))) ((pl_rd hkk (by omega)).trans (ok.2.2.2.2.2.2 (3 * i2) (by omega)).1) ?_
      refine V.istore (pc' := 31) C [(4, .int (nI (pN g (48 + 3 * i2)))), (0, .ref (ad 0)), (1, .ref w0), (2, .int x), (3, .int (nI i2))] dX0_goes_29 rfl 8 hnL rfl rfl ?_
      refine V.aload_n (pc' := 32) C 2 dX0_goes_31 rfl rfl ?_
      refine V.getN (pc' := 35) C dX0_goes_32 rfl 1 rfl rfl in_X5 7 rfl q149 rfl ?_
      refine V.iconst (pc' := 36) C dX0_goes_35 rfl kci_3 ?_
      refine V.iload_n (pc' := 37) C 4 dX0_goes_36 rfl rfl ?_
      refine V.imulN (pc' := 38) C 3 i2 dX0_goes_37 rfl ?_
      refine V.iconst (pc' := 39) C dX0_goes_38 rfl kci_1 ?_
      refine V.iaddN (pc' := 40) C (3 * i2) 1 dX0_goes_39 rfl ?_
      refine V.bald (pc' := 41) C (3 * i2 + 1) dX0_goes_40 rfl 4 rfl (by omega) rfl ?_
      refine V.topI (y := nI (pN g (48 + 3 * i2 + 1))) ((pl_rd hkk (by omega)).trans (ok.2.2.2.2.2.2 (3 * i2 + 1) (by omega)).1) ?_
      refine V.istore (pc' := 43) C [(5, .int (nI (pN g (48 + 3 * i2 + 1)))), (4, .int (nI (pN g (48 + 3 * i2)))), (0, .ref (ad 0)), (1, .ref w0), (2, .int x), (3, .int (nI i2))] dX0_goes_41 rfl 8 hnL rfl rfl ?_
      refine V.aload_n (pc' := 44) C 3 dX0_goes_43 rfl rfl ?_
      refine V.getN (pc' := 47) C dX0_goes_44 rfl 1 rfl rfl in_X5 7 rfl q149 rfl ?_
      refine V.iconst (pc' := 48) C dX0_goes_47 rfl kci_3 ?_
      refine V.iload_n (pc' := 49) C 5 dX0_goes_48 rfl rfl ?_
      refine V.imulN (pc' := 50) C 3 i2 dX0_goes_49 rfl ?_
      refine V.iconst (pc' := 51) C dX0_goes_50 rfl kci_2 ?_
      refine V.iaddN (pc' := 52) C (3 * i2) 2 dX0_goes_51 rfl ?_
      refine V.bald (pc' := 53) C (3 * i2 + 2) dX0_goes_52 rfl 4 rfl (by omega) rfl ?_
      refine V.topI (y := g (48 + 3 * i2 + 2)) (pl_rd hkk (by omega)) ?_
      refine V.istore (pc' := 55) C [(6, .int (g (48 + 3 * i2 + 2))), (5, .int (nI (pN g (48 + 3 * i2 + 1)))), (4, .int (nI (pN g (48 + 3 * i2)))), (0, .ref (ad 0)), (1, .ref w0), (2, .int x), (3, .int (nI i2))] dX0_goes_53 rfl 8 hnL rfl rfl ?_
      refine V.aload_n (pc' := 56) C 4 dX0_goes_55 rfl rfl ?_
      refine V.iload (pc' := 58) C 2 dX0_goes_56 rfl rfl ?_
      refine V.iload (pc' := 60) C 1 dX0_goes_58 rfl rfl ?_
      refine V.iload (pc' := 62) C 0 dX0_goes_60 rfl rfl ?_
      refine V.callV (pc' := 65) (wr := [(ad 0, .inr (0, [.ref (ad 1), .ref (ad 6), .ref (ad 10), .ref (ad 14), .ref (ad 18), .int (i 5), .ref (ad 27), .int (i 7), .int (goC g g x i2), .int (goH g g x i2), .ref (ad 28), .int (i 11), .int (i 12), .int (i 13), .int (i 14), .int (i 15), .ref (ad 29), .long (j 17), .long (j 18), .long (j 19), .ref (ad 30), .ref (ad 31), .ref (ad 32), .int (i 23)]))]) C (ct_X5_mayBe M.l M.G w0 w1 w2 w3 N (goG g g x i2) (pN g (48 + 3 * i2)) (pN g (48 + 3 * i2 + 1)) (g (48 + 3 * i2 + 2)) (by omega) (by omega)) dX0_goes_62 rfl (lw_V q610 q611 q612 q69 q613) hyv_X5_mayBe rfl rfl 0 rfl rfl [1, 2, 3, 4] [0] [0, 1, 2, 3, 4] rfl rfl rfl (fun _ => [(ad 0, .inr (0, [.ref (ad 1), .ref (ad 6), .ref (ad 10), .ref (ad 14), .ref (ad 18), .int (i 5), .ref (ad 27), .int (i 7), .int (goC g g x i2), .int (goH g g x i2), .ref (ad 28), .int (i 11), .int (i 12), .int (i 13), .int (i 14), .int (i 15), .ref (ad 29), .long (j 17), .long (j 18), .long (j 19), .ref (ad 30), .ref (ad 31), .ref (ad 32), .int (i 23)])), wO w0 w1 w2 w3 N (goG g g x i2), (w1, .inl (M.G.2 1, 20, .inl (wcl (goG g g x i2)))), (w2, .inl (M.G.2 0, 25, .inl (wgt (goG g g x i2)))), (w3, .inl (M.G.2 1, 18, .inl (wpl (goG g g x i2))))]) (fun _ => rfl) rfl 0 0 rfl rfl (fun _ => [.int (bI (may2 (goG g g x i2) (goG g g x i2) (pN g (48 + 3 * i2)) (pN g (48 + 3 * i2 + 1)) (g (48 + 3 * i2 + 2))))]) (fun _ => rfl) (fun _ _ => ?_)
      refine V.topI (y := bI (may2 g (goG g g x i2) (pN g (48 + 3 * i2)) (pN g (48 + 3 * i2 + 1)) (g (48 + 3 * i2 + 2)))) (bI_iff (hkk.may (by omega) (by omega) _)) ?_
      refine V.istore (pc' := 67) C [(7, .int (bI (may2 g (goG g g x i2) (pN g (48 + 3 * i2)) (pN g (48 + 3 * i2 + 1)) (g (48 + 3 * i2 + 2))))), (6, .int (g (48 + 3 * i2 + 2))), (5, .int (nI (pN g (48 + 3 * i2 + 1)))), (4, .int (nI (pN g (48 + 3 * i2)))), (0, .ref (ad 0)), (1, .ref w0), (2, .int x), (3, .int (nI i2))] dX0_goes_65 rfl 8 hnL rfl rfl ?_
      refine V.aload_n (pc' := 68) C 4 dX0_goes_67 rfl rfl ?_
      refine V.iload (pc' := 70) C 0 dX0_goes_68 rfl rfl ?_
      have J6 : ∀ (x5 : Int32), x5 = (if may2 g (goG g g x i2) (pN g (48 + 3 * i2)) (pN g (48 + 3 * i2 + 1)) (g (48 + 3 * i2 + 2)) then goH g g x i2 else if (goH g g x i2) = (-4) then nI i2 else goH g g x i2) → V M 0 0 [(ad 0, .inr (0, [.ref (ad 1), .ref (ad 6), .ref (ad 10), .ref (ad 14), .ref (ad 18), .int (i 5), .ref (ad 27), .int (i 7), .int (goC g g x i2), .int (goH g g x i2), .ref (ad 28), .int (i 11), .int (i 12), .int (i 13), .int (i 14), .int (i 15), .ref (ad 29), .long (j 17), .long (j 18), .long (j 19), .ref (ad 30), .ref (ad 31), .ref (ad 32), .int (i 23)])), wO w0 w1 w2 w3 N (goG g g x i2), (w1, .inl (M.G.2 1, 20, .inl (wcl (goG g g x i2)))), (w2, .inl (M.G.2 0, 25, .inl (wgt (goG g g x i2)))), (w3, .inl (M.G.2 1, 18, .inl (wpl (goG g g x i2))))] [(7, .int (bI (may2 g (goG g g x i2) (pN g (48 + 3 * i2)) (pN g (48 + 3 * i2 + 1)) (g (48 + 3 * i2 + 2))))), (6, .int (g (48 + 3 * i2 + 2))), (5, .int (nI (pN g (48 + 3 * i2 + 1)))), (4, .int (nI (pN g (48 + 3 * i2)))), (0, .ref (ad 0)), (1, .ref w0), (2, .int x), (3, .int (nI i2))] [.int x5, .ref (ad 0)] 90 := by
        intro x5 ex5
        subst ex5
        refine V.put (pc' := 93) C [(ad 0, .inr (0, [.ref (ad 1), .ref (ad 6), .ref (ad 10), .ref (ad 14), .ref (ad 18), .int (i 5), .ref (ad 27), .int (i 7), .int (goC g g x i2), .int (if may2 g (goG g g x i2) (pN g (48 + 3 * i2)) (pN g (48 + 3 * i2 + 1)) (g (48 + 3 * i2 + 2)) then goH g g x i2 else if (goH g g x i2) = (-4) then nI i2 else goH g g x i2), .ref (ad 28), .int (i 11), .int (i 12), .int (i 13), .int (i 14), .int (i 15), .ref (ad 29), .long (j 17), .long (j 18), .long (j 19), .ref (ad 30), .ref (ad 31), .ref (ad 32), .int (i 23)])), wO w0 w1 w2 w3 N (goG g g x i2), (w1, .inl (M.G.2 1, 20, .inl (wcl (goG g g x i2)))), (w2, .inl (M.G.2 0, 25, .inl (wgt (goG g g x i2)))), (w3, .inl (M.G.2 1, 18, .inl (wpl (goG g g x i2))))] dX0_goes_90 rfl 0 rfl rfl in_X0 tyX0_ok nmX0 9 rfl q191 rfl rfl rfl rfl rfl ?_
        refine V.iload (pc' := 95) C 0 dX0_goes_93 rfl rfl ?_
        refine V.if_eqB (pc' := 98) C 126 dX0_goes_95 rfl rfl (fun h7 => ?_) (fun h7 => ?_)
        · refine V.iinc (pc' := 129) C (nI (i2 + 1)) [(3, .int (nI (i2 + 1))), (7, .int (bI (may2 g (goG g g x i2) (pN g (48 + 3 * i2)) (pN g (48 + 3 * i2 + 1)) (g (48 + 3 * i2 + 2))))), (6, .int (g (48 + 3 * i2 + 2))), (5, .int (nI (pN g (48 + 3 * i2 + 1)))), (4, .int (nI (pN g (48 + 3 * i2)))), (0, .ref (ad 0)), (1, .ref w0), (2, .int x)] dX0_goes_126 rfl 8 hnL rfl 7 rfl (ii_N i2 1 rfl) rfl ?_
          refine V.goto C 13 dX0_goes_129 rfl ?_
          refine V.lvs [5, 6, 7, 0] (lv2 := [(0, .ref (ad 0)), (1, .ref w0), (2, .int x), (3, .int (nI (i2 + 1)))]) rfl ?_
          refine V.weq (ws2 := [(ad 0, .inr (0, [.ref (ad 1), .ref (ad 6), .ref (ad 10), .ref (ad 14), .ref (ad 18), .int (i 5), .ref (ad 27), .int (i 7), .int (goC g g x (i2 + 1)), .int (goH g g x (i2 + 1)), .ref (ad 28), .int (i 11), .int (i 12), .int (i 13), .int (i 14), .int (i 15), .ref (ad 29), .long (j 17), .long (j 18), .long (j 19), .ref (ad 30), .ref (ad 31), .ref (ad 32), .int (i 23)])), wO w0 w1 w2 w3 N (goG g g x (i2 + 1)), (w1, .inl (M.G.2 1, 20, .inl (wcl (goG g g x (i2 + 1))))), (w2, .inl (M.G.2 0, 25, .inl (wgt (goG g g x (i2 + 1))))), (w3, .inl (M.G.2 1, 18, .inl (wpl (goG g g x (i2 + 1)))))]) (by rw [goG_f (fun z => h7 z.2), goC_f (fun z => h7 z.2)]; rfl) ?_
          exact ih_L1 (by omega)
        · refine V.iload_n (pc' := 99) C 6 dX0_goes_98 rfl rfl ?_
          refine V.iload_n (pc' := 100) C 7 dX0_goes_99 rfl rfl ?_
          refine V.callS (pc' := 103) (wr := [(ad 0, .inr (0, [.ref (ad 1), .ref (ad 6), .ref (ad 10), .ref (ad 14), .ref (ad 18), .int (i 5), .ref (ad 27), .int (i 7), .int (goC g g x i2), .int (if may2 g (goG g g x i2) (pN g (48 + 3 * i2)) (pN g (48 + 3 * i2 + 1)) (g (48 + 3 * i2 + 2)) then goH g g x i2 else if (goH g g x i2) = (-4) then nI i2 else goH g g x i2), .ref (ad 28), .int (i 11), .int (i 12), .int (i 13), .int (i 14), .int (i 15), .ref (ad 29), .long (j 17), .long (j 18), .long (j 19), .ref (ad 30), .ref (ad 31), .ref (ad 32), .int (i 23)])), wO w0 w1 w2 w3 N (goG g g x i2), (w1, .inl (M.G.2 1, 20, .inl (wcl (goG g g x i2)))), (w2, .inl (M.G.2 0, 25, .inl (wgt (goG g g x i2)))), (w3, .inl (M.G.2 1, 18, .inl (wpl (goG g g x i2))))]) C (ct_X0_has M.l M.G x (nI i2) ) dX0_goes_100 rfl (lw_S q648 q649 q64 q650) hys_X0_has rfl rfl [] [0, 1, 2, 3, 4] [0, 1, 2, 3, 4] rfl rfl rfl (fun _ => [(ad 0, .inr (0, [.ref (ad 1), .ref (ad 6), .ref (ad 10), .ref (ad 14), .ref (ad 18), .int (i 5), .ref (ad 27), .int (i 7), .int (goC g g x i2), .int (if may2 g (goG g g x i2) (pN g (48 + 3 * i2)) (pN g (48 + 3 * i2 + 1)) (g (48 + 3 * i2 + 2)) then goH g g x i2 else if (goH g g x i2) = (-4) then nI i2 else goH g g x i2), .ref (ad 28), .int (i 11), .int (i 12), .int (i 13), .int (i 14), .int (i 15), .ref (ad 29), .long (j 17), .long (j 18), .long (j 19), .ref (ad 30), .ref (ad 31), .ref (ad 32), .int (i 23)])), wO w0 w1 w2 w3 N (goG g g x i2), (w1, .inl (M.G.2 1, 20, .inl (wcl (goG g g x i2)))), (w2, .inl (M.G.2 0, 25, .inl (wgt (goG g g x i2)))), (w3, .inl (M.G.2 1, 18, .inl (wpl (goG g g x i2))))]) (fun _ => rfl) rfl 0 0 rfl rfl (fun _ => [.int (bI ((x >>> (nI i2 &&& 31)) &&& 1 = 1))]) (fun _ => rfl) (fun _ _ => ?_)
          refine V.if_neB (pc' := 106) C 126 dX0_goes_103 rfl rfl (fun h8 => ?_) (fun h8 => ?_)
          · refine V.iinc (pc' := 129) C (nI (i2 + 1)) [(3, .int (nI (i2 + 1))), (7, .int (bI (may2 g (goG g g x i2) (pN g (48 + 3 * i2)) (pN g (48 + 3 * i2 + 1)) (g (48 + 3 * i2 + 2))))), (6, .int (g (48 + 3 * i2 + 2))), (5, .int (nI (pN g (48 + 3 * i2 + 1)))), (4, .int (nI (pN g (48 + 3 * i2)))), (0, .ref (ad 0)), (1, .ref w0), (2, .int x)] dX0_goes_126 rfl 8 hnL rfl 7 rfl (ii_N i2 1 rfl) rfl ?_
            refine V.goto C 13 dX0_goes_129 rfl ?_
            refine V.lvs [5, 6, 7, 0] (lv2 := [(0, .ref (ad 0)), (1, .ref w0), (2, .int x), (3, .int (nI (i2 + 1)))]) rfl ?_
            refine V.weq (ws2 := [(ad 0, .inr (0, [.ref (ad 1), .ref (ad 6), .ref (ad 10), .ref (ad 14), .ref (ad 18), .int (i 5), .ref (ad 27), .int (i 7), .int (goC g g x (i2 + 1)), .int (goH g g x (i2 + 1)), .ref (ad 28), .int (i 11), .int (i 12), .int (i 13), .int (i 14), .int (i 15), .ref (ad 29), .long (j 17), .long (j 18), .long (j 19), .ref (ad 30), .ref (ad 31), .ref (ad 32), .int (i 23)])), wO w0 w1 w2 w3 N (goG g g x (i2 + 1)), (w1, .inl (M.G.2 1, 20, .inl (wcl (goG g g x (i2 + 1))))), (w2, .inl (M.G.2 0, 25, .inl (wgt (goG g g x (i2 + 1))))), (w3, .inl (M.G.2 1, 18, .inl (wpl (goG g g x (i2 + 1)))))]) (by rw [goG_f (fun z => bit_n1 h8 z.1), goC_f (fun z => bit_n1 h8 z.1)]; rfl) ?_
            exact ih_L1 (by omega)
          · obtain ⟨f1, f2⟩ := go_fit ok (by omega) hkk hok h7
            refine V.aload_n (pc' := 107) C 5 dX0_goes_106 rfl rfl ?_
            refine V.iload (pc' := 109) C 3 dX0_goes_107 rfl rfl ?_
            refine V.iload (pc' := 111) C 2 dX0_goes_109 rfl rfl ?_
            refine V.iload (pc' := 113) C 1 dX0_goes_111 rfl rfl ?_
            refine V.callV (pc' := 116) (wr := [(ad 0, .inr (0, [.ref (ad 1), .ref (ad 6), .ref (ad 10), .ref (ad 14), .ref (ad 18), .int (i 5), .ref (ad 27), .int (i 7), .int (goC g g x i2), .int (if may2 g (goG g g x i2) (pN g (48 + 3 * i2)) (pN g (48 + 3 * i2 + 1)) (g (48 + 3 * i2 + 2)) then goH g g x i2 else if (goH g g x i2) = (-4) then nI i2 else goH g g x i2), .ref (ad 28), .int (i 11), .int (i 12), .int (i 13), .int (i 14), .int (i 15), .ref (ad 29), .long (j 17), .long (j 18), .long (j 19), .ref (ad 30), .ref (ad 31), .ref (ad 32), .int (i 23)]))]) C (ct_X5_gives M.l M.G w0 w1 w2 w3 N (goG g g x i2) (pN g (48 + 3 * i2)) (pN g (48 + 3 * i2 + 1)) (g (48 + 3 * i2 + 2)) (by omega) (by omega) f1 f2) dX0_goes_113 rfl (lw_V q626 q627 q628 q69 q629) hyv_X5_gives rfl rfl 0 rfl rfl [1, 2, 3, 4] [0] [0, 1, 2, 3, 4] rfl rfl rfl (fun _ => [(ad 0, .inr (0, [.ref (ad 1), .ref (ad 6), .ref (ad 10), .ref (ad 14), .ref (ad 18), .int (i 5), .ref (ad 27), .int (i 7), .int (goC g g x i2), .int (if may2 g (goG g g x i2) (pN g (48 + 3 * i2)) (pN g (48 + 3 * i2 + 1)) (g (48 + 3 * i2 + 2)) then goH g g x i2 else if (goH g g x i2) = (-4) then nI i2 else goH g g x i2), .ref (ad 28), .int (i 11), .int (i 12), .int (i 13), .int (i 14), .int (i 15), .ref (ad 29), .long (j 17), .long (j 18), .long (j 19), .ref (ad 30), .ref (ad 31), .ref (ad 32), .int (i 23)])), wO w0 w1 w2 w3 N (give2 (goG g g x i2) (goG g g x i2) (pN g (48 + 3 * i2)) (pN g (48 + 3 * i2 + 1)) (g (48 + 3 * i2 + 2))), (w1, .inl (M.G.2 1, 20, .inl (wcl (give2 (goG g g x i2) (goG g g x i2) (pN g (48 + 3 * i2)) (pN g (48 + 3 * i2 + 1)) (g (48 + 3 * i2 + 2)))))), (w2, .inl (M.G.2 0, 25, .inl (wgt (give2 (goG g g x i2) (goG g g x i2) (pN g (48 + 3 * i2)) (pN g (48 + 3 * i2 + 1)) (g (48 + 3 * i2 + 2)))))), (w3, .inl (M.G.2 1, 18, .inl (wpl (give2 (goG g g x i2) (goG g g x i2) (pN g (48 + 3 * i2)) (pN g (48 + 3 * i2 + 1)) (g (48 + 3 * i2 + 2))))))]) (fun _ => rfl) rfl 0 0 rfl rfl (fun _ => []) (fun _ => rfl) (fun _ _ => ?_)
            refine V.weq (ws2 := [(ad 0, .inr (0, [.ref (ad 1), .ref (ad 6), .ref (ad 10), .ref (ad 14), .ref (ad 18), .int (i 5), .ref (ad 27), .int (i 7), .int (goC g g x i2), .int (if may2 g (goG g g x i2) (pN g (48 + 3 * i2)) (pN g (48 + 3 * i2 + 1)) (g (48 + 3 * i2 + 2)) then goH g g x i2 else if (goH g g x i2) = (-4) then nI i2 else goH g g x i2), .ref (ad 28), .int (i 11), .int (i 12), .int (i 13), .int (i 14), .int (i 15), .ref (ad 29), .long (j 17), .long (j 18), .long (j 19), .ref (ad 30), .ref (ad 31), .ref (ad 32), .int (i 23)])), wO w0 w1 w2 w3 N (give2 g (goG g g x i2) (pN g (48 + 3 * i2)) (pN g (48 + 3 * i2 + 1)) (g (48 + 3 * i2 + 2))), (w1, .inl (M.G.2 1, 20, .inl (wcl (give2 g (goG g g x i2) (pN g (48 + 3 * i2)) (pN g (48 + 3 * i2 + 1)) (g (48 + 3 * i2 + 2)))))), (w2, .inl (M.G.2 0, 25, .inl (wgt (give2 g (goG g g x i2) (pN g (48 + 3 * i2)) (pN g (48 + 3 * i2 + 1)) (g (48 + 3 * i2 + 2)))))), (w3, .inl (M.G.2 1, 18, .inl (wpl (give2 g (goG g g x i2) (pN g (48 + 3 * i2)) (pN g (48 + 3 * i2 + 1)) (g (48 + 3 * i2 + 2))))))]) (by rw [hkk.giv (by omega) (by omega)]) ?_
            refine V.aload_n (pc' := 117) C 4 dX0_goes_116 rfl rfl ?_
            refine V.dup (pc' := 118) C rfl dX0_goes_117 rfl ?_
            refine V.get (pc' := 121) C dX0_goes_118 rfl 0 rfl rfl in_X0 8 rfl q190 rfl ?_
            refine V.iconst (pc' := 122) C dX0_goes_121 rfl kci_1 ?_
            refine V.iadd (pc' := 123) C dX0_goes_122 rfl ?_
            refine V.put (pc' := 126) C [(ad 0, .inr (0, [.ref (ad 1), .ref (ad 6), .ref (ad 10), .ref (ad 14), .ref (ad 18), .int (i 5), .ref (ad 27), .int (i 7), .int ((goC g g x i2) + 1), .int (if may2 g (goG g g x i2) (pN g (48 + 3 * i2)) (pN g (48 + 3 * i2 + 1)) (g (48 + 3 * i2 + 2)) then goH g g x i2 else if (goH g g x i2) = (-4) then nI i2 else goH g g x i2), .ref (ad 28), .int (i 11), .int (i 12), .int (i 13), .int (i 14), .int (i 15), .ref (ad 29), .long (j 17), .long (j 18), .long (j 19), .ref (ad 30), .ref (ad 31), .ref (ad 32), .int (i 23)])), wO w0 w1 w2 w3 N (give2 g (goG g g x i2) (pN g (48 + 3 * i2)) (pN g (48 + 3 * i2 + 1)) (g (48 + 3 * i2 + 2))), (w1, .inl (M.G.2 1, 20, .inl (wcl (give2 g (goG g g x i2) (pN g (48 + 3 * i2)) (pN g (48 + 3 * i2 + 1)) (g (48 + 3 * i2 + 2)))))), (w2, .inl (M.G.2 0, 25, .inl (wgt (give2 g (goG g g x i2) (pN g (48 + 3 * i2)) (pN g (48 + 3 * i2 + 1)) (g (48 + 3 * i2 + 2)))))), (w3, .inl (M.G.2 1, 18, .inl (wpl (give2 g (goG g g x i2) (pN g (48 + 3 * i2)) (pN g (48 + 3 * i2 + 1)) (g (48 + 3 * i2 + 2))))))] dX0_goes_123 rfl 0 rfl rfl in_X0 tyX0_ok nmX0 8 rfl q190 rfl rfl rfl rfl rfl ?_
            refine V.iinc (pc' := 129) C (nI (i2 + 1)) [(3, .int (nI (i2 + 1))), (7, .int (bI (may2 g (goG g g x i2) (pN g (48 + 3 * i2)) (pN g (48 + 3 * i2 + 1)) (g (48 + 3 * i2 + 2))))), (6, .int (g (48 + 3 * i2 + 2))), (5, .int (nI (pN g (48 + 3 * i2 + 1)))), (4, .int (nI (pN g (48 + 3 * i2)))), (0, .ref (ad 0)), (1, .ref w0), (2, .int x)] dX0_goes_126 rfl 8 hnL rfl 7 rfl (ii_N i2 1 rfl) rfl ?_
            refine V.goto C 13 dX0_goes_129 rfl ?_
            refine V.lvs [5, 6, 7, 0] (lv2 := [(0, .ref (ad 0)), (1, .ref w0), (2, .int x), (3, .int (nI (i2 + 1)))]) rfl ?_
            refine V.weq (ws2 := [(ad 0, .inr (0, [.ref (ad 1), .ref (ad 6), .ref (ad 10), .ref (ad 14), .ref (ad 18), .int (i 5), .ref (ad 27), .int (i 7), .int (goC g g x (i2 + 1)), .int (goH g g x (i2 + 1)), .ref (ad 28), .int (i 11), .int (i 12), .int (i 13), .int (i 14), .int (i 15), .ref (ad 29), .long (j 17), .long (j 18), .long (j 19), .ref (ad 30), .ref (ad 31), .ref (ad 32), .int (i 23)])), wO w0 w1 w2 w3 N (goG g g x (i2 + 1)), (w1, .inl (M.G.2 1, 20, .inl (wcl (goG g g x (i2 + 1))))), (w2, .inl (M.G.2 0, 25, .inl (wgt (goG g g x (i2 + 1))))), (w3, .inl (M.G.2 1, 18, .inl (wpl (goG g g x (i2 + 1)))))]) (by rw [goG_t ⟨bit_n0 h8, h7⟩, goC_t ⟨bit_n0 h8, h7⟩]; rfl) ?_
            exact ih_L1 (by omega)
      refine V.if_neB (pc' := 73) C 86 dX0_goes_70 rfl rfl (fun h4 => ?_) (fun h4 => ?_)
      · refine V.aload_n (pc' := 87) C 4 dX0_goes_86 rfl rfl ?_
        refine V.get (pc' := 90) C dX0_goes_87 rfl 0 rfl rfl in_X0 9 rfl q191 rfl ?_
        exact J6 _ (by rw [if_pos h4])
      · refine V.aload_n (pc' := 74) C 4 dX0_goes_73 rfl rfl ?_
        refine V.get (pc' := 77) C dX0_goes_74 rfl 0 rfl rfl in_X0 9 rfl q191 rfl ?_
        refine V.bipush (pc' := 79) C dX0_goes_77 rfl kcb_m4 ?_
        refine V.icmp_ne (pc' := 82) C 86 dX0_goes_79 rfl rfl (fun h5 => ?_) (fun h5 => ?_)
        · refine V.aload_n (pc' := 87) C 4 dX0_goes_86 rfl rfl ?_
          refine V.get (pc' := 90) C dX0_goes_87 rfl 0 rfl rfl in_X0 9 rfl q191 rfl ?_
          exact J6 _ (by rw [if_neg h4, if_neg h5])
        · refine V.iload_n (pc' := 83) C 7 dX0_goes_82 rfl rfl ?_
          refine V.goto C 90 dX0_goes_83 rfl ?_
          exact J6 _ (by rw [if_neg h4, if_pos h5])
  refine V.lvs [1, 2, 3, 0] (lv2 := [(0, .ref (ad 0)), (1, .ref w0), (2, .int x), (3, .int (nI 0))]) rfl ?_
  refine V.weq (ws2 := [(ad 0, .inr (0, [.ref (ad 1), .ref (ad 6), .ref (ad 10), .ref (ad 14), .ref (ad 18), .int (i 5), .ref (ad 27), .int (i 7), .int (goC g g x 0), .int (goH g g x 0), .ref (ad 28), .int (i 11), .int (i 12), .int (i 13), .int (i 14), .int (i 15), .ref (ad 29), .long (j 17), .long (j 18), .long (j 19), .ref (ad 30), .ref (ad 31), .ref (ad 32), .int (i 23)])), wO w0 w1 w2 w3 N (goG g g x 0), (w1, .inl (M.G.2 1, 20, .inl (wcl (goG g g x 0)))), (w2, .inl (M.G.2 0, 25, .inl (wgt (goG g g x 0)))), (w3, .inl (M.G.2 1, 18, .inl (wpl (goG g g x 0))))]) rfl ?_
  exact L1 0 (by omega)
