set_option maxRecDepth 100000
set_option maxHeartbeats 4000000 in
theorem ct_X0_which0 (l : Launch) (G : GG) (ad : Nat → Nat) (i : Nat → Int32) (j : Nat → Int64) (N : Nat) (g : Pg) (K : Nat) (t : Pg) (sn : Nat → Int32) (sh : Nat → Int32) (c : Nat) (sm : Nat) (n : Nat) (ok : okP g N n) (hs : i 7 = nI sm) (hok : okS sn N sm) (hc : c < 5) : Ct l G yX0_which (ws_ yX0_which cX0_which 5 (some .int)) ({ frames := 6, cells := 0, slots := 0, locals := 132 } : Room) [.ref (ad 0), .int (nI c), .int 0] [xO ad i j, (ad 1, .inl (G.2 4, 4, .inr (.inr (.inr (.inr (fun k => some (ad (2 + k)))))))), (ad 2, .inr (1, [])), (ad 3, .inr (2, [])), (ad 4, .inr (3, [])), (ad 5, .inr (4, [])), wO (ad 6) (ad 7) (ad 8) (ad 9) N g, (ad 7, .inl (G.2 1, 20, .inl (wcl g))), (ad 8, .inl (G.2 0, 25, .inl (wgt g))), (ad 9, .inl (G.2 1, 18, .inl (wpl g))), wO (ad 10) (ad 11) (ad 12) (ad 13) K t, (ad 11, .inl (G.2 1, 20, .inl (wcl t))), (ad 12, .inl (G.2 0, 25, .inl (wgt t))), (ad 13, .inl (G.2 1, 18, .inl (wpl t))), (ad 27, .inl (G.2 1, 18, .inl sn)), (ad 30, .inl (G.2 1, 105, .inl sh))] (fun u : Nat × Pg × Pg => some (.int (whTo g c sn N sm 4))) (fun u => True) (fun u => [xO ad i j, (ad 1, .inl (G.2 4, 4, .inr (.inr (.inr (.inr (fun k => some (ad (2 + k)))))))), (ad 2, .inr (1, [])), (ad 3, .inr (2, [])), (ad 4, .inr (3, [])), (ad 5, .inr (4, [])), wO (ad 6) (ad 7) (ad 8) (ad 9) N g, (ad 7, .inl (G.2 1, 20, .inl (wcl g))), (ad 8, .inl (G.2 0, 25, .inl (wgt g))), (ad 9, .inl (G.2 1, 18, .inl (wpl g))), wO (ad 10) (ad 11) (ad 12) (ad 13) u.1 u.2.1, (ad 11, .inl (G.2 1, 20, .inl (wcl u.2.1))), (ad 12, .inl (G.2 0, 25, .inl (wgt u.2.1))), (ad 13, .inl (G.2 1, 18, .inl (wpl u.2.1))), (ad 27, .inl (G.2 1, 18, .inl sn)), (ad 30, .inl (G.2 1, 105, .inl u.2.2))]) := by
  refine Ct.of rfl rfl ?_
  intro M el eG hnL C T
  subst el
  subst eG
  have C : Cx M cX0_which "ClockWard" ({ frames := 6, cells := 0, slots := 0, locals := 132 } : Room) := C
  have hN5 := ok.n5
  have hn6 := ok.n6
  refine V.lvs [0, 1, 2] (lv2 := [(0, .ref (ad 0)), (1, .int (nI c)), (2, .int 0)]) rfl ?_
  refine V.iconst (pc' := 1) C dX0_which_0 rfl kci_0 ?_
  refine V.istore_n (pc' := 2) C [(3, .int 0), (0, .ref (ad 0)), (1, .int (nI c)), (2, .int 0)] dX0_which_1 rfl 5 hnL rfl rfl ?_
  refine V.iconst (pc' := 3) C dX0_which_2 rfl kci_0 ?_
  refine V.istore (pc' := 5) C [(4, .int 0), (3, .int 0), (0, .ref (ad 0)), (1, .int (nI c)), (2, .int 0)] dX0_which_3 rfl 5 hnL rfl rfl ?_
  have L1 : ∀ v : Nat, v ≤ 4 → ∀ (K2 : Nat), ∀ (t2 : Pg), ∀ (sh2 : Nat → Int32), V M 0 0 [xO ad i j, (ad 1, .inl (M.G.2 4, 4, .inr (.inr (.inr (.inr (fun k => some (ad (2 + k)))))))), (ad 2, .inr (1, [])), (ad 3, .inr (2, [])), (ad 4, .inr (3, [])), (ad 5, .inr (4, [])), wO (ad 6) (ad 7) (ad 8) (ad 9) N g, (ad 7, .inl (M.G.2 1, 20, .inl (wcl g))), (ad 8, .inl (M.G.2 0, 25, .inl (wgt g))), (ad 9, .inl (M.G.2 1, 18, .inl (wpl g))), wO (ad 10) (ad 11) (ad 12) (ad 13) K2 t2, (ad 11, .inl (M.G.2 1, 20, .inl (wcl t2))), (ad 12, .inl (M.G.2 0, 25, .inl (wgt t2))), (ad 13, .inl (M.G.2 1, 18, .inl (wpl t2))), (ad 27, .inl (M.G.2 1, 18, .inl sn)), (ad 30, .inl (M.G.2 1, 105, .inl sh2))] [(0, .ref (ad 0)), (1, .int (nI c)), (2, .int 0), (3, .int (whTo g c sn N sm v)), (4, .int (nI v))] [] 5 := by
    refine loopN _ 4 (fun v hv ih_L1 => ?_)
    intro K2 t2 sh2 
    refine V.iload (pc' := 7) C 4 dX0_which_5 rfl rfl ?_
    refine V.iload_n (pc' := 8) C 2 dX0_which_7 rfl rfl ?_
    refine V.callS (pc' := 11) (wr := [xO ad i j, (ad 1, .inl (M.G.2 4, 4, .inr (.inr (.inr (.inr (fun k => some (ad (2 + k)))))))), (ad 2, .inr (1, [])), (ad 3, .inr (2, [])), (ad 4, .inr (3, [])), (ad 5, .inr (4, [])), wO (ad 6) (ad 7) (ad 8) (ad 9) N g, (ad 7, .inl (M.G.2 1, 20, .inl (wcl g))), (ad 8, .inl (M.G.2 0, 25, .inl (wgt g))), (ad 9, .inl (M.G.2 1, 18, .inl (wpl g))), wO (ad 10) (ad 11) (ad 12) (ad 13) K2 t2, (ad 11, .inl (M.G.2 1, 20, .inl (wcl t2))), (ad 12, .inl (M.G.2 0, 25, .inl (wgt t2))), (ad 13, .inl (M.G.2 1, 18, .inl (wpl t2))), (ad 27, .inl (M.G.2 1, 18, .inl sn)), (ad 30, .inl (M.G.2 1, 105, .inl sh2))]) C (ct_X0_mostOf M.l M.G 0 ) dX0_which_8 rfl (lw_S q584 q585 q64 q586) hys_X0_mostOf rfl rfl [] [0, 1, 2, 3, 4, 5, 6, 7, 8, 9, 10, 11, 12, 13, 14, 15] [0, 1, 2, 3, 4, 5, 6, 7, 8, 9, 10, 11, 12, 13, 14, 15] rfl rfl rfl (fun _ => [xO ad i j, (ad 1, .inl (M.G.2 4, 4, .inr (.inr (.inr (.inr (fun k => some (ad (2 + k)))))))), (ad 2, .inr (1, [])), (ad 3, .inr (2, [])), (ad 4, .inr (3, [])), (ad 5, .inr (4, [])), wO (ad 6) (ad 7) (ad 8) (ad 9) N g, (ad 7, .inl (M.G.2 1, 20, .inl (wcl g))), (ad 8, .inl (M.G.2 0, 25, .inl (wgt g))), (ad 9, .inl (M.G.2 1, 18, .inl (wpl g))), wO (ad 10) (ad 11) (ad 12) (ad 13) K2 t2, (ad 11, .inl (M.G.2 1, 20, .inl (wcl t2))), (ad 12, .inl (M.G.2 0, 25, .inl (wgt t2))), (ad 13, .inl (M.G.2 1, 18, .inl (wpl t2))), (ad 27, .inl (M.G.2 1, 18, .inl sn)), (ad 30, .inl (M.G.2 1, 105, .inl sh2))]) (fun _ => rfl) rfl 0 0 rfl rfl (fun _ => [.int (altMost 0), .int (nI v)]) (fun _ => rfl) (fun _ _ => ?_)
    refine V.topI (y := 3) (by decide) ?_
    refine V.icmp_gtN (pc' := 14) C v 3 (by omega) (by omega) 42 dX0_which_11 rfl rfl (fun h2 => ?_) (fun h2 => ?_)
    · have hx3 : 4 = v := by omega
      subst hx3
      refine V.iload_n (pc' := 43) C 3 dX0_which_42 rfl rfl ?_
      exact V.iret C T dX0_which_43 (K2, t2, sh2) rfl rfl rfl rfl trivial rfl rfl rfl
    · refine V.iload_n (pc' := 15) C 3 dX0_which_14 rfl rfl ?_
      refine V.aload_n (pc' := 16) C 0 dX0_which_15 rfl rfl ?_
      refine V.iload_n (pc' := 17) C 1 dX0_which_16 rfl rfl ?_
      refine V.iload_n (pc' := 18) C 2 dX0_which_17 rfl rfl ?_
      refine V.iload (pc' := 20) C 4 dX0_which_18 rfl rfl ?_
      refine V.callV (pc' := 23) (wr := []) C (ct_X0_isSo M.l M.G ad i j N g K2 t2 sn sh2 c 0 (nI v) sm n ok (by omega) (by omega) hc (by decide) (bfit_nI (by omega)) (okP_up ok (ix := c) (v := v) (by omega))) dX0_which_20 rfl (lw_V q773 q775 qs30 q64 q776) hyv_X0_isSo rfl rfl 0 rfl rfl [0, 1, 2, 3, 4, 5, 6, 7, 8, 9, 10, 11, 12, 13, 14, 15] [] [0, 1, 2, 3, 4, 5, 6, 7, 8, 9, 10, 11, 12, 13, 14, 15] rfl rfl rfl (fun _ => [xO ad i j, (ad 1, .inl (M.G.2 4, 4, .inr (.inr (.inr (.inr (fun k => some (ad (2 + k)))))))), (ad 2, .inr (1, [])), (ad 3, .inr (2, [])), (ad 4, .inr (3, [])), (ad 5, .inr (4, [])), wO (ad 6) (ad 7) (ad 8) (ad 9) N g, (ad 7, .inl (M.G.2 1, 20, .inl (wcl g))), (ad 8, .inl (M.G.2 0, 25, .inl (wgt g))), (ad 9, .inl (M.G.2 1, 18, .inl (wpl g))), wO (ad 10) (ad 11) (ad 12) (ad 13) N (nightsTo (upd g c (nI v)) N 21), (ad 11, .inl (M.G.2 1, 20, .inl (wcl (nightsTo (upd g c (nI v)) N 21)))), (ad 12, .inl (M.G.2 0, 25, .inl (wgt (nightsTo (upd g c (nI v)) N 21)))), (ad 13, .inl (M.G.2 1, 18, .inl (wpl (nightsTo (upd g c (nI v)) N 21)))), (ad 27, .inl (M.G.2 1, 18, .inl sn)), (ad 30, .inl (M.G.2 1, 105, .inl (shB sh2 (upd g c (nI v)) N 21 0)))]) (fun _ => rfl) rfl 0 0 rfl rfl (fun _ => [.int (bI (seenOk (upd g c (nI v)) sn N sm)), .int (whTo g c sn N sm v)]) (fun _ => rfl) (fun _ _ => ?_)
      have J6 : ∀ (x5 : Int32), x5 = (if seenOk (upd g c (nI v)) sn N sm then 1 <<< (nI v &&& 31) else 0) → V M 0 0 [xO ad i j, (ad 1, .inl (M.G.2 4, 4, .inr (.inr (.inr (.inr (fun k => some (ad (2 + k)))))))), (ad 2, .inr (1, [])), (ad 3, .inr (2, [])), (ad 4, .inr (3, [])), (ad 5, .inr (4, [])), wO (ad 6) (ad 7) (ad 8) (ad 9) N g, (ad 7, .inl (M.G.2 1, 20, .inl (wcl g))), (ad 8, .inl (M.G.2 0, 25, .inl (wgt g))), (ad 9, .inl (M.G.2 1, 18, .inl (wpl g))), wO (ad 10) (ad 11) (ad 12) (ad 13) N (nightsTo (upd g c (nI v)) N 21), (ad 11, .inl (M.G.2 1, 20, .inl (wcl (nightsTo (upd g c (nI v)) N 21)))), (ad 12, .inl (M.G.2 0, 25, .inl (wgt (nightsTo (upd g c (nI v)) N 21)))), (ad 13, .inl (M.G.2 1, 18, .inl (wpl (nightsTo (upd g c (nI v)) N 21)))), (ad 27, .inl (M.G.2 1, 18, .inl sn)), (ad 30, .inl (M.G.2 1, 105, .inl (shB sh2 (upd g c (nI v)) N 21 0)))] [(0, .ref (ad 0)), (1, .int (nI c)), (2, .int 0), (3, .int (whTo g c sn N sm v)), (4, .int (nI v))] [.int x5, .int (whTo g c sn N sm v)] 34 := by
        intro x5 ex5
        subst ex5
        refine V.ior (pc' := 35) C dX0_which_34 rfl ?_
        refine V.istore_n (pc' := 36) C [(3, .int ((whTo g c sn N sm v) ||| (if seenOk (upd g c (nI v)) sn N sm then 1 <<< (nI v &&& 31) else 0))), (0, .ref (ad 0)), (1, .int (nI c)), (2, .int 0), (4, .int (nI v))] dX0_which_35 rfl 5 hnL rfl rfl ?_
        refine V.iinc (pc' := 39) C (nI (v + 1)) [(4, .int (nI (v + 1))), (3, .int ((whTo g c sn N sm v) ||| (if seenOk (upd g c (nI v)) sn N sm then 1 <<< (nI v &&& 31) else 0))), (0, .ref (ad 0)), (1, .int (nI c)), (2, .int 0)] dX0_which_36 rfl 5 hnL rfl 4 rfl (ii_N v 1 rfl) rfl ?_
        refine V.goto C 5 dX0_which_39 rfl ?_
        refine V.lvs [2, 3, 4, 1, 0] (lv2 := [(0, .ref (ad 0)), (1, .int (nI c)), (2, .int 0), (3, .int (whTo g c sn N sm (v + 1))), (4, .int (nI (v + 1)))]) rfl ?_
        exact ih_L1 (by omega) N (nightsTo (upd g c (nI v)) N 21) (shB sh2 (upd g c (nI v)) N 21 0)
      refine V.if_eqB (pc' := 26) C 33 dX0_which_23 rfl rfl (fun h4 => ?_) (fun h4 => ?_)
      · refine V.iconst (pc' := 34) C dX0_which_33 rfl kci_0 ?_
        exact J6 _ (by rw [if_neg h4])
      · refine V.iconst (pc' := 27) C dX0_which_26 rfl kci_1 ?_
        refine V.iload (pc' := 29) C 4 dX0_which_27 rfl rfl ?_
        refine V.ishl (pc' := 30) C dX0_which_29 rfl ?_
        refine V.goto C 34 dX0_which_30 rfl ?_
        exact J6 _ (by rw [if_pos h4])
  refine V.lvs [2, 3, 4, 1, 0] (lv2 := [(0, .ref (ad 0)), (1, .int (nI c)), (2, .int 0), (3, .int (whTo g c sn N sm 0)), (4, .int (nI 0))]) rfl ?_
  exact L1 0 (by omega) K t sh
set_option maxHeartbeats 4000000 in
theorem ct_X0_which2 (l : Launch) (G : GG) (ad : Nat → Nat) (i : Nat → Int32) (j : Nat → Int64) (N : Nat) (g : Pg) (K : Nat) (t : Pg) (sn : Nat → Int32) (sh : Nat → Int32) (c : Nat) (sm : Nat) (n : Nat) (ok : okP g N n) (hs : i 7 = nI sm) (hok : okS sn N sm) (hc : c < 5) : Ct l G yX0_which (ws_ yX0_which cX0_which 5 (some .int)) ({ frames := 6, cells := 0, slots := 0, locals := 132 } : Room) [.ref (ad 0), .int (nI c), .int 2] [xO ad i j, (ad 1, .inl (G.2 4, 4, .inr (.inr (.inr (.inr (fun k => some (ad (2 + k)))))))), (ad 2, .inr (1, [])), (ad 3, .inr (2, [])), (ad 4, .inr (3, [])), (ad 5, .inr (4, [])), wO (ad 6) (ad 7) (ad 8) (ad 9) N g, (ad 7, .inl (G.2 1, 20, .inl (wcl g))), (ad 8, .inl (G.2 0, 25, .inl (wgt g))), (ad 9, .inl (G.2 1, 18, .inl (wpl g))), wO (ad 10) (ad 11) (ad 12) (ad 13) K t, (ad 11, .inl (G.2 1, 20, .inl (wcl t))), (ad 12, .inl (G.2 0, 25, .inl (wgt t))), (ad 13, .inl (G.2 1, 18, .inl (wpl t))), (ad 27, .inl (G.2 1, 18, .inl sn)), (ad 30, .inl (G.2 1, 105, .inl sh))] (fun u : Nat × Pg × Pg => some (.int (whTo g (10 + c) sn N sm 7))) (fun u => True) (fun u => [xO ad i j, (ad 1, .inl (G.2 4, 4, .inr (.inr (.inr (.inr (fun k => some (ad (2 + k)))))))), (ad 2, .inr (1, [])), (ad 3, .inr (2, [])), (ad 4, .inr (3, [])), (ad 5, .inr (4, [])), wO (ad 6) (ad 7) (ad 8) (ad 9) N g, (ad 7, .inl (G.2 1, 20, .inl (wcl g))), (ad 8, .inl (G.2 0, 25, .inl (wgt g))), (ad 9, .inl (G.2 1, 18, .inl (wpl g))), wO (ad 10) (ad 11) (ad 12) (ad 13) u.1 u.2.1, (ad 11, .inl (G.2 1, 20, .inl (wcl u.2.1))), (ad 12, .inl (G.2 0, 25, .inl (wgt u.2.1))), (ad 13, .inl (G.2 1, 18, .inl (wpl u.2.1))), (ad 27, .inl (G.2 1, 18, .inl sn)), (ad 30, .inl (G.2 1, 105, .inl u.2.2))]) := by
  refine Ct.of rfl rfl ?_
  intro M el eG hnL C T
  subst el
  subst eG
  have C : Cx M cX0_which "ClockWard" ({ frames := 6, cells := 0, slots := 0, locals := 132 } : Room) := C
  have hN5 := ok.n5
  have hn6 := ok.n6
  refine V.lvs [0, 1, 2] (lv2 := [(0, .ref (ad 0)), (1, .int (nI c)), (2, .int 2)]) rfl ?_
  refine V.iconst (pc' := 1) C dX0_which_0 rfl kci_0 ?_
  refine V.istore_n (pc' := 2) C [(3, .int 0), (0, .ref (ad 0)), (1, .int (nI c)), (2, .int 2)] dX0_which_1 rfl 5 hnL rfl rfl ?_
  refine V.iconst (pc' := 3) C dX0_which_2 rfl kci_0 ?_
  refine V.istore (pc' := 5) C [(4, .int 0), (3, .int 0), (0, .ref (ad 0)), (1, .int (nI c)), (2, .int 2)] dX0_which_3 rfl 5 hnL rfl rfl ?_
  have L1 : ∀ v : Nat, v ≤ 7 → ∀ (K2 : Nat), ∀ (t2 : Pg), ∀ (sh2 : Nat → Int32), V M 0 0 [xO ad i j, (ad 1, .inl (M.G.2 4, 4, .inr (.inr (.inr (.inr (fun k => some (ad (2 + k)))))))), (ad 2, .inr (1, [])), (ad 3, .inr (2, [])), (ad 4, .inr (3, [])), (ad 5, .inr (4, [])), wO (ad 6) (ad 7) (ad 8) (ad 9) N g, (ad 7, .inl (M.G.2 1, 20, .inl (wcl g))), (ad 8, .inl (M.G.2 0, 25, .inl (wgt g))), (ad 9, .inl (M.G.2 1, 18, .inl (wpl g))), wO (ad 10) (ad 11) (ad 12) (ad 13) K2 t2, (ad 11, .inl (M.G.2 1, 20, .inl (wcl t2))), (ad 12, .inl (M.G.2 0, 25, .inl (wgt t2))), (ad 13, .inl (M.G.2 1, 18, .inl (wpl t2))), (ad 27, .inl (M.G.2 1, 18, .inl sn)), (ad 30, .inl (M.G.2 1, 105, .inl sh2))] [(0, .ref (ad 0)), (1, .int (nI c)), (2, .int 2), (3, .int (whTo g (10 + c) sn N sm v)), (4, .int (nI v))] [] 5 := by
    refine loopN _ 7 (fun v hv ih_L1 => ?_)
    intro K2 t2 sh2 
    refine V.iload (pc' := 7) C 4 dX0_which_5 rfl rfl ?_
    refine V.iload_n (pc' := 8) C 2 dX0_which_7 rfl rfl ?_
    refine V.callS (pc' := 11) (wr := [xO ad i j, (ad 1, .inl (M.G.2 4, 4, .inr (.inr (.inr (.inr (fun k => some (ad (2 + k)))))))), (ad 2, .inr (1, [])), (ad 3, .inr (2, [])), (ad 4, .inr (3, [])), (ad 5, .inr (4, [])), wO (ad 6) (ad 7) (ad 8) (ad 9) N g, (ad 7, .inl (M.G.2 1, 20, .inl (wcl g))), (ad 8, .inl (M.G.2 0, 25, .inl (wgt g))), (ad 9, .inl (M.G.2 1, 18, .inl (wpl g))), wO (ad 10) (ad 11) (ad 12) (ad 13) K2 t2, (ad 11, .inl (M.G.2 1, 20, .inl (wcl t2))), (ad 12, .inl (M.G.2 0, 25, .inl (wgt t2))), (ad 13, .inl (M.G.2 1, 18, .inl (wpl t2))), (ad 27, .inl (M.G.2 1, 18, .inl sn)), (ad 30, .inl (M.G.2 1, 105, .inl sh2))]) C (ct_X0_mostOf M.l M.G 2 ) dX0_which_8 rfl (lw_S q584 q585 q64 q586) hys_X0_mostOf rfl rfl [] [0, 1, 2, 3, 4, 5, 6, 7, 8, 9, 10, 11, 12, 13, 14, 15] [0, 1, 2, 3, 4, 5, 6, 7, 8, 9, 10, 11, 12, 13, 14, 15] rfl rfl rfl (fun _ => [xO ad i j, (ad 1, .inl (M.G.2 4, 4, .inr (.inr (.inr (.inr (fun k => some (ad (2 + k)))))))), (ad 2, .inr (1, [])), (ad 3, .inr (2, [])), (ad 4, .inr (3, [])), (ad 5, .inr (4, [])), wO (ad 6) (ad 7) (ad 8) (ad 9) N g, (ad 7, .inl (M.G.2 1, 20, .inl (wcl g))), (ad 8, .inl (M.G.2 0, 25, .inl (wgt g))), (ad 9, .inl (M.G.2 1, 18, .inl (wpl g))), wO (ad 10) (ad 11) (ad 12) (ad 13) K2 t2, (ad 11, .inl (M.G.2 1, 20, .inl (wcl t2))), (ad 12, .inl (M.G.2 0, 25, .inl (wgt t2))), (ad 13, .inl (M.G.2 1, 18, .inl (wpl t2))), (ad 27, .inl (M.G.2 1, 18, .inl sn)), (ad 30, .inl (M.G.2 1, 105, .inl sh2))]) (fun _ => rfl) rfl 0 0 rfl rfl (fun _ => [.int (altMost 2), .int (nI v)]) (fun _ => rfl) (fun _ _ => ?_)
    refine V.topI (y := 6) (by decide) ?_
    refine V.icmp_gtN (pc' := 14) C v 6 (by omega) (by omega) 42 dX0_which_11 rfl rfl (fun h2 => ?_) (fun h2 => ?_)
    · have hx3 : 7 = v := by omega
      subst hx3
      refine V.iload_n (pc' := 43) C 3 dX0_which_42 rfl rfl ?_
      exact V.iret C T dX0_which_43 (K2, t2, sh2) rfl rfl rfl rfl trivial rfl rfl rfl
    · refine V.iload_n (pc' := 15) C 3 dX0_which_14 rfl rfl ?_
      refine V.aload_n (pc' := 16) C 0 dX0_which_15 rfl rfl ?_
      refine V.iload_n (pc' := 17) C 1 dX0_which_16 rfl rfl ?_
      refine V.iload_n (pc' := 18) C 2 dX0_which_17 rfl rfl ?_
      refine V.iload (pc' := 20) C 4 dX0_which_18 rfl rfl ?_
      refine V.callV (pc' := 23) (wr := []) C (ct_X0_isSo M.l M.G ad i j N g K2 t2 sn sh2 c 2 (nI v) sm n ok (by omega) (by omega) hc (by decide) (bfit_nI (by omega)) (okP_up ok (ix := 10 + c) (v := v) (by omega))) dX0_which_20 rfl (lw_V q773 q775 qs30 q64 q776) hyv_X0_isSo rfl rfl 0 rfl rfl [0, 1, 2, 3, 4, 5, 6, 7, 8, 9, 10, 11, 12, 13, 14, 15] [] [0, 1, 2, 3, 4, 5, 6, 7, 8, 9, 10, 11, 12, 13, 14, 15] rfl rfl rfl (fun _ => [xO ad i j, (ad 1, .inl (M.G.2 4, 4, .inr (.inr (.inr (.inr (fun k => some (ad (2 + k)))))))), (ad 2, .inr (1, [])), (ad 3, .inr (2, [])), (ad 4, .inr (3, [])), (ad 5, .inr (4, [])), wO (ad 6) (ad 7) (ad 8) (ad 9) N g, (ad 7, .inl (M.G.2 1, 20, .inl (wcl g))), (ad 8, .inl (M.G.2 0, 25, .inl (wgt g))), (ad 9, .inl (M.G.2 1, 18, .inl (wpl g))), wO (ad 10) (ad 11) (ad 12) (ad 13) N (nightsTo (upd g (10 + c) (nI v)) N 21), (ad 11, .inl (M.G.2 1, 20, .inl (wcl (nightsTo (upd g (10 + c) (nI v)) N 21)))), (ad 12, .inl (M.G.2 0, 25, .inl (wgt (nightsTo (upd g (10 + c) (nI v)) N 21)))), (ad 13, .inl (M.G.2 1, 18, .inl (wpl (nightsTo (upd g (10 + c) (nI v)) N 21)))), (ad 27, .inl (M.G.2 1, 18, .inl sn)), (ad 30, .inl (M.G.2 1, 105, .inl (shB sh2 (upd g (10 + c) (nI v)) N 21 0)))]) (fun _ => rfl) rfl 0 0 rfl rfl (fun _ => [.int (bI (seenOk (upd g (10 + c) (nI v)) sn N sm)), .int (whTo g (10 + c) sn N sm v)]) (fun _ => rfl) (fun _ _ => ?_)
      have J6 : ∀ (x5 : Int32), x5 = (if seenOk (upd g (10 + c) (nI v)) sn N sm then 1 <<< (nI v &&& 31) else 0) → V M 0 0 [xO ad i j, (ad 1, .inl (M.G.2 4, 4, .inr (.inr (.inr (.inr (fun k => some (ad (2 + k)))))))), (ad 2, .inr (1, [])), (ad 3, .inr (2, [])), (ad 4, .inr (3, [])), (ad 5, .inr (4, [])), wO (ad 6) (ad 7) (ad 8) (ad 9) N g, (ad 7, .inl (M.G.2 1, 20, .inl (wcl g))), (ad 8, .inl (M.G.2 0, 25, .inl (wgt g))), (ad 9, .inl (M.G.2 1, 18, .inl (wpl g))), wO (ad 10) (ad 11) (ad 12) (ad 13) N (nightsTo (upd g (10 + c) (nI v)) N 21), (ad 11, .inl (M.G.2 1, 20, .inl (wcl (nightsTo (upd g (10 + c) (nI v)) N 21)))), (ad 12, .inl (M.G.2 0, 25, .inl (wgt (nightsTo (upd g (10 + c) (nI v)) N 21)))), (ad 13, .inl (M.G.2 1, 18, .inl (wpl (nightsTo (upd g (10 + c) (nI v)) N 21)))), (ad 27, .inl (M.G.2 1, 18, .inl sn)), (ad 30, .inl (M.G.2 1, 105, .inl (shB sh2 (upd g (10 + c) (nI v)) N 21 0)))] [(0, .ref (ad 0)), (1, .int (nI c)), (2, .int 2), (3, .int (whTo g (10 + c) sn N sm v)), (4, .int (nI v))] [.int x5, .int (whTo g (10 + c) sn N sm v)] 34 := by
        intro x5 ex5
        subst ex5
        refine V.ior (pc' := 35) C dX0_which_34 rfl ?_
        refine V.istore_n (pc' := 36) C [(3, .int ((whTo g (10 + c) sn N sm v) ||| (if seenOk (upd g (10 + c) (nI v)) sn N sm then 1 <<< (nI v &&& 31) else 0))), (0, .ref (ad 0)), (1, .int (nI c)), (2, .int 2), (4, .int (nI v))] dX0_which_35 rfl 5 hnL rfl rfl ?_
        refine V.iinc (pc' := 39) C (nI (v + 1)) [(4, .int (nI (v + 1))), (3, .int ((whTo g (10 + c) sn N sm v) ||| (if seenOk (upd g (10 + c) (nI v)) sn N sm then 1 <<< (nI v &&& 31) else 0))), (0, .ref (ad 0)), (1, .int (nI c)), (2, .int 2)] dX0_which_36 rfl 5 hnL rfl 4 rfl (ii_N v 1 rfl) rfl ?_
        refine V.goto C 5 dX0_which_39 rfl ?_
        refine V.lvs [2, 3, 4, 1, 0] (lv2 := [(0, .ref (ad 0)), (1, .int (nI c)), (2, .int 2), (3, .int (whTo g (10 + c) sn N sm (v + 1))), (4, .int (nI (v + 1)))]) rfl ?_
        exact ih_L1 (by omega) N (nightsTo (upd g (10 + c) (nI v)) N 21) (shB sh2 (upd g (10 + c) (nI v)) N 21 0)
      refine V.if_eqB (pc' := 26) C 33 dX0_which_23 rfl rfl (fun h4 => ?_) (fun h4 => ?_)
      · refine V.iconst (pc' := 34) C dX0_which_33 rfl kci_0 ?_
        exact J6 _ (by rw [if_neg h4])
      · refine V.iconst (pc' := 27) C dX0_which_26 rfl kci_1 ?_
        refine V.iload (pc' := 29) C 4 dX0_which_27 rfl rfl ?_
        refine V.ishl (pc' := 30) C dX0_which_29 rfl ?_
        refine V.goto C 34 dX0_which_30 rfl ?_
        exact J6 _ (by rw [if_pos h4])
  refine V.lvs [2, 3, 4, 1, 0] (lv2 := [(0, .ref (ad 0)), (1, .int (nI c)), (2, .int 2), (3, .int (whTo g (10 + c) sn N sm 0)), (4, .int (nI 0))]) rfl ?_
  exact L1 0 (by omega) K t sh
set_option maxHeartbeats 4000000 in
theorem ct_X0_kinds (l : Launch) (G : GG) (ad : Nat → Nat) (i : Nat → Int32) (j : Nat → Int64) (N : Nat) (g : Pg) (K : Nat) (t : Pg) (sn : Nat → Int32) (sh : Nat → Int32) (x : Int32) (sm : Nat) (n : Nat) (ok : okP g N n) (hs : i 7 = nI sm) (hok : okS sn N sm) : Ct l G yX0_kinds (ws_ yX0_kinds cX0_kinds 2 (some .int)) ({ frames := 7, cells := 0, slots := 0, locals := 156 } : Room) [.ref (ad 0), .int x] [xO ad i j, (ad 1, .inl (G.2 4, 4, .inr (.inr (.inr (.inr (fun k => some (ad (2 + k)))))))), (ad 2, .inr (1, [])), (ad 3, .inr (2, [])), (ad 4, .inr (3, [])), (ad 5, .inr (4, [])), wO (ad 6) (ad 7) (ad 8) (ad 9) N g, (ad 7, .inl (G.2 1, 20, .inl (wcl g))), (ad 8, .inl (G.2 0, 25, .inl (wgt g))), (ad 9, .inl (G.2 1, 18, .inl (wpl g))), wO (ad 10) (ad 11) (ad 12) (ad 13) K t, (ad 11, .inl (G.2 1, 20, .inl (wcl t))), (ad 12, .inl (G.2 0, 25, .inl (wgt t))), (ad 13, .inl (G.2 1, 18, .inl (wpl t))), (ad 27, .inl (G.2 1, 18, .inl sn)), (ad 30, .inl (G.2 1, 105, .inl sh))] (fun u : Nat × Pg × Pg => some (.int (a_kinds g sn N sm x))) (fun u => True) (fun u => [xO ad i j, (ad 1, .inl (G.2 4, 4, .inr (.inr (.inr (.inr (fun k => some (ad (2 + k)))))))), (ad 2, .inr (1, [])), (ad 3, .inr (2, [])), (ad 4, .inr (3, [])), (ad 5, .inr (4, [])), wO (ad 6) (ad 7) (ad 8) (ad 9) N g, (ad 7, .inl (G.2 1, 20, .inl (wcl g))), (ad 8, .inl (G.2 0, 25, .inl (wgt g))), (ad 9, .inl (G.2 1, 18, .inl (wpl g))), wO (ad 10) (ad 11) (ad 12) (ad 13) u.1 u.2.1, (ad 11, .inl (G.2 1, 20, .inl (wcl u.2.1))), (ad 12, .inl (G.2 0, 25, .inl (wgt u.2.1))), (ad 13, .inl (G.2 1, 18, .inl (wpl u.2.1))), (ad 27, .inl (G.2 1, 18, .inl sn)), (ad 30, .inl (G.2 1, 105, .inl u.2.2))]) := by
  refine Ct.of rfl rfl ?_
  intro M el eG hnL C T
  subst el
  subst eG
  have C : Cx M cX0_kinds "ClockWard" ({ frames := 7, cells := 0, slots := 0, locals := 156 } : Room) := C
  have hN5 := ok.n5
  have hn6 := ok.n6
  refine V.lvs [0, 1] (lv2 := [(0, .ref (ad 0)), (1, .int x)]) rfl ?_
  refine V.aload_n (pc' := 1) C 0 dX0_kinds_0 rfl rfl ?_
  refine V.iload_n (pc' := 2) C 1 dX0_kinds_1 rfl rfl ?_
  refine V.callV (pc' := 5) (wr := [(ad 1, .inl (M.G.2 4, 4, .inr (.inr (.inr (.inr (fun k => some (ad (2 + k)))))))), (ad 2, .inr (1, [])), (ad 3, .inr (2, [])), (ad 4, .inr (3, [])), (ad 5, .inr (4, [])), wO (ad 10) (ad 11) (ad 12) (ad 13) K t, (ad 11, .inl (M.G.2 1, 20, .inl (wcl t))), (ad 12, .inl (M.G.2 0, 25, .inl (wgt t))), (ad 13, .inl (M.G.2 1, 18, .inl (wpl t))), (ad 27, .inl (M.G.2 1, 18, .inl sn)), (ad 30, .inl (M.G.2 1, 105, .inl sh))]) C (ct_X0_isClock M.l M.G ad i j N g x ) dX0_kinds_2 rfl (lw_V q535 q537 qs13 q64 q538) hyv_X0_isClock rfl rfl 0 rfl rfl [0, 6, 7, 8, 9] [1, 2, 3, 4, 5, 10, 11, 12, 13, 14, 15] [11, 0, 1, 2, 3, 4, 12, 13, 14, 15, 5, 6, 7, 8, 9, 10] rfl rfl rfl (fun _ => [xO ad i j, (ad 1, .inl (M.G.2 4, 4, .inr (.inr (.inr (.inr (fun k => some (ad (2 + k)))))))), (ad 2, .inr (1, [])), (ad 3, .inr (2, [])), (ad 4, .inr (3, [])), (ad 5, .inr (4, [])), wO (ad 6) (ad 7) (ad 8) (ad 9) N g, (ad 7, .inl (M.G.2 1, 20, .inl (wcl g))), (ad 8, .inl (M.G.2 0, 25, .inl (wgt g))), (ad 9, .inl (M.G.2 1, 18, .inl (wpl g))), wO (ad 10) (ad 11) (ad 12) (ad 13) K t, (ad 11, .inl (M.G.2 1, 20, .inl (wcl t))), (ad 12, .inl (M.G.2 0, 25, .inl (wgt t))), (ad 13, .inl (M.G.2 1, 18, .inl (wpl t))), (ad 27, .inl (M.G.2 1, 18, .inl sn)), (ad 30, .inl (M.G.2 1, 105, .inl sh))]) (fun _ => rfl) rfl 0 0 rfl rfl (fun _ => [.int (bI (isC N x))]) (fun _ => rfl) (fun _ _ => ?_)
  refine V.if_eqB (pc' := 8) C 17 dX0_kinds_5 rfl rfl (fun h1 => ?_) (fun h1 => ?_)
  · refine V.iconst (pc' := 18) C dX0_kinds_17 rfl kci_m1 ?_
    exact V.iret C T dX0_kinds_18 (K, t, sh) rfl rfl (if_neg (fun z => h1 z)).symm rfl trivial rfl rfl rfl
  · obtain ⟨c, hc, rfl⟩ := isC_nat hN5 h1
    refine V.aload_n (pc' := 9) C 0 dX0_kinds_8 rfl rfl ?_
    refine V.iload_n (pc' := 10) C 1 dX0_kinds_9 rfl rfl ?_
    refine V.iconst (pc' := 11) C dX0_kinds_10 rfl kci_0 ?_
    refine V.callV (pc' := 14) (wr := []) C (ct_X0_which0 M.l M.G ad i j N g K t sn sh c sm n ok hs hok (by omega)) dX0_kinds_11 rfl (lw_V q769 q771 qs29 q64 q772) hyv_X0_which rfl rfl 0 rfl rfl [0, 1, 2, 3, 4, 5, 6, 7, 8, 9, 10, 11, 12, 13, 14, 15] [] [0, 1, 2, 3, 4, 5, 6, 7, 8, 9, 10, 11, 12, 13, 14, 15] rfl rfl rfl (fun u2 => [xO ad i j, (ad 1, .inl (M.G.2 4, 4, .inr (.inr (.inr (.inr (fun k => some (ad (2 + k)))))))), (ad 2, .inr (1, [])), (ad 3, .inr (2, [])), (ad 4, .inr (3, [])), (ad 5, .inr (4, [])), wO (ad 6) (ad 7) (ad 8) (ad 9) N g, (ad 7, .inl (M.G.2 1, 20, .inl (wcl g))), (ad 8, .inl (M.G.2 0, 25, .inl (wgt g))), (ad 9, .inl (M.G.2 1, 18, .inl (wpl g))), wO (ad 10) (ad 11) (ad 12) (ad 13) u2.1 u2.2.1, (ad 11, .inl (M.G.2 1, 20, .inl (wcl u2.2.1))), (ad 12, .inl (M.G.2 0, 25, .inl (wgt u2.2.1))), (ad 13, .inl (M.G.2 1, 18, .inl (wpl u2.2.1))), (ad 27, .inl (M.G.2 1, 18, .inl sn)), (ad 30, .inl (M.G.2 1, 105, .inl u2.2.2))]) (fun _ => rfl) rfl 0 0 rfl rfl (fun u2 => [.int (whTo g c sn N sm 4)]) (fun _ => rfl) (fun u2 hu2 => ?_)
    refine V.goto C 18 dX0_kinds_14 rfl ?_
    exact V.iret C T dX0_kinds_18 (u2.1, u2.2.1, u2.2.2) rfl rfl (Eq.trans (by rw [cn_nI (by omega)]) (if_pos h1).symm) rfl trivial rfl rfl rfl
set_option maxHeartbeats 4000000 in
theorem ct_X0_rates (l : Launch) (G : GG) (ad : Nat → Nat) (i : Nat → Int32) (j : Nat → Int64) (N : Nat) (g : Pg) (K : Nat) (t : Pg) (sn : Nat → Int32) (sh : Nat → Int32) (x : Int32) (sm : Nat) (n : Nat) (ok : okP g N n) (hs : i 7 = nI sm) (hok : okS sn N sm) : Ct l G yX0_rates (ws_ yX0_rates cX0_rates 2 (some .int)) ({ frames := 7, cells := 0, slots := 0, locals := 156 } : Room) [.ref (ad 0), .int x] [xO ad i j, (ad 1, .inl (G.2 4, 4, .inr (.inr (.inr (.inr (fun k => some (ad (2 + k)))))))), (ad 2, .inr (1, [])), (ad 3, .inr (2, [])), (ad 4, .inr (3, [])), (ad 5, .inr (4, [])), wO (ad 6) (ad 7) (ad 8) (ad 9) N g, (ad 7, .inl (G.2 1, 20, .inl (wcl g))), (ad 8, .inl (G.2 0, 25, .inl (wgt g))), (ad 9, .inl (G.2 1, 18, .inl (wpl g))), wO (ad 10) (ad 11) (ad 12) (ad 13) K t, (ad 11, .inl (G.2 1, 20, .inl (wcl t))), (ad 12, .inl (G.2 0, 25, .inl (wgt t))), (ad 13, .inl (G.2 1, 18, .inl (wpl t))), (ad 27, .inl (G.2 1, 18, .inl sn)), (ad 30, .inl (G.2 1, 105, .inl sh))] (fun u : Nat × Pg × Pg => some (.int (a_rates g sn N sm x))) (fun u => True) (fun u => [xO ad i j, (ad 1, .inl (G.2 4, 4, .inr (.inr (.inr (.inr (fun k => some (ad (2 + k)))))))), (ad 2, .inr (1, [])), (ad 3, .inr (2, [])), (ad 4, .inr (3, [])), (ad 5, .inr (4, [])), wO (ad 6) (ad 7) (ad 8) (ad 9) N g, (ad 7, .inl (G.2 1, 20, .inl (wcl g))), (ad 8, .inl (G.2 0, 25, .inl (wgt g))), (ad 9, .inl (G.2 1, 18, .inl (wpl g))), wO (ad 10) (ad 11) (ad 12) (ad 13) u.1 u.2.1, (ad 11, .inl (G.2 1, 20, .inl (wcl u.2.1))), (ad 12, .inl (G.2 0, 25, .inl (wgt u.2.1))), (ad 13, .inl (G.2 1, 18, .inl (wpl u.2.1))), (ad 27, .inl (G.2 1, 18, .inl sn)), (ad 30, .inl (G.2 1, 105, .inl u.2.2))]) := by
  refine Ct.of rfl rfl ?_
  intro M el eG hnL C T
  subst el
  subst eG
  have C : Cx M cX0_rates "ClockWard" ({ frames := 7, cells := 0, slots := 0, locals := 156 } : Room) := C
  have hN5 := ok.n5
  have hn6 := ok.n6
  refine V.lvs [0, 1] (lv2 := [(0, .ref (ad 0)), (1, .int x)]) rfl ?_
  refine V.aload_n (pc' := 1) C 0 dX0_rates_0 rfl rfl ?_
  refine V.iload_n (pc' := 2) C 1 dX0_rates_1 rfl rfl ?_
  refine V.callV (pc' := 5) (wr := [(ad 1, .inl (M.G.2 4, 4, .inr (.inr (.inr (.inr (fun k => some (ad (2 + k)))))))), (ad 2, .inr (1, [])), (ad 3, .inr (2, [])), (ad 4, .inr (3, [])), (ad 5, .inr (4, [])), wO (ad 10) (ad 11) (ad 12) (ad 13) K t, (ad 11, .inl (M.G.2 1, 20, .inl (wcl t))), (ad 12, .inl (M.G.2 0, 25, .inl (wgt t))), (ad 13, .inl (M.G.2 1, 18, .inl (wpl t))), (ad 27, .inl (M.G.2 1, 18, .inl sn)), (ad 30, .inl (M.G.2 1, 105, .inl sh))]) C (ct_X0_isClock M.l M.G ad i j N g x ) dX0_rates_2 rfl (lw_V q535 q537 qs13 q64 q538) hyv_X0_isClock rfl rfl 0 rfl rfl [0, 6, 7, 8, 9] [1, 2, 3, 4, 5, 10, 11, 12, 13, 14, 15] [11, 0, 1, 2, 3, 4, 12, 13, 14, 15, 5, 6, 7, 8, 9, 10] rfl rfl rfl (fun _ => [xO ad i j, (ad 1, .inl (M.G.2 4, 4, .inr (.inr (.inr (.inr (fun k => some (ad (2 + k)))))))), (ad 2, .inr (1, [])), (ad 3, .inr (2, [])), (ad 4, .inr (3, [])), (ad 5, .inr (4, [])), wO (ad 6) (ad 7) (ad 8) (ad 9) N g, (ad 7, .inl (M.G.2 1, 20, .inl (wcl g))), (ad 8, .inl (M.G.2 0, 25, .inl (wgt g))), (ad 9, .inl (M.G.2 1, 18, .inl (wpl g))), wO (ad 10) (ad 11) (ad 12) (ad 13) K t, (ad 11, .inl (M.G.2 1, 20, .inl (wcl t))), (ad 12, .inl (M.G.2 0, 25, .inl (wgt t))), (ad 13, .inl (M.G.2 1, 18, .inl (wpl t))), (ad 27, .inl (M.G.2 1, 18, .inl sn)), (ad 30, .inl (M.G.2 1, 105, .inl sh))]) (fun _ => rfl) rfl 0 0 rfl rfl (fun _ => [.int (bI (isC N x))]) (fun _ => rfl) (fun _ _ => ?_)
  refine V.if_eqB (pc' := 8) C 17 dX0_rates_5 rfl rfl (fun h1 => ?_) (fun h1 => ?_)
  · refine V.iconst (pc' := 18) C dX0_rates_17 rfl kci_m1 ?_
    exact V.iret C T dX0_rates_18 (K, t, sh) rfl rfl (if_neg (fun z => h1 z)).symm rfl trivial rfl rfl rfl
  · obtain ⟨c, hc, rfl⟩ := isC_nat hN5 h1
    refine V.aload_n (pc' := 9) C 0 dX0_rates_8 rfl rfl ?_
    refine V.iload_n (pc' := 10) C 1 dX0_rates_9 rfl rfl ?_
    refine V.iconst (pc' := 11) C dX0_rates_10 rfl kci_2 ?_
    refine V.callV (pc' := 14) (wr := []) C (ct_X0_which2 M.l M.G ad i j N g K t sn sh c sm n ok hs hok (by omega)) dX0_rates_11 rfl (lw_V q769 q771 qs29 q64 q772) hyv_X0_which rfl rfl 0 rfl rfl [0, 1, 2, 3, 4, 5, 6, 7, 8, 9, 10, 11, 12, 13, 14, 15] [] [0, 1, 2, 3, 4, 5, 6, 7, 8, 9, 10, 11, 12, 13, 14, 15] rfl rfl rfl (fun u2 => [xO ad i j, (ad 1, .inl (M.G.2 4, 4, .inr (.inr (.inr (.inr (fun k => some (ad (2 + k)))))))), (ad 2, .inr (1, [])), (ad 3, .inr (2, [])), (ad 4, .inr (3, [])), (ad 5, .inr (4, [])), wO (ad 6) (ad 7) (ad 8) (ad 9) N g, (ad 7, .inl (M.G.2 1, 20, .inl (wcl g))), (ad 8, .inl (M.G.2 0, 25, .inl (wgt g))), (ad 9, .inl (M.G.2 1, 18, .inl (wpl g))), wO (ad 10) (ad 11) (ad 12) (ad 13) u2.1 u2.2.1, (ad 11, .inl (M.G.2 1, 20, .inl (wcl u2.2.1))), (ad 12, .inl (M.G.2 0, 25, .inl (wgt u2.2.1))), (ad 13, .inl (M.G.2 1, 18, .inl (wpl u2.2.1))), (ad 27, .inl (M.G.2 1, 18, .inl sn)), (ad 30, .inl (M.G.2 1, 105, .inl u2.2.2))]) (fun _ => rfl) rfl 0 0 rfl rfl (fun u2 => [.int (whTo g (10 + c) sn N sm 7)]) (fun _ => rfl) (fun u2 hu2 => ?_)
    refine V.goto C 18 dX0_rates_14 rfl ?_
    exact V.iret C T dX0_rates_18 (u2.1, u2.2.1, u2.2.2) rfl rfl (Eq.trans (by rw [cn_nI (by omega)]) (if_pos h1).symm) rfl trivial rfl rfl rfl
