set_option maxRecDepth 100000
set_option maxHeartbeats 4000000 in
theorem ct_X0_best (l : Launch) (G : GG) (ad : Nat → Nat) (i : Nat → Int32) (j : Nat → Int64) (N : Nat) (g : Pg) (K : Nat) (t : Pg) (Kh : Nat) (th : Pg) (br : Nat → Int32) (x : Int32) (y : Int32) (n : Nat) (ok : okP g N n) : Ct l G yX0_best (ws_ yX0_best cX0_best 3 (some .int)) ({ frames := 6, cells := 0, slots := 0, locals := 140 } : Room) [.ref (ad 0), .int x, .int y] [xO ad i j, wO (ad 6) (ad 7) (ad 8) (ad 9) N g, (ad 7, .inl (G.2 1, 20, .inl (wcl g))), (ad 8, .inl (G.2 0, 25, .inl (wgt g))), (ad 9, .inl (G.2 1, 18, .inl (wpl g))), wO (ad 10) (ad 11) (ad 12) (ad 13) K t, (ad 11, .inl (G.2 1, 20, .inl (wcl t))), (ad 12, .inl (G.2 0, 25, .inl (wgt t))), (ad 13, .inl (G.2 1, 18, .inl (wpl t))), wO (ad 14) (ad 15) (ad 16) (ad 17) Kh th, (ad 15, .inl (G.2 1, 20, .inl (wcl th))), (ad 16, .inl (G.2 0, 25, .inl (wgt th))), (ad 17, .inl (G.2 1, 18, .inl (wpl th))), (ad 29, .inl (G.2 0, 2, .inl br))] (fun u : (Nat → Int32) × Nat × Pg × Nat × Pg × (Nat → Int32) × Pos => some (.int (if bstOk x y then selB g N u.2.2.2.2.2.2 y else -1))) (fun u => Qx i u.1 ∧ (bstOk x y → IsB g N (rowOk g N (cn x)) u.2.2.2.2.2.2)) (fun u => [xO ad u.1 j, wO (ad 6) (ad 7) (ad 8) (ad 9) N g, (ad 7, .inl (G.2 1, 20, .inl (wcl g))), (ad 8, .inl (G.2 0, 25, .inl (wgt g))), (ad 9, .inl (G.2 1, 18, .inl (wpl g))), wO (ad 10) (ad 11) (ad 12) (ad 13) u.2.1 u.2.2.1, (ad 11, .inl (G.2 1, 20, .inl (wcl u.2.2.1))), (ad 12, .inl (G.2 0, 25, .inl (wgt u.2.2.1))), (ad 13, .inl (G.2 1, 18, .inl (wpl u.2.2.1))), wO (ad 14) (ad 15) (ad 16) (ad 17) u.2.2.2.1 u.2.2.2.2.1, (ad 15, .inl (G.2 1, 20, .inl (wcl u.2.2.2.2.1))), (ad 16, .inl (G.2 0, 25, .inl (wgt u.2.2.2.2.1))), (ad 17, .inl (G.2 1, 18, .inl (wpl u.2.2.2.2.1))), (ad 29, .inl (G.2 0, 2, .inl u.2.2.2.2.2.1))]) := by
  refine Ct.of rfl rfl ?_
  intro M el eG hnL C T
  subst el
  subst eG
  have C : Cx M cX0_best "ClockWard" ({ frames := 6, cells := 0, slots := 0, locals := 140 } : Room) := C
  have hN5 := ok.n5
  have hn6 := ok.n6
  refine V.lvs [0, 1, 2] (lv2 := [(0, .ref (ad 0)), (1, .int x), (2, .int y)]) rfl ?_
  refine V.iload_n (pc' := 1) C 1 dX0_best_0 rfl rfl ?_
  refine V.i2l (pc' := 2) C dX0_best_1 rfl ?_
  refine V.lconst (pc' := 3) C dX0_best_2 rfl kcl_0 ?_
  refine V.ldc2 (pc' := 6) C dX0_best_3 rfl q578 ?_
  refine V.callS (pc' := 9) (wr := [xO ad i j, wO (ad 6) (ad 7) (ad 8) (ad 9) N g, (ad 7, .inl (M.G.2 1, 20, .inl (wcl g))), (ad 8, .inl (M.G.2 0, 25, .inl (wgt g))), (ad 9, .inl (M.G.2 1, 18, .inl (wpl g))), wO (ad 10) (ad 11) (ad 12) (ad 13) K t, (ad 11, .inl (M.G.2 1, 20, .inl (wcl t))), (ad 12, .inl (M.G.2 0, 25, .inl (wgt t))), (ad 13, .inl (M.G.2 1, 18, .inl (wpl t))), wO (ad 14) (ad 15) (ad 16) (ad 17) Kh th, (ad 15, .inl (M.G.2 1, 20, .inl (wcl th))), (ad 16, .inl (M.G.2 0, 25, .inl (wgt th))), (ad 17, .inl (M.G.2 1, 18, .inl (wpl th))), (ad 29, .inl (M.G.2 0, 2, .inl br))]) C (ct_X0_in M.l M.G x 0 2 ) dX0_best_6 rfl (lw_S q261 q262 q64 q263) hys_X0_in rfl rfl [] [0, 1, 2, 3, 4, 5, 6, 7, 8, 9, 10, 11, 12, 13] [0, 1, 2, 3, 4, 5, 6, 7, 8, 9, 10, 11, 12, 13] rfl rfl rfl (fun _ => [xO ad i j, wO (ad 6) (ad 7) (ad 8) (ad 9) N g, (ad 7, .inl (M.G.2 1, 20, .inl (wcl g))), (ad 8, .inl (M.G.2 0, 25, .inl (wgt g))), (ad 9, .inl (M.G.2 1, 18, .inl (wpl g))), wO (ad 10) (ad 11) (ad 12) (ad 13) K t, (ad 11, .inl (M.G.2 1, 20, .inl (wcl t))), (ad 12, .inl (M.G.2 0, 25, .inl (wgt t))), (ad 13, .inl (M.G.2 1, 18, .inl (wpl t))), wO (ad 14) (ad 15) (ad 16) (ad 17) Kh th, (ad 15, .inl (M.G.2 1, 20, .inl (wcl th))), (ad 16, .inl (M.G.2 0, 25, .inl (wgt th))), (ad 17, .inl (M.G.2 1, 18, .inl (wpl th))), (ad 29, .inl (M.G.2 0, 2, .inl br))]) (fun _ => rfl) rfl 0 0 rfl rfl (fun _ => [.int (bI (inI x 0 2))]) (fun _ => rfl) (fun _ _ => ?_)
  refine V.if_eqB (pc' := 12) C 31 dX0_best_9 rfl rfl (fun h1 => ?_) (fun h1 => ?_)
  · refine V.iconst (pc' := 32) C dX0_best_31 rfl kci_m1 ?_
    exact V.iret C T dX0_best_32 (i, K, t, Kh, th, br, (0, 0, 0)) rfl rfl (if_neg (fun z => h1 z.1)).symm rfl ⟨⟨rfl, rfl, rfl, rfl, rfl⟩, fun z => absurd z (fun z => h1 z.1)⟩ rfl rfl rfl
  · obtain ⟨m, hm, rfl⟩ := in_nat (m := 2) (by decide) h1
    refine V.iload_n (pc' := 13) C 2 dX0_best_12 rfl rfl ?_
    refine V.i2l (pc' := 14) C dX0_best_13 rfl ?_
    refine V.lconst (pc' := 15) C dX0_best_14 rfl kcl_0 ?_
    refine V.ldc2 (pc' := 18) C dX0_best_15 rfl q578 ?_
    refine V.callS (pc' := 21) (wr := [xO ad i j, wO (ad 6) (ad 7) (ad 8) (ad 9) N g, (ad 7, .inl (M.G.2 1, 20, .inl (wcl g))), (ad 8, .inl (M.G.2 0, 25, .inl (wgt g))), (ad 9, .inl (M.G.2 1, 18, .inl (wpl g))), wO (ad 10) (ad 11) (ad 12) (ad 13) K t, (ad 11, .inl (M.G.2 1, 20, .inl (wcl t))), (ad 12, .inl (M.G.2 0, 25, .inl (wgt t))), (ad 13, .inl (M.G.2 1, 18, .inl (wpl t))), wO (ad 14) (ad 15) (ad 16) (ad 17) Kh th, (ad 15, .inl (M.G.2 1, 20, .inl (wcl th))), (ad 16, .inl (M.G.2 0, 25, .inl (wgt th))), (ad 17, .inl (M.G.2 1, 18, .inl (wpl th))), (ad 29, .inl (M.G.2 0, 2, .inl br))]) C (ct_X0_in M.l M.G y 0 2 ) dX0_best_18 rfl (lw_S q261 q262 q64 q263) hys_X0_in rfl rfl [] [0, 1, 2, 3, 4, 5, 6, 7, 8, 9, 10, 11, 12, 13] [0, 1, 2, 3, 4, 5, 6, 7, 8, 9, 10, 11, 12, 13] rfl rfl rfl (fun _ => [xO ad i j, wO (ad 6) (ad 7) (ad 8) (ad 9) N g, (ad 7, .inl (M.G.2 1, 20, .inl (wcl g))), (ad 8, .inl (M.G.2 0, 25, .inl (wgt g))), (ad 9, .inl (M.G.2 1, 18, .inl (wpl g))), wO (ad 10) (ad 11) (ad 12) (ad 13) K t, (ad 11, .inl (M.G.2 1, 20, .inl (wcl t))), (ad 12, .inl (M.G.2 0, 25, .inl (wgt t))), (ad 13, .inl (M.G.2 1, 18, .inl (wpl t))), wO (ad 14) (ad 15) (ad 16) (ad 17) Kh th, (ad 15, .inl (M.G.2 1, 20, .inl (wcl th))), (ad 16, .inl (M.G.2 0, 25, .inl (wgt th))), (ad 17, .inl (M.G.2 1, 18, .inl (wpl th))), (ad 29, .inl (M.G.2 0, 2, .inl br))]) (fun _ => rfl) rfl 0 0 rfl rfl (fun _ => [.int (bI (inI y 0 2))]) (fun _ => rfl) (fun _ _ => ?_)
    refine V.if_neB (pc' := 24) C 33 dX0_best_21 rfl rfl (fun h2 => ?_) (fun h2 => ?_)
    · refine V.aload_n (pc' := 34) C 0 dX0_best_33 rfl rfl ?_
      refine V.iload_n (pc' := 35) C 1 dX0_best_34 rfl rfl ?_
      refine V.callV (pc' := 38) (wr := []) C (ct_X0_findBest M.l M.G ad i j N g K t Kh th br m n ok (by omega)) dX0_best_35 rfl (lw_V q691 q693 qs19 q64 q694) hyv_X0_findBest rfl rfl 0 rfl rfl [0, 1, 2, 3, 4, 5, 6, 7, 8, 9, 10, 11, 12, 13] [] [0, 1, 2, 3, 4, 5, 6, 7, 8, 9, 10, 11, 12, 13] rfl rfl rfl (fun u3 => [xO ad u3.1 j, wO (ad 6) (ad 7) (ad 8) (ad 9) N g, (ad 7, .inl (M.G.2 1, 20, .inl (wcl g))), (ad 8, .inl (M.G.2 0, 25, .inl (wgt g))), (ad 9, .inl (M.G.2 1, 18, .inl (wpl g))), wO (ad 10) (ad 11) (ad 12) (ad 13) u3.2.1 u3.2.2.1, (ad 11, .inl (M.G.2 1, 20, .inl (wcl u3.2.2.1))), (ad 12, .inl (M.G.2 0, 25, .inl (wgt u3.2.2.1))), (ad 13, .inl (M.G.2 1, 18, .inl (wpl u3.2.2.1))), wO (ad 14) (ad 15) (ad 16) (ad 17) u3.2.2.2.1 u3.2.2.2.2.1, (ad 15, .inl (M.G.2 1, 20, .inl (wcl u3.2.2.2.2.1))), (ad 16, .inl (M.G.2 0, 25, .inl (wgt u3.2.2.2.2.1))), (ad 17, .inl (M.G.2 1, 18, .inl (wpl u3.2.2.2.2.1))), (ad 29, .inl (M.G.2 0, 2, .inl u3.2.2.2.2.2.1))]) (fun _ => rfl) rfl 0 0 rfl rfl (fun u3 => []) (fun _ => rfl) (fun u3 hu3 => ?_)
      have hB := hu3.1
      have hJ := hu3.2.1
      have hQ := hu3.2.2
      have hs2 := hJ.2.2.2.1
      refine V.iload_n (pc' := 39) C 2 dX0_best_38 rfl rfl ?_
      by_cases h4 : y = 0
      · subst h4
        refine V.tableIn C 64 dX0_best_39 (by decide) (by decide) rfl rfl ?_
        refine V.aload_n (pc' := 65) C 0 dX0_best_64 rfl rfl ?_
        refine V.get (pc' := 68) C dX0_best_65 rfl 0 rfl rfl in_X0 13 rfl q196 rfl ?_
        exact V.iret C T dX0_best_68 (u3.1, u3.2.1, u3.2.2.1, u3.2.2.2.1, u3.2.2.2.2.1, u3.2.2.2.2.2.1, u3.2.2.2.2.2.2) rfl rfl (Eq.trans hJ.1 (if_pos ⟨h1, (Or.inl h2)⟩).symm) rfl ⟨hQ, fun _ => by rw [cn_nI (by omega)]; exact hB⟩ rfl rfl rfl
      by_cases h5 : y = 1
      · subst h5
        refine V.tableIn C 69 dX0_best_39 (by decide) (by decide) rfl rfl ?_
        refine V.aload_n (pc' := 70) C 0 dX0_best_69 rfl rfl ?_
        refine V.get (pc' := 73) C dX0_best_70 rfl 0 rfl rfl in_X0 14 rfl q197 rfl ?_
        exact V.iret C T dX0_best_73 (u3.1, u3.2.1, u3.2.2.1, u3.2.2.2.1, u3.2.2.2.2.1, u3.2.2.2.2.2.1, u3.2.2.2.2.2.2) rfl rfl (Eq.trans hJ.2.1 (if_pos ⟨h1, (Or.inl h2)⟩).symm) rfl ⟨hQ, fun _ => by rw [cn_nI (by omega)]; exact hB⟩ rfl rfl rfl
      by_cases h6 : y = 2
      · subst h6
        refine V.tableIn C 74 dX0_best_39 (by decide) (by decide) rfl rfl ?_
        refine V.aload_n (pc' := 75) C 0 dX0_best_74 rfl rfl ?_
        refine V.get (pc' := 78) C dX0_best_75 rfl 0 rfl rfl in_X0 15 rfl q198 rfl ?_
        exact V.iret C T dX0_best_78 (u3.1, u3.2.1, u3.2.2.1, u3.2.2.2.1, u3.2.2.2.2.1, u3.2.2.2.2.2.1, u3.2.2.2.2.2.2) rfl rfl (Eq.trans hJ.2.2.1 (if_pos ⟨h1, (Or.inl h2)⟩).symm) rfl ⟨hQ, fun _ => by rw [cn_nI (by omega)]; exact hB⟩ rfl rfl rfl
      refine V.tableOut C 79 dX0_best_39 (by have := lv_neT (a := 0) h4 (by decide); have := lv_neT (a := 1) h5 (by decide); have := lv_neT (a := 2) h6 (by decide); omega) rfl ?_
      rcases y_1011 (Or.inl h2) h4 h5 h6 with rfl | rfl
      · refine V.iload_n (pc' := 80) C 2 dX0_best_79 rfl rfl ?_
        refine V.bipush (pc' := 82) C dX0_best_80 rfl kcb_10 ?_
        refine V.isub (pc' := 83) C dX0_best_82 rfl ?_
        refine V.topI (y := 0) (by decide) ?_
        refine V.aload_n (pc' := 84) C 0 dX0_best_83 rfl rfl ?_
        refine V.get (pc' := 87) C dX0_best_84 rfl 0 rfl rfl in_X0 14 rfl q197 rfl ?_
        refine V.topI (y := nI u3.2.2.2.2.2.2.1) hJ.2.1 ?_
        refine V.icmp_geN (pc' := 90) C 0 u3.2.2.2.2.2.2.1 (by omega) (by omega) 106 dX0_best_87 rfl rfl (fun h7 => ?_) (fun h7 => ?_)
        · refine V.bipush (pc' := 108) C dX0_best_106 rfl kcb_m4 ?_
          exact V.iret C T dX0_best_108 (u3.1, u3.2.1, u3.2.2.1, u3.2.2.2.1, u3.2.2.2.2.1, u3.2.2.2.2.2.1, u3.2.2.2.2.2.2) rfl rfl (Eq.trans (selB_an (Nat.not_lt.mpr h7)) (if_pos ⟨h1, (Or.inl h2)⟩).symm) rfl ⟨hQ, fun _ => by rw [cn_nI (by omega)]; exact hB⟩ rfl rfl rfl
        · refine V.aload_n (pc' := 91) C 0 dX0_best_90 rfl rfl ?_
          refine V.aload_n (pc' := 92) C 0 dX0_best_91 rfl rfl ?_
          refine V.get (pc' := 95) C dX0_best_92 rfl 0 rfl rfl in_X0 16 rfl q199 rfl ?_
          refine V.iload_n (pc' := 96) C 2 dX0_best_95 rfl rfl ?_
          refine V.bipush (pc' := 98) C dX0_best_96 rfl kcb_10 ?_
          refine V.isub (pc' := 99) C dX0_best_98 rfl ?_
          refine V.topI (y := 0) (by decide) ?_
          refine V.iald (pc' := 100) C 0 dX0_best_99 rfl 13 rfl (by omega) rfl ?_
          obtain ⟨q0, hq0, eq0, ec0⟩ := hJ.2.2.2.2.1 (show 1 ≤ u3.2.2.2.2.2.2.1 by omega)
          refine V.topI (y := nI q0) eq0 ?_
          refine V.callV (pc' := 103) (wr := [wO (ad 10) (ad 11) (ad 12) (ad 13) u3.2.1 u3.2.2.1, (ad 11, .inl (M.G.2 1, 20, .inl (wcl u3.2.2.1))), (ad 12, .inl (M.G.2 0, 25, .inl (wgt u3.2.2.1))), (ad 13, .inl (M.G.2 1, 18, .inl (wpl u3.2.2.1))), wO (ad 14) (ad 15) (ad 16) (ad 17) u3.2.2.2.1 u3.2.2.2.2.1, (ad 15, .inl (M.G.2 1, 20, .inl (wcl u3.2.2.2.2.1))), (ad 16, .inl (M.G.2 0, 25, .inl (wgt u3.2.2.2.2.1))), (ad 17, .inl (M.G.2 1, 18, .inl (wpl u3.2.2.2.2.1))), (ad 29, .inl (M.G.2 0, 2, .inl u3.2.2.2.2.2.1))]) C (ct_X0_told M.l M.G ad u3.1 j N g q0 hN5 hq0) dX0_best_100 rfl (lw_V q718 q720 qs25 q64 q721) hyv_X0_told rfl rfl 0 rfl rfl [0, 1, 2, 3, 4] [5, 6, 7, 8, 9, 10, 11, 12, 13] [9, 10, 11, 12, 13, 0, 1, 2, 3, 4, 5, 6, 7, 8] rfl rfl rfl (fun _ => [xO ad u3.1 j, wO (ad 6) (ad 7) (ad 8) (ad 9) N g, (ad 7, .inl (M.G.2 1, 20, .inl (wcl g))), (ad 8, .inl (M.G.2 0, 25, .inl (wgt g))), (ad 9, .inl (M.G.2 1, 18, .inl (wpl g))), wO (ad 10) (ad 11) (ad 12) (ad 13) u3.2.1 u3.2.2.1, (ad 11, .inl (M.G.2 1, 20, .inl (wcl u3.2.2.1))), (ad 12, .inl (M.G.2 0, 25, .inl (wgt u3.2.2.1))), (ad 13, .inl (M.G.2 1, 18, .inl (wpl u3.2.2.1))), wO (ad 14) (ad 15) (ad 16) (ad 17) u3.2.2.2.1 u3.2.2.2.2.1, (ad 15, .inl (M.G.2 1, 20, .inl (wcl u3.2.2.2.2.1))), (ad 16, .inl (M.G.2 0, 25, .inl (wgt u3.2.2.2.2.1))), (ad 17, .inl (M.G.2 1, 18, .inl (wpl u3.2.2.2.2.1))), (ad 29, .inl (M.G.2 0, 2, .inl u3.2.2.2.2.2.1))]) (fun _ => rfl) rfl 0 0 rfl rfl (fun _ => [.int (nI (cd N q0))]) (fun _ => rfl) (fun _ _ => ?_)
          refine V.goto C 108 dX0_best_103 rfl ?_
          exact V.iret C T dX0_best_108 (u3.1, u3.2.1, u3.2.2.1, u3.2.2.2.1, u3.2.2.2.2.1, u3.2.2.2.2.2.1, u3.2.2.2.2.2.2) rfl rfl (Eq.trans (by rw [ec0]; exact selB_a h7) (if_pos ⟨h1, (Or.inl h2)⟩).symm) rfl ⟨hQ, fun _ => by rw [cn_nI (by omega)]; exact hB⟩ rfl rfl rfl
      · refine V.iload_n (pc' := 80) C 2 dX0_best_79 rfl rfl ?_
        refine V.bipush (pc' := 82) C dX0_best_80 rfl kcb_10 ?_
        refine V.isub (pc' := 83) C dX0_best_82 rfl ?_
        refine V.topI (y := 1) (by decide) ?_
        refine V.aload_n (pc' := 84) C 0 dX0_best_83 rfl rfl ?_
        refine V.get (pc' := 87) C dX0_best_84 rfl 0 rfl rfl in_X0 14 rfl q197 rfl ?_
        refine V.topI (y := nI u3.2.2.2.2.2.2.1) hJ.2.1 ?_
        refine V.icmp_geN (pc' := 90) C 1 u3.2.2.2.2.2.2.1 (by omega) (by omega) 106 dX0_best_87 rfl rfl (fun h8 => ?_) (fun h8 => ?_)
        · refine V.bipush (pc' := 108) C dX0_best_106 rfl kcb_m4 ?_
          exact V.iret C T dX0_best_108 (u3.1, u3.2.1, u3.2.2.1, u3.2.2.2.1, u3.2.2.2.2.1, u3.2.2.2.2.2.1, u3.2.2.2.2.2.2) rfl rfl (Eq.trans (selB_bn (Nat.not_lt.mpr h8)) (if_pos ⟨h1, (Or.inl h2)⟩).symm) rfl ⟨hQ, fun _ => by rw [cn_nI (by omega)]; exact hB⟩ rfl rfl rfl
        · refine V.aload_n (pc' := 91) C 0 dX0_best_90 rfl rfl ?_
          refine V.aload_n (pc' := 92) C 0 dX0_best_91 rfl rfl ?_
          refine V.get (pc' := 95) C dX0_best_92 rfl 0 rfl rfl in_X0 16 rfl q199 rfl ?_
          refine V.iload_n (pc' := 96) C 2 dX0_best_95 rfl rfl ?_
          refine V.bipush (pc' := 98) C dX0_best_96 rfl kcb_10 ?_
          refine V.isub (pc' := 99) C dX0_best_98 rfl ?_
          refine V.topI (y := 1) (by decide) ?_
          refine V.iald (pc' := 100) C 1 dX0_best_99 rfl 13 rfl (by omega) rfl ?_
          obtain ⟨q0, hq0, eq0, ec0⟩ := hJ.2.2.2.2.2 (show u3.2.2.2.2.2.2.1 = 2 by omega)
          refine V.topI (y := nI q0) eq0 ?_
          refine V.callV (pc' := 103) (wr := [wO (ad 10) (ad 11) (ad 12) (ad 13) u3.2.1 u3.2.2.1, (ad 11, .inl (M.G.2 1, 20, .inl (wcl u3.2.2.1))), (ad 12, .inl (M.G.2 0, 25, .inl (wgt u3.2.2.1))), (ad 13, .inl (M.G.2 1, 18, .inl (wpl u3.2.2.1))), wO (ad 14) (ad 15) (ad 16) (ad 17) u3.2.2.2.1 u3.2.2.2.2.1, (ad 15, .inl (M.G.2 1, 20, .inl (wcl u3.2.2.2.2.1))), (ad 16, .inl (M.G.2 0, 25, .inl (wgt u3.2.2.2.2.1))), (ad 17, .inl (M.G.2 1, 18, .inl (wpl u3.2.2.2.2.1))), (ad 29, .inl (M.G.2 0, 2, .inl u3.2.2.2.2.2.1))]) C (ct_X0_told M.l M.G ad u3.1 j N g q0 hN5 hq0) dX0_best_100 rfl (lw_V q718 q720 qs25 q64 q721) hyv_X0_told rfl rfl 0 rfl rfl [0, 1, 2, 3, 4] [5, 6, 7, 8, 9, 10, 11, 12, 13] [9, 10, 11, 12, 13, 0, 1, 2, 3, 4, 5, 6, 7, 8] rfl rfl rfl (fun _ => [xO ad u3.1 j, wO (ad 6) (ad 7) (ad 8) (ad 9) N g, (ad 7, .inl (M.G.2 1, 20, .inl (wcl g))), (ad 8, .inl (M.G.2 0, 25, .inl (wgt g))), (ad 9, .inl (M.G.2 1, 18, .inl (wpl g))), wO (ad 10) (ad 11) (ad 12) (ad 13) u3.2.1 u3.2.2.1, (ad 11, .inl (M.G.2 1, 20, .inl (wcl u3.2.2.1))), (ad 12, .inl (M.G.2 0, 25, .inl (wgt u3.2.2.1))), (ad 13, .inl (M.G.2 1, 18, .inl (wpl u3.2.2.1))), wO (ad 14) (ad 15) (ad 16) (ad 17) u3.2.2.2.1 u3.2.2.2.2.1, (ad 15, .inl (M.G.2 1, 20, .inl (wcl u3.2.2.2.2.1))), (ad 16, .inl (M.G.2 0, 25, .inl (wgt u3.2.2.2.2.1))), (ad 17, .inl (M.G.2 1, 18, .inl (wpl u3.2.2.2.2.1))), (ad 29, .inl (M.G.2 0, 2, .inl u3.2.2.2.2.2.1))]) (fun _ => rfl) rfl 0 0 rfl rfl (fun _ => [.int (nI (cd N q0))]) (fun _ => rfl) (fun _ _ => ?_)
          refine V.goto C 108 dX0_best_103 rfl ?_
          exact V.iret C T dX0_best_108 (u3.1, u3.2.1, u3.2.2.1, u3.2.2.2.1, u3.2.2.2.2.1, u3.2.2.2.2.2.1, u3.2.2.2.2.2.2) rfl rfl (Eq.trans (by rw [ec0]; exact selB_b h8 hs2) (if_pos ⟨h1, (Or.inl h2)⟩).symm) rfl ⟨hQ, fun _ => by rw [cn_nI (by omega)]; exact hB⟩ rfl rfl rfl
    · refine V.iload_n (pc' := 25) C 2 dX0_best_24 rfl rfl ?_
      refine V.callS (pc' := 28) (wr := [xO ad i j, wO (ad 6) (ad 7) (ad 8) (ad 9) N g, (ad 7, .inl (M.G.2 1, 20, .inl (wcl g))), (ad 8, .inl (M.G.2 0, 25, .inl (wgt g))), (ad 9, .inl (M.G.2 1, 18, .inl (wpl g))), wO (ad 10) (ad 11) (ad 12) (ad 13) K t, (ad 11, .inl (M.G.2 1, 20, .inl (wcl t))), (ad 12, .inl (M.G.2 0, 25, .inl (wgt t))), (ad 13, .inl (M.G.2 1, 18, .inl (wpl t))), wO (ad 14) (ad 15) (ad 16) (ad 17) Kh th, (ad 15, .inl (M.G.2 1, 20, .inl (wcl th))), (ad 16, .inl (M.G.2 0, 25, .inl (wgt th))), (ad 17, .inl (M.G.2 1, 18, .inl (wpl th))), (ad 29, .inl (M.G.2 0, 2, .inl br))]) C (ct_X0_isRowPart M.l M.G y ) dX0_best_25 rfl (lw_S q686 q687 q64 q688) hys_X0_isRowPart rfl rfl [] [0, 1, 2, 3, 4, 5, 6, 7, 8, 9, 10, 11, 12, 13] [0, 1, 2, 3, 4, 5, 6, 7, 8, 9, 10, 11, 12, 13] rfl rfl rfl (fun _ => [xO ad i j, wO (ad 6) (ad 7) (ad 8) (ad 9) N g, (ad 7, .inl (M.G.2 1, 20, .inl (wcl g))), (ad 8, .inl (M.G.2 0, 25, .inl (wgt g))), (ad 9, .inl (M.G.2 1, 18, .inl (wpl g))), wO (ad 10) (ad 11) (ad 12) (ad 13) K t, (ad 11, .inl (M.G.2 1, 20, .inl (wcl t))), (ad 12, .inl (M.G.2 0, 25, .inl (wgt t))), (ad 13, .inl (M.G.2 1, 18, .inl (wpl t))), wO (ad 14) (ad 15) (ad 16) (ad 17) Kh th, (ad 15, .inl (M.G.2 1, 20, .inl (wcl th))), (ad 16, .inl (M.G.2 0, 25, .inl (wgt th))), (ad 17, .inl (M.G.2 1, 18, .inl (wpl th))), (ad 29, .inl (M.G.2 0, 2, .inl br))]) (fun _ => rfl) rfl 0 0 rfl rfl (fun _ => [.int (bI (inI y 10 11))]) (fun _ => rfl) (fun _ _ => ?_)
      refine V.if_neB (pc' := 31) C 33 dX0_best_28 rfl rfl (fun h9 => ?_) (fun h9 => ?_)
      · refine V.aload_n (pc' := 34) C 0 dX0_best_33 rfl rfl ?_
        refine V.iload_n (pc' := 35) C 1 dX0_best_34 rfl rfl ?_
        refine V.callV (pc' := 38) (wr := []) C (ct_X0_findBest M.l M.G ad i j N g K t Kh th br m n ok (by omega)) dX0_best_35 rfl (lw_V q691 q693 qs19 q64 q694) hyv_X0_findBest rfl rfl 0 rfl rfl [0, 1, 2, 3, 4, 5, 6, 7, 8, 9, 10, 11, 12, 13] [] [0, 1, 2, 3, 4, 5, 6, 7, 8, 9, 10, 11, 12, 13] rfl rfl rfl (fun u10 => [xO ad u10.1 j, wO (ad 6) (ad 7) (ad 8) (ad 9) N g, (ad 7, .inl (M.G.2 1, 20, .inl (wcl g))), (ad 8, .inl (M.G.2 0, 25, .inl (wgt g))), (ad 9, .inl (M.G.2 1, 18, .inl (wpl g))), wO (ad 10) (ad 11) (ad 12) (ad 13) u10.2.1 u10.2.2.1, (ad 11, .inl (M.G.2 1, 20, .inl (wcl u10.2.2.1))), (ad 12, .inl (M.G.2 0, 25, .inl (wgt u10.2.2.1))), (ad 13, .inl (M.G.2 1, 18, .inl (wpl u10.2.2.1))), wO (ad 14) (ad 15) (ad 16) (ad 17) u10.2.2.2.1 u10.2.2.2.2.1, (ad 15, .inl (M.G.2 1, 20, .inl (wcl u10.2.2.2.2.1))), (ad 16, .inl (M.G.2 0, 25, .inl (wgt u10.2.2.2.2.1))), (ad 17, .inl (M.G.2 1, 18, .inl (wpl u10.2.2.2.2.1))), (ad 29, .inl (M.G.2 0, 2, .inl u10.2.2.2.2.2.1))]) (fun _ => rfl) rfl 0 0 rfl rfl (fun u10 => []) (fun _ => rfl) (fun u10 hu10 => ?_)
        have hB := hu10.1
        have hJ := hu10.2.1
        have hQ := hu10.2.2
        have hs2 := hJ.2.2.2.1
        refine V.iload_n (pc' := 39) C 2 dX0_best_38 rfl rfl ?_
        by_cases h11 : y = 0
        · subst h11
          refine V.tableIn C 64 dX0_best_39 (by decide) (by decide) rfl rfl ?_
          refine V.aload_n (pc' := 65) C 0 dX0_best_64 rfl rfl ?_
          refine V.get (pc' := 68) C dX0_best_65 rfl 0 rfl rfl in_X0 13 rfl q196 rfl ?_
          exact V.iret C T dX0_best_68 (u10.1, u10.2.1, u10.2.2.1, u10.2.2.2.1, u10.2.2.2.2.1, u10.2.2.2.2.2.1, u10.2.2.2.2.2.2) rfl rfl (Eq.trans hJ.1 (if_pos ⟨h1, (Or.inr h9)⟩).symm) rfl ⟨hQ, fun _ => by rw [cn_nI (by omega)]; exact hB⟩ rfl rfl rfl
        by_cases h12 : y = 1
        · subst h12
          refine V.tableIn C 69 dX0_best_39 (by decide) (by decide) rfl rfl ?_
          refine V.aload_n (pc' := 70) C 0 dX0_best_69 rfl rfl ?_
          refine V.get (pc' := 73) C dX0_best_70 rfl 0 rfl rfl in_X0 14 rfl q197 rfl ?_
          exact V.iret C T dX0_best_73 (u10.1, u10.2.1, u10.2.2.1, u10.2.2.2.1, u10.2.2.2.2.1, u10.2.2.2.2.2.1, u10.2.2.2.2.2.2) rfl rfl (Eq.trans hJ.2.1 (if_pos ⟨h1, (Or.inr h9)⟩).symm) rfl ⟨hQ, fun _ => by rw [cn_nI (by omega)]; exact hB⟩ rfl rfl rfl
        by_cases h13 : y = 2
        · subst h13
          refine V.tableIn C 74 dX0_best_39 (by decide) (by decide) rfl rfl ?_
          refine V.aload_n (pc' := 75) C 0 dX0_best_74 rfl rfl ?_
          refine V.get (pc' := 78) C dX0_best_75 rfl 0 rfl rfl in_X0 15 rfl q198 rfl ?_
          exact V.iret C T dX0_best_78 (u10.1, u10.2.1, u10.2.2.1, u10.2.2.2.1, u10.2.2.2.2.1, u10.2.2.2.2.2.1, u10.2.2.2.2.2.2) rfl rfl (Eq.trans hJ.2.2.1 (if_pos ⟨h1, (Or.inr h9)⟩).symm) rfl ⟨hQ, fun _ => by rw [cn_nI (by omega)]; exact hB⟩ rfl rfl rfl
        refine V.tableOut C 79 dX0_best_39 (by have := lv_neT (a := 0) h11 (by decide); have := lv_neT (a := 1) h12 (by decide); have := lv_neT (a := 2) h13 (by decide); omega) rfl ?_
        rcases y_1011 (Or.inr h9) h11 h12 h13 with rfl | rfl
        · refine V.iload_n (pc' := 80) C 2 dX0_best_79 rfl rfl ?_
          refine V.bipush (pc' := 82) C dX0_best_80 rfl kcb_10 ?_
          refine V.isub (pc' := 83) C dX0_best_82 rfl ?_
          refine V.topI (y := 0) (by decide) ?_
          refine V.aload_n (pc' := 84) C 0 dX0_best_83 rfl rfl ?_
          refine V.get (pc' := 87) C dX0_best_84 rfl 0 rfl rfl in_X0 14 rfl q197 rfl ?_
          refine V.topI (y := nI u10.2.2.2.2.2.2.1) hJ.2.1 ?_
          refine V.icmp_geN (pc' := 90) C 0 u10.2.2.2.2.2.2.1 (by omega) (by omega) 106 dX0_best_87 rfl rfl (fun h14 => ?_) (fun h14 => ?_)
          · refine V.bipush (pc' := 108) C dX0_best_106 rfl kcb_m4 ?_
            exact V.iret C T dX0_best_108 (u10.1, u10.2.1, u10.2.2.1, u10.2.2.2.1, u10.2.2.2.2.1, u10.2.2.2.2.2.1, u10.2.2.2.2.2.2) rfl rfl (Eq.trans (selB_an (Nat.not_lt.mpr h14)) (if_pos ⟨h1, (Or.inr h9)⟩).symm) rfl ⟨hQ, fun _ => by rw [cn_nI (by omega)]; exact hB⟩ rfl rfl rfl
          · refine V.aload_n (pc' := 91) C 0 dX0_best_90 rfl rfl ?_
            refine V.aload_n (pc' := 92) C 0 dX0_best_91 rfl rfl ?_
            refine V.get (pc' := 95) C dX0_best_92 rfl 0 rfl rfl in_X0 16 rfl q199 rfl ?_
            refine V.iload_n (pc' := 96) C 2 dX0_best_95 rfl rfl ?_
            refine V.bipush (pc' := 98) C dX0_best_96 rfl kcb_10 ?_
            refine V.isub (pc' := 99) C dX0_best_98 rfl ?_
            refine V.topI (y := 0) (by decide) ?_
            refine V.iald (pc' := 100) C 0 dX0_best_99 rfl 13 rfl (by omega) rfl ?_
            obtain ⟨q0, hq0, eq0, ec0⟩ := hJ.2.2.2.2.1 (show 1 ≤ u10.2.2.2.2.2.2.1 by omega)
            refine V.topI (y := nI q0) eq0 ?_
            refine V.callV (pc' := 103) (wr := [wO (ad 10) (ad 11) (ad 12) (ad 13) u10.2.1 u10.2.2.1, (ad 11, .inl (M.G.2 1, 20, .inl (wcl u10.2.2.1))), (ad 12, .inl (M.G.2 0, 25, .inl (wgt u10.2.2.1))), (ad 13, .inl (M.G.2 1, 18, .inl (wpl u10.2.2.1))), wO (ad 14) (ad 15) (ad 16) (ad 17) u10.2.2.2.1 u10.2.2.2.2.1, (ad 15, .inl (M.G.2 1, 20, .inl (wcl u10.2.2.2.2.1))), (ad 16, .inl (M.G.2 0, 25, .inl (wgt u10.2.2.2.2.1))), (ad 17, .inl (M.G.2 1, 18, .inl (wpl u10.2.2.2.2.1))), (ad 29, .inl (M.G.2 0, 2, .inl u10.2.2.2.2.2.1))]) C (ct_X0_told M.l M.G ad u10.1 j N g q0 hN5 hq0) dX0_best_100 rfl (lw_V q718 q720 qs25 q64 q721) hyv_X0_told rfl rfl 0 rfl rfl [0, 1, 2, 3, 4] [5, 6, 7, 8, 9, 10, 11, 12, 13] [9, 10, 11, 12, 13, 0, 1, 2, 3, 4, 5, 6, 7, 8] rfl rfl rfl (fun _ => [xO ad u10.1 j, wO (ad 6) (ad 7) (ad 8) (ad 9) N g, (ad 7, .inl (M.G.2 1, 20, .inl (wcl g))), (ad 8, .inl (M.G.2 0, 25, .inl (wgt g))), (ad 9, .inl (M.G.2 1, 18, .inl (wpl g))), wO (ad 10) (ad 11) (ad 12) (ad 13) u10.2.1 u10.2.2.1, (ad 11, .inl (M.G.2 1, 20, .inl (wcl u10.2.2.1))), (ad 12, .inl (M.G.2 0, 25, .inl (wgt u10.2.2.1))), (ad 13, .inl (M.G.2 1, 18, .inl (wpl u10.2.2.1))), wO (ad 14) (ad 15) (ad 16) (ad 17) u10.2.2.2.1 u10.2.2.2.2.1, (ad 15, .inl (M.G.2 1, 20, .inl (wcl u10.2.2.2.2.1))), (ad 16, .inl (M.G.2 0, 25, .inl (wgt u10.2.2.2.2.1))), (ad 17, .inl (M.G.2 1, 18, .inl (wpl u10.2.2.2.2.1))), (ad 29, .inl (M.G.2 0, 2, .inl u10.2.2.2.2.2.1))]) (fun _ => rfl) rfl 0 0 rfl rfl (fun _ => [.int (nI (cd N q0))]) (fun _ => rfl) (fun _ _ => ?_)
            refine V.goto C 108 dX0_best_103 rfl ?_
            exact V.iret C T dX0_best_108 (u10.1, u10.2.1, u10.2.2.1, u10.2.2.2.1, u10.2.2.2.2.1, u10.2.2.2.2.2.1, u10.2.2.2.2.2.2) rfl rfl (Eq.trans (by rw [ec0]; exact selB_a h14) (if_pos ⟨h1, (Or.inr h9)⟩).symm) rfl ⟨hQ, fun _ => by rw [cn_nI (by omega)]; exact hB⟩ rfl rfl rfl
        · refine V.iload_n (pc' := 80) C 2 dX0_best_79 rfl rfl ?_
          refine V.bipush (pc' := 82) C dX0_best_80 rfl kcb_10 ?_
          refine V.isub (pc' := 83) C dX0_best_82 rfl ?_
          refine V.topI (y := 1) (by decide) ?_
          refine V.aload_n (pc' := 84) C 0 dX0_best_83 rfl rfl ?_
          refine V.get (pc' := 87) C dX0_best_84 rfl 0 rfl rfl in_X0 14 rfl q197 rfl ?_
          refine V.topI (y := nI u10.2.2.2.2.2.2.1) hJ.2.1 ?_
          refine V.icmp_geN (pc' := 90) C 1 u10.2.2.2.2.2.2.1 (by omega) (by omega) 106 dX0_best_87 rfl rfl (fun h15 => ?_) (fun h15 => ?_)
          · refine V.bipush (pc' := 108) C dX0_best_106 rfl kcb_m4 ?_
            exact V.iret C T dX0_best_108 (u10.1, u10.2.1, u10.2.2.1, u10.2.2.2.1, u10.2.2.2.2.1, u10.2.2.2.2.2.1, u10.2.2.2.2.2.2) rfl rfl (Eq.trans (selB_bn (Nat.not_lt.mpr h15)) (if_pos ⟨h1, (Or.inr h9)⟩).symm) rfl ⟨hQ, fun _ => by rw [cn_nI (by omega)]; exact hB⟩ rfl rfl rfl
          · refine V.aload_n (pc' := 91) C 0 dX0_best_90 rfl rfl ?_
            refine V.aload_n (pc' := 92) C 0 dX0_best_91 rfl rfl ?_
            refine V.get (pc' := 95) C dX0_best_92 rfl 0 rfl rfl in_X0 16 rfl q199 rfl ?_
            refine V.iload_n (pc' := 96) C 2 dX0_best_95 rfl rfl ?_
            refine V.bipush (pc' := 98) C dX0_best_96 rfl kcb_10 ?_
            refine V.isub (pc' := 99) C dX0_best_98 rfl ?_
            refine V.topI (y := 1) (by decide) ?_
            refine V.iald (pc' := 100) C 1 dX0_best_99 rfl 13 rfl (by omega) rfl ?_
            obtain ⟨q0, hq0, eq0, ec0⟩ := hJ.2.2.2.2.2 (show u10.2.2.2.2.2.2.1 = 2 by omega)
            refine V.topI (y := nI q0) eq0 ?_
            refine V.callV (pc' := 103) (wr := [wO (ad 10) (ad 11) (ad 12) (ad 13) u10.2.1 u10.2.2.1, (ad 11, .inl (M.G.2 1, 20, .inl (wcl u10.2.2.1))), (ad 12, .inl (M.G.2 0, 25, .inl (wgt u10.2.2.1))), (ad 13, .inl (M.G.2 1, 18, .inl (wpl u10.2.2.1))), wO (ad 14) (ad 15) (ad 16) (ad 17) u10.2.2.2.1 u10.2.2.2.2.1, (ad 15, .inl (M.G.2 1, 20, .inl (wcl u10.2.2.2.2.1))), (ad 16, .inl (M.G.2 0, 25, .inl (wgt u10.2.2.2.2.1))), (ad 17, .inl (M.G.2 1, 18, .inl (wpl u10.2.2.2.2.1))), (ad 29, .inl (M.G.2 0, 2, .inl u10.2.2.2.2.2.1))]) C (ct_X0_told M.l M.G ad u10.1 j N g q0 hN5 hq0) dX0_best_100 rfl (lw_V q718 q720 qs25 q64 q721) hyv_X0_told rfl rfl 0 rfl rfl [0, 1, 2, 3, 4] [5, 6, 7, 8, 9, 10, 11, 12, 13] [9, 10, 11, 12, 13, 0, 1, 2, 3, 4, 5, 6, 7, 8] rfl rfl rfl (fun _ => [xO ad u10.1 j, wO (ad 6) (ad 7) (ad 8) (ad 9) N g, (ad 7, .inl (M.G.2 1, 20, .inl (wcl g))), (ad 8, .inl (M.G.2 0, 25, .inl (wgt g))), (ad 9, .inl (M.G.2 1, 18, .inl (wpl g))), wO (ad 10) (ad 11) (ad 12) (ad 13) u10.2.1 u10.2.2.1, (ad 11, .inl (M.G.2 1, 20, .inl (wcl u10.2.2.1))), (ad 12, .inl (M.G.2 0, 25, .inl (wgt u10.2.2.1))), (ad 13, .inl (M.G.2 1, 18, .inl (wpl u10.2.2.1))), wO (ad 14) (ad 15) (ad 16) (ad 17) u10.2.2.2.1 u10.2.2.2.2.1, (ad 15, .inl (M.G.2 1, 20, .inl (wcl u10.2.2.2.2.1))), (ad 16, .inl (M.G.2 0, 25, .inl (wgt u10.2.2.2.2.1))), (ad 17, .inl (M.G.2 1, 18, .inl (wpl u10.2.2.2.2.1))), (ad 29, .inl (M.G.2 0, 2, .inl u10.2.2.2.2.2.1))]) (fun _ => rfl) rfl 0 0 rfl rfl (fun _ => [.int (nI (cd N q0))]) (fun _ => rfl) (fun _ _ => ?_)
            refine V.goto C 108 dX0_best_103 rfl ?_
            exact V.iret C T dX0_best_108 (u10.1, u10.2.1, u10.2.2.1, u10.2.2.2.1, u10.2.2.2.2.1, u10.2.2.2.2.2.1, u10.2.2.2.2.2.2) rfl rfl (Eq.trans (by rw [ec0]; exact selB_b h15 hs2) (if_pos ⟨h1, (Or.inr h9)⟩).symm) rfl ⟨hQ, fun _ => by rw [cn_nI (by omega)]; exact hB⟩ rfl rfl rfl
      · refine V.iconst (pc' := 32) C dX0_best_31 rfl kci_m1 ?_
        exact V.iret C T dX0_best_32 (i, K, t, Kh, th, br, (0, 0, 0)) rfl rfl (if_neg (fun z => z.2.elim h2 h9)).symm rfl ⟨⟨rfl, rfl, rfl, rfl, rfl⟩, fun z => absurd z (fun z => z.2.elim h2 h9)⟩ rfl rfl rfl
