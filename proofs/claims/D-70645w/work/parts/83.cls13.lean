set_option maxRecDepth 100000
set_option maxHeartbeats 4000000 in
theorem ct_X0_cure (l : Launch) (G : GG) (ad : Nat → Nat) (i : Nat → Int32) (j : Nat → Int64) (N : Nat) (g : Pg) (K : Nat) (t : Pg) (Kh : Nat) (th : Pg) (br : Nat → Int32) (x : Int32) (y : Int32) (n : Nat) (ok : okP g N n) : Ct l G yX0_cure (ws_ yX0_cure cX0_cure 4 (some .int)) ({ frames := 6, cells := 0, slots := 0, locals := 141 } : Room) [.ref (ad 0), .int x, .int y] [xO ad i j, wO (ad 6) (ad 7) (ad 8) (ad 9) N g, (ad 7, .inl (G.2 1, 20, .inl (wcl g))), (ad 8, .inl (G.2 0, 25, .inl (wgt g))), (ad 9, .inl (G.2 1, 18, .inl (wpl g))), wO (ad 10) (ad 11) (ad 12) (ad 13) K t, (ad 11, .inl (G.2 1, 20, .inl (wcl t))), (ad 12, .inl (G.2 0, 25, .inl (wgt t))), (ad 13, .inl (G.2 1, 18, .inl (wpl t))), wO (ad 14) (ad 15) (ad 16) (ad 17) Kh th, (ad 15, .inl (G.2 1, 20, .inl (wcl th))), (ad 16, .inl (G.2 0, 25, .inl (wgt th))), (ad 17, .inl (G.2 1, 18, .inl (wpl th))), (ad 29, .inl (G.2 0, 2, .inl br))] (fun u : Nat × Pg × Nat × Pg × (Nat → Int32) × Pos => some (.int (if curOk N x y then selC u.2.2.2.2.2 y else -1))) (fun u => curOk N x y → cuR g N (cn x) u.2.2.2.2.2) (fun u => [xO ad i j, wO (ad 6) (ad 7) (ad 8) (ad 9) N g, (ad 7, .inl (G.2 1, 20, .inl (wcl g))), (ad 8, .inl (G.2 0, 25, .inl (wgt g))), (ad 9, .inl (G.2 1, 18, .inl (wpl g))), wO (ad 10) (ad 11) (ad 12) (ad 13) u.1 u.2.1, (ad 11, .inl (G.2 1, 20, .inl (wcl u.2.1))), (ad 12, .inl (G.2 0, 25, .inl (wgt u.2.1))), (ad 13, .inl (G.2 1, 18, .inl (wpl u.2.1))), wO (ad 14) (ad 15) (ad 16) (ad 17) u.2.2.1 u.2.2.2.1, (ad 15, .inl (G.2 1, 20, .inl (wcl u.2.2.2.1))), (ad 16, .inl (G.2 0, 25, .inl (wgt u.2.2.2.1))), (ad 17, .inl (G.2 1, 18, .inl (wpl u.2.2.2.1))), (ad 29, .inl (G.2 0, 2, .inl u.2.2.2.2.1))]) := by
  refine Ct.of rfl rfl ?_
  intro M el eG hnL C T
  subst el
  subst eG
  have C : Cx M cX0_cure "ClockWard" ({ frames := 6, cells := 0, slots := 0, locals := 141 } : Room) := C
  have hN5 := ok.n5
  have hn6 := ok.n6
  refine V.lvs [0, 1, 2] (lv2 := [(0, .ref (ad 0)), (1, .int x), (2, .int y)]) rfl ?_
  refine V.aload_n (pc' := 1) C 0 dX0_cure_0 rfl rfl ?_
  refine V.iload_n (pc' := 2) C 1 dX0_cure_1 rfl rfl ?_
  refine V.callV (pc' := 5) (wr := [wO (ad 10) (ad 11) (ad 12) (ad 13) K t, (ad 11, .inl (M.G.2 1, 20, .inl (wcl t))), (ad 12, .inl (M.G.2 0, 25, .inl (wgt t))), (ad 13, .inl (M.G.2 1, 18, .inl (wpl t))), wO (ad 14) (ad 15) (ad 16) (ad 17) Kh th, (ad 15, .inl (M.G.2 1, 20, .inl (wcl th))), (ad 16, .inl (M.G.2 0, 25, .inl (wgt th))), (ad 17, .inl (M.G.2 1, 18, .inl (wpl th))), (ad 29, .inl (M.G.2 0, 2, .inl br))]) C (ct_X0_isClock M.l M.G ad i j N g x ) dX0_cure_2 rfl (lw_V q535 q537 qs13 q64 q538) hyv_X0_isClock rfl rfl 0 rfl rfl [0, 1, 2, 3, 4] [5, 6, 7, 8, 9, 10, 11, 12, 13] [9, 10, 11, 12, 13, 0, 1, 2, 3, 4, 5, 6, 7, 8] rfl rfl rfl (fun _ => [xO ad i j, wO (ad 6) (ad 7) (ad 8) (ad 9) N g, (ad 7, .inl (M.G.2 1, 20, .inl (wcl g))), (ad 8, .inl (M.G.2 0, 25, .inl (wgt g))), (ad 9, .inl (M.G.2 1, 18, .inl (wpl g))), wO (ad 10) (ad 11) (ad 12) (ad 13) K t, (ad 11, .inl (M.G.2 1, 20, .inl (wcl t))), (ad 12, .inl (M.G.2 0, 25, .inl (wgt t))), (ad 13, .inl (M.G.2 1, 18, .inl (wpl t))), wO (ad 14) (ad 15) (ad 16) (ad 17) Kh th, (ad 15, .inl (M.G.2 1, 20, .inl (wcl th))), (ad 16, .inl (M.G.2 0, 25, .inl (wgt th))), (ad 17, .inl (M.G.2 1, 18, .inl (wpl th))), (ad 29, .inl (M.G.2 0, 2, .inl br))]) (fun _ => rfl) rfl 0 0 rfl rfl (fun _ => [.int (bI (isC N x))]) (fun _ => rfl) (fun _ _ => ?_)
  refine V.if_eqB (pc' := 8) C 19 dX0_cure_5 rfl rfl (fun h1 => ?_) (fun h1 => ?_)
  · refine V.iconst (pc' := 20) C dX0_cure_19 rfl kci_m1 ?_
    exact V.iret C T dX0_cure_20 (K, t, Kh, th, br, (0, 0, 0)) rfl rfl (if_neg (fun z => h1 z.1)).symm rfl (fun z => absurd z (fun z => h1 z.1)) rfl rfl rfl
  · obtain ⟨c, hc, rfl⟩ := isC_nat hN5 h1
    refine V.iload_n (pc' := 9) C 2 dX0_cure_8 rfl rfl ?_
    refine V.if_eq (pc' := 12) C 21 dX0_cure_9 rfl rfl (fun h2 => ?_) (fun h2 => ?_)
    · refine V.aload_n (pc' := 22) C 0 dX0_cure_21 rfl rfl ?_
      refine V.iload_n (pc' := 23) C 1 dX0_cure_22 rfl rfl ?_
      refine V.callV (pc' := 26) (wr := []) C (ct_X0_findCure M.l M.G ad i j N g K t Kh th br c n ok (by omega)) dX0_cure_23 rfl (lw_V q726 q728 qs26 q64 q729) hyv_X0_findCure rfl rfl 0 rfl rfl [0, 1, 2, 3, 4, 5, 6, 7, 8, 9, 10, 11, 12, 13] [] [0, 1, 2, 3, 4, 5, 6, 7, 8, 9, 10, 11, 12, 13] rfl rfl rfl (fun u3 => [xO ad i j, wO (ad 6) (ad 7) (ad 8) (ad 9) N g, (ad 7, .inl (M.G.2 1, 20, .inl (wcl g))), (ad 8, .inl (M.G.2 0, 25, .inl (wgt g))), (ad 9, .inl (M.G.2 1, 18, .inl (wpl g))), wO (ad 10) (ad 11) (ad 12) (ad 13) u3.1 u3.2.1, (ad 11, .inl (M.G.2 1, 20, .inl (wcl u3.2.1))), (ad 12, .inl (M.G.2 0, 25, .inl (wgt u3.2.1))), (ad 13, .inl (M.G.2 1, 18, .inl (wpl u3.2.1))), wO (ad 14) (ad 15) (ad 16) (ad 17) u3.2.2.1 u3.2.2.2.1, (ad 15, .inl (M.G.2 1, 20, .inl (wcl u3.2.2.2.1))), (ad 16, .inl (M.G.2 0, 25, .inl (wgt u3.2.2.2.1))), (ad 17, .inl (M.G.2 1, 18, .inl (wpl u3.2.2.2.1))), (ad 29, .inl (M.G.2 0, 2, .inl u3.2.2.2.2.1))]) (fun _ => rfl) rfl 0 0 rfl rfl (fun u3 => [.int (cuV u3.2.2.2.2.2)]) (fun _ => rfl) (fun u3 hu3 => ?_)
      have hR := hu3.1
      have hs3 := hu3.2.1
      have hr1 := hu3.2.2.1
      have hr2 := hu3.2.2.2
      refine V.istore_n (pc' := 27) C [(3, .int (cuV u3.2.2.2.2.2)), (0, .ref (ad 0)), (1, .int (nI c)), (2, .int y)] dX0_cure_26 rfl 4 hnL rfl rfl ?_
      refine V.iload_n (pc' := 28) C 0 dX0_cure_27 rfl rfl ?_
      refine V.bipush (pc' := 30) C dX0_cure_28 rfl kcb_m4 ?_
      refine V.icmp_ne (pc' := 33) C 38 dX0_cure_30 rfl rfl (fun h4 => ?_) (fun h4 => ?_)
      · have hcn := cuV_n h4
        refine V.iload_n (pc' := 39) C 3 dX0_cure_38 rfl rfl ?_
        refine V.if_ne (pc' := 42) C 46 dX0_cure_39 rfl rfl (fun h5 => absurd h5 (fun z => z h2)) (fun _ => ?_)
        refine V.iload_n (pc' := 43) C 0 dX0_cure_42 rfl rfl ?_
        refine V.goto C 72 dX0_cure_43 rfl ?_
        exact V.iret C T dX0_cure_72 (u3.1, u3.2.1, u3.2.2.1, u3.2.2.2.1, u3.2.2.2.2.1, u3.2.2.2.2.2) rfl rfl (Eq.trans (show cuV u3.2.2.2.2.2 = selC u3.2.2.2.2.2 y by rw [h2]; exact hcn.2.trans (selC_0 u3.2.2.2.2.2 hcn.1)) (if_pos ⟨h1, Or.inl h2⟩).symm) rfl (fun _ => by rw [cn_nI (by omega)]; exact hR) rfl rfl rfl
      · refine V.bipush (pc' := 35) C dX0_cure_33 rfl kcb_m4 ?_
        refine V.goto C 72 dX0_cure_35 rfl ?_
        exact V.iret C T dX0_cure_72 (u3.1, u3.2.1, u3.2.2.1, u3.2.2.2.1, u3.2.2.2.2.1, u3.2.2.2.2.2) rfl rfl (Eq.trans (selC_3 u3.2.2.2.2.2 (cuV_3 h4 hs3) _) (if_pos ⟨h1, Or.inl h2⟩).symm) rfl (fun _ => by rw [cn_nI (by omega)]; exact hR) rfl rfl rfl
    · refine V.iload_n (pc' := 13) C 2 dX0_cure_12 rfl rfl ?_
      refine V.callS (pc' := 16) (wr := [xO ad i j, wO (ad 6) (ad 7) (ad 8) (ad 9) N g, (ad 7, .inl (M.G.2 1, 20, .inl (wcl g))), (ad 8, .inl (M.G.2 0, 25, .inl (wgt g))), (ad 9, .inl (M.G.2 1, 18, .inl (wpl g))), wO (ad 10) (ad 11) (ad 12) (ad 13) K t, (ad 11, .inl (M.G.2 1, 20, .inl (wcl t))), (ad 12, .inl (M.G.2 0, 25, .inl (wgt t))), (ad 13, .inl (M.G.2 1, 18, .inl (wpl t))), wO (ad 14) (ad 15) (ad 16) (ad 17) Kh th, (ad 15, .inl (M.G.2 1, 20, .inl (wcl th))), (ad 16, .inl (M.G.2 0, 25, .inl (wgt th))), (ad 17, .inl (M.G.2 1, 18, .inl (wpl th))), (ad 29, .inl (M.G.2 0, 2, .inl br))]) C (ct_X0_isRowPart M.l M.G y ) dX0_cure_13 rfl (lw_S q686 q687 q64 q688) hys_X0_isRowPart rfl rfl [] [0, 1, 2, 3, 4, 5, 6, 7, 8, 9, 10, 11, 12, 13] [0, 1, 2, 3, 4, 5, 6, 7, 8, 9, 10, 11, 12, 13] rfl rfl rfl (fun _ => [xO ad i j, wO (ad 6) (ad 7) (ad 8) (ad 9) N g, (ad 7, .inl (M.G.2 1, 20, .inl (wcl g))), (ad 8, .inl (M.G.2 0, 25, .inl (wgt g))), (ad 9, .inl (M.G.2 1, 18, .inl (wpl g))), wO (ad 10) (ad 11) (ad 12) (ad 13) K t, (ad 11, .inl (M.G.2 1, 20, .inl (wcl t))), (ad 12, .inl (M.G.2 0, 25, .inl (wgt t))), (ad 13, .inl (M.G.2 1, 18, .inl (wpl t))), wO (ad 14) (ad 15) (ad 16) (ad 17) Kh th, (ad 15, .inl (M.G.2 1, 20, .inl (wcl th))), (ad 16, .inl (M.G.2 0, 25, .inl (wgt th))), (ad 17, .inl (M.G.2 1, 18, .inl (wpl th))), (ad 29, .inl (M.G.2 0, 2, .inl br))]) (fun _ => rfl) rfl 0 0 rfl rfl (fun _ => [.int (bI (inI y 10 11))]) (fun _ => rfl) (fun _ _ => ?_)
      refine V.if_neB (pc' := 19) C 21 dX0_cure_16 rfl rfl (fun h6 => ?_) (fun h6 => ?_)
      · refine V.aload_n (pc' := 22) C 0 dX0_cure_21 rfl rfl ?_
        refine V.iload_n (pc' := 23) C 1 dX0_cure_22 rfl rfl ?_
        refine V.callV (pc' := 26) (wr := []) C (ct_X0_findCure M.l M.G ad i j N g K t Kh th br c n ok (by omega)) dX0_cure_23 rfl (lw_V q726 q728 qs26 q64 q729) hyv_X0_findCure rfl rfl 0 rfl rfl [0, 1, 2, 3, 4, 5, 6, 7, 8, 9, 10, 11, 12, 13] [] [0, 1, 2, 3, 4, 5, 6, 7, 8, 9, 10, 11, 12, 13] rfl rfl rfl (fun u7 => [xO ad i j, wO (ad 6) (ad 7) (ad 8) (ad 9) N g, (ad 7, .inl (M.G.2 1, 20, .inl (wcl g))), (ad 8, .inl (M.G.2 0, 25, .inl (wgt g))), (ad 9, .inl (M.G.2 1, 18, .inl (wpl g))), wO (ad 10) (ad 11) (ad 12) (ad 13) u7.1 u7.2.1, (ad 11, .inl (M.G.2 1, 20, .inl (wcl u7.2.1))), (ad 12, .inl (M.G.2 0, 25, .inl (wgt u7.2.1))), (ad 13, .inl (M.G.2 1, 18, .inl (wpl u7.2.1))), wO (ad 14) (ad 15) (ad 16) (ad 17) u7.2.2.1 u7.2.2.2.1, (ad 15, .inl (M.G.2 1, 20, .inl (wcl u7.2.2.2.1))), (ad 16, .inl (M.G.2 0, 25, .inl (wgt u7.2.2.2.1))), (ad 17, .inl (M.G.2 1, 18, .inl (wpl u7.2.2.2.1))), (ad 29, .inl (M.G.2 0, 2, .inl u7.2.2.2.2.1))]) (fun _ => rfl) rfl 0 0 rfl rfl (fun u7 => [.int (cuV u7.2.2.2.2.2)]) (fun _ => rfl) (fun u7 hu7 => ?_)
        have hR := hu7.1
        have hs3 := hu7.2.1
        have hr1 := hu7.2.2.1
        have hr2 := hu7.2.2.2
        refine V.istore_n (pc' := 27) C [(3, .int (cuV u7.2.2.2.2.2)), (0, .ref (ad 0)), (1, .int (nI c)), (2, .int y)] dX0_cure_26 rfl 4 hnL rfl rfl ?_
        refine V.iload_n (pc' := 28) C 0 dX0_cure_27 rfl rfl ?_
        refine V.bipush (pc' := 30) C dX0_cure_28 rfl kcb_m4 ?_
        refine V.icmp_ne (pc' := 33) C 38 dX0_cure_30 rfl rfl (fun h8 => ?_) (fun h8 => ?_)
        · have hcn := cuV_n h8
          refine V.iload_n (pc' := 39) C 3 dX0_cure_38 rfl rfl ?_
          refine V.if_ne (pc' := 42) C 46 dX0_cure_39 rfl rfl (fun _ => ?_) (fun h9 => absurd h9 h2)
          refine V.iload_n (pc' := 47) C 3 dX0_cure_46 rfl rfl ?_
          refine V.bipush (pc' := 49) C dX0_cure_47 rfl kcb_10 ?_
          refine V.isub (pc' := 50) C dX0_cure_49 rfl ?_
          refine V.iload_n (pc' := 51) C 0 dX0_cure_50 rfl rfl ?_
          refine V.topI (y := nI u7.2.2.2.2.2.1) hcn.2 ?_
          refine V.icmp_ge (pc' := 54) C 70 dX0_cure_51 rfl rfl (fun h10 => ?_) (fun h10 => ?_)
          · refine V.bipush (pc' := 72) C dX0_cure_70 rfl kcb_m4 ?_
            exact V.iret C T dX0_cure_72 (u7.1, u7.2.1, u7.2.2.1, u7.2.2.2.1, u7.2.2.2.2.1, u7.2.2.2.2.2) rfl rfl (Eq.trans (selC_n (s := u7.2.2.2.2.2) hcn.1 h2 (Int32.not_lt.mpr h10)) (if_pos ⟨h1, Or.inr h6⟩).symm) rfl (fun _ => by rw [cn_nI (by omega)]; exact hR) rfl rfl rfl
          · rcases y10 h6 with rfl | rfl
            · refine V.aload_n (pc' := 55) C 1 dX0_cure_54 rfl rfl ?_
              refine V.aload_n (pc' := 56) C 1 dX0_cure_55 rfl rfl ?_
              refine V.get (pc' := 59) C dX0_cure_56 rfl 0 rfl rfl in_X0 16 rfl q199 rfl ?_
              refine V.iload_n (pc' := 60) C 3 dX0_cure_59 rfl rfl ?_
              refine V.bipush (pc' := 62) C dX0_cure_60 rfl kcb_10 ?_
              refine V.isub (pc' := 63) C dX0_cure_62 rfl ?_
              refine V.topI (y := 0) (by decide) ?_
              refine V.iald (pc' := 64) C 0 dX0_cure_63 rfl 13 rfl (by omega) rfl ?_
              have hlt : 0 < u7.2.2.2.2.2.1 := (nI_ltI (a := 0) (b := u7.2.2.2.2.2.1) (by omega) (by omega)).mp (Int32.not_le.mp h10)
              obtain ⟨q0, hq0, eq0, ec0⟩ := hr1 (by omega)
              refine V.topI (y := nI q0) eq0 ?_
              refine V.callV (pc' := 67) (wr := [wO (ad 10) (ad 11) (ad 12) (ad 13) u7.1 u7.2.1, (ad 11, .inl (M.G.2 1, 20, .inl (wcl u7.2.1))), (ad 12, .inl (M.G.2 0, 25, .inl (wgt u7.2.1))), (ad 13, .inl (M.G.2 1, 18, .inl (wpl u7.2.1))), wO (ad 14) (ad 15) (ad 16) (ad 17) u7.2.2.1 u7.2.2.2.1, (ad 15, .inl (M.G.2 1, 20, .inl (wcl u7.2.2.2.1))), (ad 16, .inl (M.G.2 0, 25, .inl (wgt u7.2.2.2.1))), (ad 17, .inl (M.G.2 1, 18, .inl (wpl u7.2.2.2.1))), (ad 29, .inl (M.G.2 0, 2, .inl u7.2.2.2.2.1))]) C (ct_X0_told M.l M.G ad i j N g q0 hN5 hq0) dX0_cure_64 rfl (lw_V q718 q720 qs25 q64 q721) hyv_X0_told rfl rfl 0 rfl rfl [0, 1, 2, 3, 4] [5, 6, 7, 8, 9, 10, 11, 12, 13] [9, 10, 11, 12, 13, 0, 1, 2, 3, 4, 5, 6, 7, 8] rfl rfl rfl (fun _ => [xO ad i j, wO (ad 6) (ad 7) (ad 8) (ad 9) N g, (ad 7, .inl (M.G.2 1, 20, .inl (wcl g))), (ad 8, .inl (M.G.2 0, 25, .inl (wgt g))), (ad 9, .inl (M.G.2 1, 18, .inl (wpl g))), wO (ad 10) (ad 11) (ad 12) (ad 13) u7.1 u7.2.1, (ad 11, .inl (M.G.2 1, 20, .inl (wcl u7.2.1))), (ad 12, .inl (M.G.2 0, 25, .inl (wgt u7.2.1))), (ad 13, .inl (M.G.2 1, 18, .inl (wpl u7.2.1))), wO (ad 14) (ad 15) (ad 16) (ad 17) u7.2.2.1 u7.2.2.2.1, (ad 15, .inl (M.G.2 1, 20, .inl (wcl u7.2.2.2.1))), (ad 16, .inl (M.G.2 0, 25, .inl (wgt u7.2.2.2.1))), (ad 17, .inl (M.G.2 1, 18, .inl (wpl u7.2.2.2.1))), (ad 29, .inl (M.G.2 0, 2, .inl u7.2.2.2.2.1))]) (fun _ => rfl) rfl 0 0 rfl rfl (fun _ => [.int (nI (cd N q0))]) (fun _ => rfl) (fun _ _ => ?_)
              refine V.goto C 72 dX0_cure_67 rfl ?_
              exact V.iret C T dX0_cure_72 (u7.1, u7.2.1, u7.2.2.1, u7.2.2.2.1, u7.2.2.2.2.1, u7.2.2.2.2.2) rfl rfl (Eq.trans (show nI (cd N q0) = selC u7.2.2.2.2.2 10 by rw [ec0]; exact selC_a (s := u7.2.2.2.2.2) hcn.1 h2 (Int32.not_le.mp h10) rfl) (if_pos ⟨h1, Or.inr h6⟩).symm) rfl (fun _ => by rw [cn_nI (by omega)]; exact hR) rfl rfl rfl
            · refine V.aload_n (pc' := 55) C 1 dX0_cure_54 rfl rfl ?_
              refine V.aload_n (pc' := 56) C 1 dX0_cure_55 rfl rfl ?_
              refine V.get (pc' := 59) C dX0_cure_56 rfl 0 rfl rfl in_X0 16 rfl q199 rfl ?_
              refine V.iload_n (pc' := 60) C 3 dX0_cure_59 rfl rfl ?_
              refine V.bipush (pc' := 62) C dX0_cure_60 rfl kcb_10 ?_
              refine V.isub (pc' := 63) C dX0_cure_62 rfl ?_
              refine V.topI (y := 1) (by decide) ?_
              refine V.iald (pc' := 64) C 1 dX0_cure_63 rfl 13 rfl (by omega) rfl ?_
              have hlt : 1 < u7.2.2.2.2.2.1 := (nI_ltI (a := 1) (b := u7.2.2.2.2.2.1) (by omega) (by omega)).mp (Int32.not_le.mp h10)
              obtain ⟨q0, hq0, eq0, ec0⟩ := hr2 (by omega)
              refine V.topI (y := nI q0) eq0 ?_
              refine V.callV (pc' := 67) (wr := [wO (ad 10) (ad 11) (ad 12) (ad 13) u7.1 u7.2.1, (ad 11, .inl (M.G.2 1, 20, .inl (wcl u7.2.1))), (ad 12, .inl (M.G.2 0, 25, .inl (wgt u7.2.1))), (ad 13, .inl (M.G.2 1, 18, .inl (wpl u7.2.1))), wO (ad 14) (ad 15) (ad 16) (ad 17) u7.2.2.1 u7.2.2.2.1, (ad 15, .inl (M.G.2 1, 20, .inl (wcl u7.2.2.2.1))), (ad 16, .inl (M.G.2 0, 25, .inl (wgt u7.2.2.2.1))), (ad 17, .inl (M.G.2 1, 18, .inl (wpl u7.2.2.2.1))), (ad 29, .inl (M.G.2 0, 2, .inl u7.2.2.2.2.1))]) C (ct_X0_told M.l M.G ad i j N g q0 hN5 hq0) dX0_cure_64 rfl (lw_V q718 q720 qs25 q64 q721) hyv_X0_told rfl rfl 0 rfl rfl [0, 1, 2, 3, 4] [5, 6, 7, 8, 9, 10, 11, 12, 13] [9, 10, 11, 12, 13, 0, 1, 2, 3, 4, 5, 6, 7, 8] rfl rfl rfl (fun _ => [xO ad i j, wO (ad 6) (ad 7) (ad 8) (ad 9) N g, (ad 7, .inl (M.G.2 1, 20, .inl (wcl g))), (ad 8, .inl (M.G.2 0, 25, .inl (wgt g))), (ad 9, .inl (M.G.2 1, 18, .inl (wpl g))), wO (ad 10) (ad 11) (ad 12) (ad 13) u7.1 u7.2.1, (ad 11, .inl (M.G.2 1, 20, .inl (wcl u7.2.1))), (ad 12, .inl (M.G.2 0, 25, .inl (wgt u7.2.1))), (ad 13, .inl (M.G.2 1, 18, .inl (wpl u7.2.1))), wO (ad 14) (ad 15) (ad 16) (ad 17) u7.2.2.1 u7.2.2.2.1, (ad 15, .inl (M.G.2 1, 20, .inl (wcl u7.2.2.2.1))), (ad 16, .inl (M.G.2 0, 25, .inl (wgt u7.2.2.2.1))), (ad 17, .inl (M.G.2 1, 18, .inl (wpl u7.2.2.2.1))), (ad 29, .inl (M.G.2 0, 2, .inl u7.2.2.2.2.1))]) (fun _ => rfl) rfl 0 0 rfl rfl (fun _ => [.int (nI (cd N q0))]) (fun _ => rfl) (fun _ _ => ?_)
              refine V.goto C 72 dX0_cure_67 rfl ?_
              exact V.iret C T dX0_cure_72 (u7.1, u7.2.1, u7.2.2.1, u7.2.2.2.1, u7.2.2.2.2.1, u7.2.2.2.2.2) rfl rfl (Eq.trans (show nI (cd N q0) = selC u7.2.2.2.2.2 11 by rw [ec0]; exact selC_b (s := u7.2.2.2.2.2) hcn.1 h2 (Int32.not_le.mp h10) (by decide)) (if_pos ⟨h1, Or.inr h6⟩).symm) rfl (fun _ => by rw [cn_nI (by omega)]; exact hR) rfl rfl rfl
        · refine V.bipush (pc' := 35) C dX0_cure_33 rfl kcb_m4 ?_
          refine V.goto C 72 dX0_cure_35 rfl ?_
          exact V.iret C T dX0_cure_72 (u7.1, u7.2.1, u7.2.2.1, u7.2.2.2.1, u7.2.2.2.2.1, u7.2.2.2.2.2) rfl rfl (Eq.trans (selC_3 u7.2.2.2.2.2 (cuV_3 h8 hs3) _) (if_pos ⟨h1, Or.inr h6⟩).symm) rfl (fun _ => by rw [cn_nI (by omega)]; exact hR) rfl rfl rfl
      · refine V.iconst (pc' := 20) C dX0_cure_19 rfl kci_m1 ?_
        exact V.iret C T dX0_cure_20 (K, t, Kh, th, br, (0, 0, 0)) rfl rfl (if_neg (fun z => z.2.elim h2 h6)).symm rfl (fun z => absurd z (fun z => z.2.elim h2 h6)) rfl rfl rfl
