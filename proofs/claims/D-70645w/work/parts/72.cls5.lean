set_option maxRecDepth 100000
set_option maxHeartbeats 4000000 in
theorem ct_X0_drift (l : Launch) (G : GG) (ad : Nat → Nat) (i : Nat → Int32) (j : Nat → Int64) (N : Nat) (g : Pg) (K : Nat) (t : Pg) (x : Int32) (y : Int32) (z : Int32) (n : Nat) (ok : okP g N n) : Ct l G yX0_drift (ws_ yX0_drift cX0_drift 11 (some .int)) ({ frames := 5, cells := 0, slots := 0, locals := 107 } : Room) [.ref (ad 0), .int x, .int y, .int z] [xO ad i j, (ad 1, .inl (G.2 4, 4, .inr (.inr (.inr (.inr (fun k => some (ad (2 + k)))))))), (ad 2, .inr (1, [])), (ad 3, .inr (2, [])), (ad 4, .inr (3, [])), (ad 5, .inr (4, [])), wO (ad 6) (ad 7) (ad 8) (ad 9) N g, (ad 7, .inl (G.2 1, 20, .inl (wcl g))), (ad 8, .inl (G.2 0, 25, .inl (wgt g))), (ad 9, .inl (G.2 1, 18, .inl (wpl g))), wO (ad 10) (ad 11) (ad 12) (ad 13) K t, (ad 11, .inl (G.2 1, 20, .inl (wcl t))), (ad 12, .inl (G.2 0, 25, .inl (wgt t))), (ad 13, .inl (G.2 1, 18, .inl (wpl t)))] (fun u : (Nat → Int32) × (Nat → Int64) × Nat × Pg => some (.int (a_drift g N x y z))) (fun u => Qx i u.1) (fun u => [xO ad u.1 u.2.1, (ad 1, .inl (G.2 4, 4, .inr (.inr (.inr (.inr (fun k => some (ad (2 + k)))))))), (ad 2, .inr (1, [])), (ad 3, .inr (2, [])), (ad 4, .inr (3, [])), (ad 5, .inr (4, [])), wO (ad 6) (ad 7) (ad 8) (ad 9) N g, (ad 7, .inl (G.2 1, 20, .inl (wcl g))), (ad 8, .inl (G.2 0, 25, .inl (wgt g))), (ad 9, .inl (G.2 1, 18, .inl (wpl g))), wO (ad 10) (ad 11) (ad 12) (ad 13) u.2.2.1 u.2.2.2, (ad 11, .inl (G.2 1, 20, .inl (wcl u.2.2.2))), (ad 12, .inl (G.2 0, 25, .inl (wgt u.2.2.2))), (ad 13, .inl (G.2 1, 18, .inl (wpl u.2.2.2)))]) := by
  refine Ct.of rfl rfl ?_
  intro M el eG hnL C T
  subst el
  subst eG
  have C : Cx M cX0_drift "ClockWard" ({ frames := 5, cells := 0, slots := 0, locals := 107 } : Room) := C
  have hN5 := ok.n5
  have hn6 := ok.n6
  refine V.lvs [0, 1, 2, 3] (lv2 := [(0, .ref (ad 0)), (1, .int x), (2, .int y), (3, .int z)]) rfl ?_
  refine V.iload_n (pc' := 1) C 2 dX0_drift_0 rfl rfl ?_
  refine V.i2l (pc' := 2) C dX0_drift_1 rfl ?_
  refine V.lconst (pc' := 3) C dX0_drift_2 rfl kcl_1 ?_
  refine V.ldc2 (pc' := 6) C dX0_drift_3 rfl q659 ?_
  refine V.callS (pc' := 9) (wr := [xO ad i j, (ad 1, .inl (M.G.2 4, 4, .inr (.inr (.inr (.inr (fun k => some (ad (2 + k)))))))), (ad 2, .inr (1, [])), (ad 3, .inr (2, [])), (ad 4, .inr (3, [])), (ad 5, .inr (4, [])), wO (ad 6) (ad 7) (ad 8) (ad 9) N g, (ad 7, .inl (M.G.2 1, 20, .inl (wcl g))), (ad 8, .inl (M.G.2 0, 25, .inl (wgt g))), (ad 9, .inl (M.G.2 1, 18, .inl (wpl g))), wO (ad 10) (ad 11) (ad 12) (ad 13) K t, (ad 11, .inl (M.G.2 1, 20, .inl (wcl t))), (ad 12, .inl (M.G.2 0, 25, .inl (wgt t))), (ad 13, .inl (M.G.2 1, 18, .inl (wpl t)))]) C (ct_X0_in M.l M.G y 1 60 ) dX0_drift_6 rfl (lw_S q261 q262 q64 q263) hys_X0_in rfl rfl [] [0, 1, 2, 3, 4, 5, 6, 7, 8, 9, 10, 11, 12, 13] [0, 1, 2, 3, 4, 5, 6, 7, 8, 9, 10, 11, 12, 13] rfl rfl rfl (fun _ => [xO ad i j, (ad 1, .inl (M.G.2 4, 4, .inr (.inr (.inr (.inr (fun k => some (ad (2 + k)))))))), (ad 2, .inr (1, [])), (ad 3, .inr (2, [])), (ad 4, .inr (3, [])), (ad 5, .inr (4, [])), wO (ad 6) (ad 7) (ad 8) (ad 9) N g, (ad 7, .inl (M.G.2 1, 20, .inl (wcl g))), (ad 8, .inl (M.G.2 0, 25, .inl (wgt g))), (ad 9, .inl (M.G.2 1, 18, .inl (wpl g))), wO (ad 10) (ad 11) (ad 12) (ad 13) K t, (ad 11, .inl (M.G.2 1, 20, .inl (wcl t))), (ad 12, .inl (M.G.2 0, 25, .inl (wgt t))), (ad 13, .inl (M.G.2 1, 18, .inl (wpl t)))]) (fun _ => rfl) rfl 0 0 rfl rfl (fun _ => [.int (bI (inI y 1 60))]) (fun _ => rfl) (fun _ _ => ?_)
  refine V.if_eqB (pc' := 12) C 19 dX0_drift_9 rfl rfl (fun h1 => ?_) (fun h1 => ?_)
  · refine V.iconst (pc' := 20) C dX0_drift_19 rfl kci_m1 ?_
    exact V.iret C T dX0_drift_20 (i, j, K, t) rfl rfl (if_neg (fun z => h1 z.1)).symm rfl ⟨rfl, rfl, rfl, rfl, rfl⟩ rfl rfl rfl
  · obtain ⟨m, hm1, hm2, rfl⟩ := in_nat1 (m := 60) (by decide) h1
    refine V.iload_n (pc' := 13) C 3 dX0_drift_12 rfl rfl ?_
    refine V.callS (pc' := 16) (wr := [xO ad i j, (ad 1, .inl (M.G.2 4, 4, .inr (.inr (.inr (.inr (fun k => some (ad (2 + k)))))))), (ad 2, .inr (1, [])), (ad 3, .inr (2, [])), (ad 4, .inr (3, [])), (ad 5, .inr (4, [])), wO (ad 6) (ad 7) (ad 8) (ad 9) N g, (ad 7, .inl (M.G.2 1, 20, .inl (wcl g))), (ad 8, .inl (M.G.2 0, 25, .inl (wgt g))), (ad 9, .inl (M.G.2 1, 18, .inl (wpl g))), wO (ad 10) (ad 11) (ad 12) (ad 13) K t, (ad 11, .inl (M.G.2 1, 20, .inl (wcl t))), (ad 12, .inl (M.G.2 0, 25, .inl (wgt t))), (ad 13, .inl (M.G.2 1, 18, .inl (wpl t)))]) C (ct_X0_isPart M.l M.G z ) dX0_drift_13 rfl (lw_S q668 q669 q64 q670) hys_X0_isPart rfl rfl [] [0, 1, 2, 3, 4, 5, 6, 7, 8, 9, 10, 11, 12, 13] [0, 1, 2, 3, 4, 5, 6, 7, 8, 9, 10, 11, 12, 13] rfl rfl rfl (fun _ => [xO ad i j, (ad 1, .inl (M.G.2 4, 4, .inr (.inr (.inr (.inr (fun k => some (ad (2 + k)))))))), (ad 2, .inr (1, [])), (ad 3, .inr (2, [])), (ad 4, .inr (3, [])), (ad 5, .inr (4, [])), wO (ad 6) (ad 7) (ad 8) (ad 9) N g, (ad 7, .inl (M.G.2 1, 20, .inl (wcl g))), (ad 8, .inl (M.G.2 0, 25, .inl (wgt g))), (ad 9, .inl (M.G.2 1, 18, .inl (wpl g))), wO (ad 10) (ad 11) (ad 12) (ad 13) K t, (ad 11, .inl (M.G.2 1, 20, .inl (wcl t))), (ad 12, .inl (M.G.2 0, 25, .inl (wgt t))), (ad 13, .inl (M.G.2 1, 18, .inl (wpl t)))]) (fun _ => rfl) rfl 0 0 rfl rfl (fun _ => [.int (bI (inI z 0 1))]) (fun _ => rfl) (fun _ _ => ?_)
    refine V.if_neB (pc' := 19) C 21 dX0_drift_16 rfl rfl (fun h2 => ?_) (fun h2 => ?_)
    · refine V.aload_n (pc' := 22) C 0 dX0_drift_21 rfl rfl ?_
      refine V.get (pc' := 25) C dX0_drift_22 rfl 0 rfl rfl in_X0 1 rfl q183 rfl ?_
      refine V.getN (pc' := 28) C dX0_drift_25 rfl 6 rfl rfl in_X5 0 rfl q133 rfl ?_
      refine V.if_ne (pc' := 31) C 34 dX0_drift_28 rfl rfl (fun h3 => ?_) (fun h3 => ?_)
      · have h0 : 0 < N := Nat.pos_of_ne_zero (fun z => h3 (by rw [z]; rfl))
        refine V.aload_n (pc' := 35) C 0 dX0_drift_34 rfl rfl ?_
        refine V.get (pc' := 38) C dX0_drift_35 rfl 0 rfl rfl in_X0 2 rfl q184 rfl ?_
        refine V.aload_n (pc' := 39) C 0 dX0_drift_38 rfl rfl ?_
        refine V.get (pc' := 42) C dX0_drift_39 rfl 0 rfl rfl in_X0 1 rfl q183 rfl ?_
        refine V.callV (pc' := 45) (wr := [xO ad i j, (ad 1, .inl (M.G.2 4, 4, .inr (.inr (.inr (.inr (fun k => some (ad (2 + k)))))))), (ad 2, .inr (1, [])), (ad 3, .inr (2, [])), (ad 4, .inr (3, [])), (ad 5, .inr (4, []))]) C (ct_X5_as M.l M.G (ad 10) (ad 11) (ad 12) (ad 13) K t (ad 6) (ad 7) (ad 8) (ad 9) N g ok.w) dX0_drift_42 rfl (lw_V q504 q505 q506 q69 q507) hyv_X5_as rfl rfl 0 rfl rfl [10, 11, 12, 13, 6, 7, 8, 9] [0, 1, 2, 3, 4, 5] [0, 1, 2, 3, 4, 5, 10, 11, 12, 13, 6, 7, 8, 9] rfl rfl rfl (fun _ => [xO ad i j, (ad 1, .inl (M.G.2 4, 4, .inr (.inr (.inr (.inr (fun k => some (ad (2 + k)))))))), (ad 2, .inr (1, [])), (ad 3, .inr (2, [])), (ad 4, .inr (3, [])), (ad 5, .inr (4, [])), wO (ad 6) (ad 7) (ad 8) (ad 9) N g, (ad 7, .inl (M.G.2 1, 20, .inl (wcl g))), (ad 8, .inl (M.G.2 0, 25, .inl (wgt g))), (ad 9, .inl (M.G.2 1, 18, .inl (wpl g))), wO (ad 10) (ad 11) (ad 12) (ad 13) N g, (ad 11, .inl (M.G.2 1, 20, .inl (wcl g))), (ad 12, .inl (M.G.2 0, 25, .inl (wgt g))), (ad 13, .inl (M.G.2 1, 18, .inl (wpl g)))]) (fun _ => rfl) rfl 0 0 rfl rfl (fun _ => []) (fun _ => rfl) (fun _ _ => ?_)
        refine V.iload_n (pc' := 46) C 1 dX0_drift_45 rfl rfl ?_
        refine V.istore (pc' := 48) C [(4, .int x), (0, .ref (ad 0)), (1, .int x), (2, .int (nI m)), (3, .int z)] dX0_drift_46 rfl 11 hnL rfl rfl ?_
        refine V.iconst (pc' := 49) C dX0_drift_48 rfl kci_0 ?_
        refine V.istore (pc' := 51) C [(5, .int 0), (4, .int x), (0, .ref (ad 0)), (1, .int x), (2, .int (nI m)), (3, .int z)] dX0_drift_49 rfl 11 hnL rfl rfl ?_
        refine V.iconst (pc' := 52) C dX0_drift_51 rfl kci_0 ?_
        refine V.istore (pc' := 54) C [(6, .int 0), (5, .int 0), (4, .int x), (0, .ref (ad 0)), (1, .int x), (2, .int (nI m)), (3, .int z)] dX0_drift_52 rfl 11 hnL rfl rfl ?_
        have L4 : ∀ q : Nat, q ≤ m → V M 0 0 [xO ad i j, (ad 1, .inl (M.G.2 4, 4, .inr (.inr (.inr (.inr (fun k => some (ad (2 + k)))))))), (ad 2, .inr (1, [])), (ad 3, .inr (2, [])), (ad 4, .inr (3, [])), (ad 5, .inr (4, [])), wO (ad 6) (ad 7) (ad 8) (ad 9) N g, (ad 7, .inl (M.G.2 1, 20, .inl (wcl g))), (ad 8, .inl (M.G.2 0, 25, .inl (wgt g))), (ad 9, .inl (M.G.2 1, 18, .inl (wpl g))), wO (ad 10) (ad 11) (ad 12) (ad 13) N (drG g N x q), (ad 11, .inl (M.G.2 1, 20, .inl (wcl (drG g N x q)))), (ad 12, .inl (M.G.2 0, 25, .inl (wgt (drG g N x q)))), (ad 13, .inl (M.G.2 1, 18, .inl (wpl (drG g N x q))))] [(0, .ref (ad 0)), (1, .int x), (2, .int (nI m)), (3, .int z), (4, .int (drv x q)), (5, .int (drC g N x q)), (6, .int (nI q))] [] 54 := by
          refine loopN _ m (fun q hq ih_L4 => ?_)
          refine V.iload (pc' := 56) C 6 dX0_drift_54 rfl rfl ?_
          refine V.iload_n (pc' := 57) C 2 dX0_drift_56 rfl rfl ?_
          refine V.icmp_geN (pc' := 60) C q m (by omega) (by omega) 178 dX0_drift_57 rfl rfl (fun h5 => ?_) (fun h5 => ?_)
          · have hx6 : m = q := by omega
            subst hx6
            refine V.iload_n (pc' := 179) C 3 dX0_drift_178 rfl rfl ?_
            refine V.if_ne (pc' := 182) C 187 dX0_drift_179 rfl rfl (fun h7 => ?_) (fun h7 => ?_)
            · refine V.aload_n (pc' := 188) C 0 dX0_drift_187 rfl rfl ?_
              refine V.get (pc' := 191) C dX0_drift_188 rfl 0 rfl rfl in_X0 2 rfl q184 rfl ?_
              refine V.callV (pc' := 194) (wr := [xO ad i j, (ad 1, .inl (M.G.2 4, 4, .inr (.inr (.inr (.inr (fun k => some (ad (2 + k)))))))), (ad 2, .inr (1, [])), (ad 3, .inr (2, [])), (ad 4, .inr (3, [])), (ad 5, .inr (4, [])), wO (ad 6) (ad 7) (ad 8) (ad 9) N g, (ad 7, .inl (M.G.2 1, 20, .inl (wcl g))), (ad 8, .inl (M.G.2 0, 25, .inl (wgt g))), (ad 9, .inl (M.G.2 1, 18, .inl (wpl g)))]) C (ct_X5_right M.l M.G (ad 10) (ad 11) (ad 12) (ad 13) N (drG g N x m) (by omega)) dX0_drift_191 rfl (lw_V q519 q520 q521 q69 q522) hyv_X5_right rfl rfl 0 rfl rfl [10, 11, 12, 13] [0, 1, 2, 3, 4, 5, 6, 7, 8, 9] [0, 1, 2, 3, 4, 5, 6, 7, 8, 9, 10, 11, 12, 13] rfl rfl rfl (fun _ => [xO ad i j, (ad 1, .inl (M.G.2 4, 4, .inr (.inr (.inr (.inr (fun k => some (ad (2 + k)))))))), (ad 2, .inr (1, [])), (ad 3, .inr (2, [])), (ad 4, .inr (3, [])), (ad 5, .inr (4, [])), wO (ad 6) (ad 7) (ad 8) (ad 9) N g, (ad 7, .inl (M.G.2 1, 20, .inl (wcl g))), (ad 8, .inl (M.G.2 0, 25, .inl (wgt g))), (ad 9, .inl (M.G.2 1, 18, .inl (wpl g))), wO (ad 10) (ad 11) (ad 12) (ad 13) N (drG g N x m), (ad 11, .inl (M.G.2 1, 20, .inl (wcl (drG g N x m)))), (ad 12, .inl (M.G.2 0, 25, .inl (wgt (drG g N x m)))), (ad 13, .inl (M.G.2 1, 18, .inl (wpl (drG g N x m))))]) (fun _ => rfl) rfl 0 0 rfl rfl (fun _ => [.int (rightTo (drG g N x m) N)]) (fun _ => rfl) (fun _ _ => ?_)
              exact V.iret C T dX0_drift_194 (i, j, N, drG g N x m) rfl rfl (Eq.trans (by rw [if_neg (show ¬ N = 0 by omega), cn_nI (by omega), if_neg h7]) (if_pos ⟨h1, h2⟩).symm) rfl ⟨rfl, rfl, rfl, rfl, rfl⟩ rfl rfl rfl
            · refine V.iload (pc' := 184) C 5 dX0_drift_182 rfl rfl ?_
              refine V.goto C 194 dX0_drift_184 rfl ?_
              exact V.iret C T dX0_drift_194 (i, j, N, drG g N x m) rfl rfl (Eq.trans (by rw [if_neg (show ¬ N = 0 by omega), cn_nI (by omega), if_pos h7]) (if_pos ⟨h1, h2⟩).symm) rfl ⟨rfl, rfl, rfl, rfl, rfl⟩ rfl rfl rfl
          · have hok := drG_ok ok h0 x q
            have hlt := drd_lt x q
            have la : drd x q % N < N := Nat.mod_lt _ h0
            have lb : drd x q / 8 % N < N := Nat.mod_lt _ h0
            refine V.iload (pc' := 62) C 4 dX0_drift_60 rfl rfl ?_
            refine V.ldcw (pc' := 65) C dX0_drift_62 rfl q794 ?_
            refine V.imul (pc' := 66) C dX0_drift_65 rfl ?_
            refine V.sipush (pc' := 69) C dX0_drift_66 rfl kcs_12345 ?_
            refine V.iadd (pc' := 70) C dX0_drift_69 rfl ?_
            refine V.topI (y := drv x (q + 1)) (show _ = drv x (q + 1) from rfl) ?_
            refine V.istore (pc' := 72) C [(4, .int (drv x (q + 1))), (0, .ref (ad 0)), (1, .int x), (2, .int (nI m)), (3, .int z), (5, .int (drC g N x q)), (6, .int (nI q))] dX0_drift_70 rfl 11 hnL rfl rfl ?_
            refine V.iload (pc' := 74) C 0 dX0_drift_72 rfl rfl ?_
            refine V.bipush (pc' := 76) C dX0_drift_74 rfl kcb_16 ?_
            refine V.iushr (pc' := 77) C dX0_drift_76 rfl ?_
            refine V.sipush (pc' := 80) C dX0_drift_77 rfl kcs_32767 ?_
            refine V.iand (pc' := 81) C dX0_drift_80 rfl ?_
            refine V.topI (y := nI (drd x q)) (drd_c x q) ?_
            refine V.istore (pc' := 83) C [(7, .int (nI (drd x q))), (4, .int (drv x (q + 1))), (0, .ref (ad 0)), (1, .int x), (2, .int (nI m)), (3, .int z), (5, .int (drC g N x q)), (6, .int (nI q))] dX0_drift_81 rfl 11 hnL rfl rfl ?_
            refine V.iload (pc' := 85) C 0 dX0_drift_83 rfl rfl ?_
            refine V.aload_n (pc' := 86) C 2 dX0_drift_85 rfl rfl ?_
            refine V.get (pc' := 89) C dX0_drift_86 rfl 0 rfl rfl in_X0 1 rfl q183 rfl ?_
            refine V.getN (pc' := 92) C dX0_drift_89 rfl 6 rfl rfl in_X5 0 rfl q133 rfl ?_
            refine V.iremN (pc' := 93) C (drd x q) N (by omega) (by omega) (by omega) dX0_drift_92 rfl ?_
            refine V.istore (pc' := 95) C [(8, .int (nI ((drd x q) % N))), (7, .int (nI (drd x q))), (4, .int (drv x (q + 1))), (0, .ref (ad 0)), (1, .int x), (2, .int (nI m)), (3, .int z), (5, .int (drC g N x q)), (6, .int (nI q))] dX0_drift_93 rfl 11 hnL rfl rfl ?_
            refine V.iload (pc' := 97) C 1 dX0_drift_95 rfl rfl ?_
            refine V.bipush (pc' := 99) C dX0_drift_97 rfl kcb_8 ?_
            refine V.idivN (pc' := 100) C (drd x q) 8 (by omega) (by omega) (by omega) dX0_drift_99 rfl ?_
            refine V.aload_n (pc' := 101) C 3 dX0_drift_100 rfl rfl ?_
            refine V.get (pc' := 104) C dX0_drift_101 rfl 0 rfl rfl in_X0 1 rfl q183 rfl ?_
            refine V.getN (pc' := 107) C dX0_drift_104 rfl 6 rfl rfl in_X5 0 rfl q133 rfl ?_
            refine V.iremN (pc' := 108) C ((drd x q) / 8) N (by omega) (by omega) (by omega) dX0_drift_107 rfl ?_
            refine V.istore (pc' := 110) C [(9, .int (nI (((drd x q) / 8) % N))), (8, .int (nI ((drd x q) % N))), (7, .int (nI (drd x q))), (4, .int (drv x (q + 1))), (0, .ref (ad 0)), (1, .int x), (2, .int (nI m)), (3, .int z), (5, .int (drC g N x q)), (6, .int (nI q))] dX0_drift_108 rfl 11 hnL rfl rfl ?_
            refine V.iconst (pc' := 111) C dX0_drift_110 rfl kci_1 ?_
            refine V.iload (pc' := 113) C 2 dX0_drift_111 rfl rfl ?_
            refine V.bipush (pc' := 115) C dX0_drift_113 rfl kcb_64 ?_
            refine V.idivN (pc' := 116) C (drd x q) 64 (by omega) (by omega) (by omega) dX0_drift_115 rfl ?_
            refine V.bipush (pc' := 118) C dX0_drift_116 rfl kcb_9 ?_
            refine V.iremN (pc' := 119) C ((drd x q) / 64) 9 (by omega) (by omega) (by omega) dX0_drift_118 rfl ?_
            refine V.iaddN (pc' := 120) C 1 (((drd x q) / 64) % 9) dX0_drift_119 rfl ?_
            refine V.istore (pc' := 122) C [(10, .int (nI (1 + ((drd x q) / 64) % 9))), (9, .int (nI (((drd x q) / 8) % N))), (8, .int (nI ((drd x q) % N))), (7, .int (nI (drd x q))), (4, .int (drv x (q + 1))), (0, .ref (ad 0)), (1, .int x), (2, .int (nI m)), (3, .int z), (5, .int (drC g N x q)), (6, .int (nI q))] dX0_drift_120 rfl 11 hnL rfl rfl ?_
            refine V.iload (pc' := 124) C 2 dX0_drift_122 rfl rfl ?_
            refine V.iload (pc' := 126) C 1 dX0_drift_124 rfl rfl ?_
            refine V.icmp_eqN (pc' := 129) C ((drd x q) % N) (((drd x q) / 8) % N) (by omega) (by omega) 164 dX0_drift_126 rfl rfl (fun h8 => ?_) (fun h8 => ?_)
            · have hdr : ¬ drP (drG g N x q) N (drd x q) := fun z => z.1 h8
              refine V.aload_n (pc' := 165) C 5 dX0_drift_164 rfl rfl ?_
              refine V.aload_n (pc' := 166) C 5 dX0_drift_165 rfl rfl ?_
              refine V.get (pc' := 169) C dX0_drift_166 rfl 0 rfl rfl in_X0 2 rfl q184 rfl ?_
              refine V.callV (pc' := 172) (wr := [wO (ad 6) (ad 7) (ad 8) (ad 9) N g, (ad 7, .inl (M.G.2 1, 20, .inl (wcl g))), (ad 8, .inl (M.G.2 0, 25, .inl (wgt g))), (ad 9, .inl (M.G.2 1, 18, .inl (wpl g)))]) C (ct_X0_nightGoes M.l M.G ad i j (ad 10) (ad 11) (ad 12) (ad 13) N (drG g N x q) hN5 hok.2.k) dX0_drift_169 rfl (lw_V q636 q638 qs17 q64 q639) hyv_X0_nightGoes rfl rfl 0 rfl rfl [0, 1, 2, 3, 4, 5, 10, 11, 12, 13] [6, 7, 8, 9] [4, 5, 6, 7, 8, 9, 0, 1, 2, 3, 10, 11, 12, 13] rfl rfl rfl (fun _ => [xO ad i j, (ad 1, .inl (M.G.2 4, 4, .inr (.inr (.inr (.inr (fun k => some (ad (2 + k)))))))), (ad 2, .inr (1, [])), (ad 3, .inr (2, [])), (ad 4, .inr (3, [])), (ad 5, .inr (4, [])), wO (ad 6) (ad 7) (ad 8) (ad 9) N g, (ad 7, .inl (M.G.2 1, 20, .inl (wcl g))), (ad 8, .inl (M.G.2 0, 25, .inl (wgt g))), (ad 9, .inl (M.G.2 1, 18, .inl (wpl g))), wO (ad 10) (ad 11) (ad 12) (ad 13) N (night (drG g N x q) N), (ad 11, .inl (M.G.2 1, 20, .inl (wcl (night (drG g N x q) N)))), (ad 12, .inl (M.G.2 0, 25, .inl (wgt (night (drG g N x q) N)))), (ad 13, .inl (M.G.2 1, 18, .inl (wpl (night (drG g N x q) N))))]) (fun _ => rfl) rfl 0 0 rfl rfl (fun _ => []) (fun _ => rfl) (fun _ _ => ?_)
              refine V.iinc (pc' := 175) C (nI (q + 1)) [(6, .int (nI (q + 1))), (10, .int (nI (1 + ((drd x q) / 64) % 9))), (9, .int (nI (((drd x q) / 8) % N))), (8, .int (nI ((drd x q) % N))), (7, .int (nI (drd x q))), (4, .int (drv x (q + 1))), (0, .ref (ad 0)), (1, .int x), (2, .int (nI m)), (3, .int z), (5, .int (drC g N x q))] dX0_drift_172 rfl 11 hnL rfl 10 rfl (ii_N q 1 rfl) rfl ?_
              refine V.goto C 54 dX0_drift_175 rfl ?_
              refine V.lvs [6, 7, 8, 9, 5, 10, 0] (lv2 := [(0, .ref (ad 0)), (1, .int x), (2, .int (nI m)), (3, .int z), (4, .int (drv x (q + 1))), (5, .int (drC g N x (q + 1))), (6, .int (nI (q + 1)))]) (by rw [drC_f hdr]; rfl) ?_
              refine V.weq (ws2 := [xO ad i j, (ad 1, .inl (M.G.2 4, 4, .inr (.inr (.inr (.inr (fun k => some (ad (2 + k)))))))), (ad 2, .inr (1, [])), (ad 3, .inr (2, [])), (ad 4, .inr (3, [])), (ad 5, .inr (4, [])), wO (ad 6) (ad 7) (ad 8) (ad 9) N g, (ad 7, .inl (M.G.2 1, 20, .inl (wcl g))), (ad 8, .inl (M.G.2 0, 25, .inl (wgt g))), (ad 9, .inl (M.G.2 1, 18, .inl (wpl g))), wO (ad 10) (ad 11) (ad 12) (ad 13) N (drG g N x (q + 1)), (ad 11, .inl (M.G.2 1, 20, .inl (wcl (drG g N x (q + 1))))), (ad 12, .inl (M.G.2 0, 25, .inl (wgt (drG g N x (q + 1))))), (ad 13, .inl (M.G.2 1, 18, .inl (wpl (drG g N x (q + 1)))))]) (by rw [drG_f hdr]) ?_
              exact ih_L4 (by omega)
            · refine V.aload_n (pc' := 130) C 5 dX0_drift_129 rfl rfl ?_
              refine V.get (pc' := 133) C dX0_drift_130 rfl 0 rfl rfl in_X0 2 rfl q184 rfl ?_
              refine V.iload (pc' := 135) C 2 dX0_drift_133 rfl rfl ?_
              refine V.iload (pc' := 137) C 1 dX0_drift_135 rfl rfl ?_
              refine V.iload (pc' := 139) C 0 dX0_drift_137 rfl rfl ?_
              refine V.callV (pc' := 142) (wr := [xO ad i j, (ad 1, .inl (M.G.2 4, 4, .inr (.inr (.inr (.inr (fun k => some (ad (2 + k)))))))), (ad 2, .inr (1, [])), (ad 3, .inr (2, [])), (ad 4, .inr (3, [])), (ad 5, .inr (4, [])), wO (ad 6) (ad 7) (ad 8) (ad 9) N g, (ad 7, .inl (M.G.2 1, 20, .inl (wcl g))), (ad 8, .inl (M.G.2 0, 25, .inl (wgt g))), (ad 9, .inl (M.G.2 1, 18, .inl (wpl g)))]) C (ct_X5_mayBe M.l M.G (ad 10) (ad 11) (ad 12) (ad 13) N (drG g N x q) ((drd x q) % N) (((drd x q) / 8) % N) (nI (1 + ((drd x q) / 64) % 9)) (by omega) (by omega)) dX0_drift_139 rfl (lw_V q610 q611 q612 q69 q613) hyv_X5_mayBe rfl rfl 0 rfl rfl [10, 11, 12, 13] [0, 1, 2, 3, 4, 5, 6, 7, 8, 9] [0, 1, 2, 3, 4, 5, 6, 7, 8, 9, 10, 11, 12, 13] rfl rfl rfl (fun _ => [xO ad i j, (ad 1, .inl (M.G.2 4, 4, .inr (.inr (.inr (.inr (fun k => some (ad (2 + k)))))))), (ad 2, .inr (1, [])), (ad 3, .inr (2, [])), (ad 4, .inr (3, [])), (ad 5, .inr (4, [])), wO (ad 6) (ad 7) (ad 8) (ad 9) N g, (ad 7, .inl (M.G.2 1, 20, .inl (wcl g))), (ad 8, .inl (M.G.2 0, 25, .inl (wgt g))), (ad 9, .inl (M.G.2 1, 18, .inl (wpl g))), wO (ad 10) (ad 11) (ad 12) (ad 13) N (drG g N x q), (ad 11, .inl (M.G.2 1, 20, .inl (wcl (drG g N x q)))), (ad 12, .inl (M.G.2 0, 25, .inl (wgt (drG g N x q)))), (ad 13, .inl (M.G.2 1, 18, .inl (wpl (drG g N x q))))]) (fun _ => rfl) rfl 0 0 rfl rfl (fun _ => [.int (bI (may2 (drG g N x q) (drG g N x q) ((drd x q) % N) (((drd x q) / 8) % N) (nI (1 + ((drd x q) / 64) % 9))))]) (fun _ => rfl) (fun _ _ => ?_)
              refine V.if_eqB (pc' := 145) C 164 dX0_drift_142 rfl rfl (fun h9 => ?_) (fun h9 => ?_)
              · have hdr : ¬ drP (drG g N x q) N (drd x q) := fun z => h9 z.2
                refine V.aload_n (pc' := 165) C 5 dX0_drift_164 rfl rfl ?_
                refine V.aload_n (pc' := 166) C 5 dX0_drift_165 rfl rfl ?_
                refine V.get (pc' := 169) C dX0_drift_166 rfl 0 rfl rfl in_X0 2 rfl q184 rfl ?_
                refine V.callV (pc' := 172) (wr := [wO (ad 6) (ad 7) (ad 8) (ad 9) N g, (ad 7, .inl (M.G.2 1, 20, .inl (wcl g))), (ad 8, .inl (M.G.2 0, 25, .inl (wgt g))), (ad 9, .inl (M.G.2 1, 18, .inl (wpl g)))]) C (ct_X0_nightGoes M.l M.G ad i j (ad 10) (ad 11) (ad 12) (ad 13) N (drG g N x q) hN5 hok.2.k) dX0_drift_169 rfl (lw_V q636 q638 qs17 q64 q639) hyv_X0_nightGoes rfl rfl 0 rfl rfl [0, 1, 2, 3, 4, 5, 10, 11, 12, 13] [6, 7, 8, 9] [4, 5, 6, 7, 8, 9, 0, 1, 2, 3, 10, 11, 12, 13] rfl rfl rfl (fun _ => [xO ad i j, (ad 1, .inl (M.G.2 4, 4, .inr (.inr (.inr (.inr (fun k => some (ad (2 + k)))))))), (ad 2, .inr (1, [])), (ad 3, .inr (2, [])), (ad 4, .inr (3, [])), (ad 5, .inr (4, [])), wO (ad 6) (ad 7) (ad 8) (ad 9) N g, (ad 7, .inl (M.G.2 1, 20, .inl (wcl g))), (ad 8, .inl (M.G.2 0, 25, .inl (wgt g))), (ad 9, .inl (M.G.2 1, 18, .inl (wpl g))), wO (ad 10) (ad 11) (ad 12) (ad 13) N (night (drG g N x q) N), (ad 11, .inl (M.G.2 1, 20, .inl (wcl (night (drG g N x q) N)))), (ad 12, .inl (M.G.2 0, 25, .inl (wgt (night (drG g N x q) N)))), (ad 13, .inl (M.G.2 1, 18, .inl (wpl (night (drG g N x q) N))))]) (fun _ => rfl) rfl 0 0 rfl rfl (fun _ => []) (fun _ => rfl) (fun _ _ => ?_)
                refine V.iinc (pc' := 175) C (nI (q + 1)) [(6, .int (nI (q + 1))), (10, .int (nI (1 + ((drd x q) / 64) % 9))), (9, .int (nI (((drd x q) / 8) % N))), (8, .int (nI ((drd x q) % N))), (7, .int (nI (drd x q))), (4, .int (drv x (q + 1))), (0, .ref (ad 0)), (1, .int x), (2, .int (nI m)), (3, .int z), (5, .int (drC g N x q))] dX0_drift_172 rfl 11 hnL rfl 10 rfl (ii_N q 1 rfl) rfl ?_
                refine V.goto C 54 dX0_drift_175 rfl ?_
                refine V.lvs [6, 7, 8, 9, 5, 10, 0] (lv2 := [(0, .ref (ad 0)), (1, .int x), (2, .int (nI m)), (3, .int z), (4, .int (drv x (q + 1))), (5, .int (drC g N x (q + 1))), (6, .int (nI (q + 1)))]) (by rw [drC_f hdr]; rfl) ?_
                refine V.weq (ws2 := [xO ad i j, (ad 1, .inl (M.G.2 4, 4, .inr (.inr (.inr (.inr (fun k => some (ad (2 + k)))))))), (ad 2, .inr (1, [])), (ad 3, .inr (2, [])), (ad 4, .inr (3, [])), (ad 5, .inr (4, [])), wO (ad 6) (ad 7) (ad 8) (ad 9) N g, (ad 7, .inl (M.G.2 1, 20, .inl (wcl g))), (ad 8, .inl (M.G.2 0, 25, .inl (wgt g))), (ad 9, .inl (M.G.2 1, 18, .inl (wpl g))), wO (ad 10) (ad 11) (ad 12) (ad 13) N (drG g N x (q + 1)), (ad 11, .inl (M.G.2 1, 20, .inl (wcl (drG g N x (q + 1))))), (ad 12, .inl (M.G.2 0, 25, .inl (wgt (drG g N x (q + 1))))), (ad 13, .inl (M.G.2 1, 18, .inl (wpl (drG g N x (q + 1)))))]) (by rw [drG_f hdr]) ?_
                exact ih_L4 (by omega)
              · have hdr : drP (drG g N x q) N (drd x q) := ⟨h8, h9⟩
                have hgf := (okP_give hok.2 (Nat.lt_of_lt_of_le la hN5) (Nat.lt_of_lt_of_le lb hN5) hdr.1 (by show 1 + drd x q / 64 % 9 ≤ 9; omega) hdr.2).2
                refine V.aload_n (pc' := 146) C 5 dX0_drift_145 rfl rfl ?_
                refine V.get (pc' := 149) C dX0_drift_146 rfl 0 rfl rfl in_X0 2 rfl q184 rfl ?_
                refine V.iload (pc' := 151) C 2 dX0_drift_149 rfl rfl ?_
                refine V.iload (pc' := 153) C 1 dX0_drift_151 rfl rfl ?_
                refine V.iload (pc' := 155) C 0 dX0_drift_153 rfl rfl ?_
                refine V.callV (pc' := 158) (wr := [xO ad i j, (ad 1, .inl (M.G.2 4, 4, .inr (.inr (.inr (.inr (fun k => some (ad (2 + k)))))))), (ad 2, .inr (1, [])), (ad 3, .inr (2, [])), (ad 4, .inr (3, [])), (ad 5, .inr (4, [])), wO (ad 6) (ad 7) (ad 8) (ad 9) N g, (ad 7, .inl (M.G.2 1, 20, .inl (wcl g))), (ad 8, .inl (M.G.2 0, 25, .inl (wgt g))), (ad 9, .inl (M.G.2 1, 18, .inl (wpl g)))]) C (ct_X5_gives M.l M.G (ad 10) (ad 11) (ad 12) (ad 13) N (drG g N x q) ((drd x q) % N) (((drd x q) / 8) % N) (nI (1 + ((drd x q) / 64) % 9)) (by omega) (by omega) hgf.1 hgf.2) dX0_drift_155 rfl (lw_V q626 q627 q628 q69 q629) hyv_X5_gives rfl rfl 0 rfl rfl [10, 11, 12, 13] [0, 1, 2, 3, 4, 5, 6, 7, 8, 9] [0, 1, 2, 3, 4, 5, 6, 7, 8, 9, 10, 11, 12, 13] rfl rfl rfl (fun _ => [xO ad i j, (ad 1, .inl (M.G.2 4, 4, .inr (.inr (.inr (.inr (fun k => some (ad (2 + k)))))))), (ad 2, .inr (1, [])), (ad 3, .inr (2, [])), (ad 4, .inr (3, [])), (ad 5, .inr (4, [])), wO (ad 6) (ad 7) (ad 8) (ad 9) N g, (ad 7, .inl (M.G.2 1, 20, .inl (wcl g))), (ad 8, .inl (M.G.2 0, 25, .inl (wgt g))), (ad 9, .inl (M.G.2 1, 18, .inl (wpl g))), wO (ad 10) (ad 11) (ad 12) (ad 13) N (give2 (drG g N x q) (drG g N x q) ((drd x q) % N) (((drd x q) / 8) % N) (nI (1 + ((drd x q) / 64) % 9))), (ad 11, .inl (M.G.2 1, 20, .inl (wcl (give2 (drG g N x q) (drG g N x q) ((drd x q) % N) (((drd x q) / 8) % N) (nI (1 + ((drd x q) / 64) % 9)))))), (ad 12, .inl (M.G.2 0, 25, .inl (wgt (give2 (drG g N x q) (drG g N x q) ((drd x q) % N) (((drd x q) / 8) % N) (nI (1 + ((drd x q) / 64) % 9)))))), (ad 13, .inl (M.G.2 1, 18, .inl (wpl (give2 (drG g N x q) (drG g N x q) ((drd x q) % N) (((drd x q) / 8) % N) (nI (1 + ((drd x q) / 64) % 9))))))]) (fun _ => rfl) rfl 0 0 rfl rfl (fun _ => []) (fun _ => rfl) (fun _ _ => ?_)
                refine V.iinc (pc' := 161) C ((drC g N x q) + Int32.ofInt 1) [(5, .int ((drC g N x q) + Int32.ofInt 1)), (10, .int (nI (1 + ((drd x q) / 64) % 9))), (9, .int (nI (((drd x q) / 8) % N))), (8, .int (nI ((drd x q) % N))), (7, .int (nI (drd x q))), (4, .int (drv x (q + 1))), (0, .ref (ad 0)), (1, .int x), (2, .int (nI m)), (3, .int z), (6, .int (nI q))] dX0_drift_158 rfl 11 hnL rfl 9 rfl rfl rfl ?_
                refine V.goto C 172 dX0_drift_161 rfl ?_
                refine V.iinc (pc' := 175) C (nI (q + 1)) [(6, .int (nI (q + 1))), (5, .int ((drC g N x q) + Int32.ofInt 1)), (10, .int (nI (1 + ((drd x q) / 64) % 9))), (9, .int (nI (((drd x q) / 8) % N))), (8, .int (nI ((drd x q) % N))), (7, .int (nI (drd x q))), (4, .int (drv x (q + 1))), (0, .ref (ad 0)), (1, .int x), (2, .int (nI m)), (3, .int z)] dX0_drift_172 rfl 11 hnL rfl 10 rfl (ii_N q 1 rfl) rfl ?_
                refine V.goto C 54 dX0_drift_175 rfl ?_
                refine V.lvs [7, 8, 9, 10, 6, 1, 0] (lv2 := [(0, .ref (ad 0)), (1, .int x), (2, .int (nI m)), (3, .int z), (4, .int (drv x (q + 1))), (5, .int (drC g N x (q + 1))), (6, .int (nI (q + 1)))]) (by rw [drC_t hdr]; rfl) ?_
                refine V.weq (ws2 := [xO ad i j, (ad 1, .inl (M.G.2 4, 4, .inr (.inr (.inr (.inr (fun k => some (ad (2 + k)))))))), (ad 2, .inr (1, [])), (ad 3, .inr (2, [])), (ad 4, .inr (3, [])), (ad 5, .inr (4, [])), wO (ad 6) (ad 7) (ad 8) (ad 9) N g, (ad 7, .inl (M.G.2 1, 20, .inl (wcl g))), (ad 8, .inl (M.G.2 0, 25, .inl (wgt g))), (ad 9, .inl (M.G.2 1, 18, .inl (wpl g))), wO (ad 10) (ad 11) (ad 12) (ad 13) N (drG g N x (q + 1)), (ad 11, .inl (M.G.2 1, 20, .inl (wcl (drG g N x (q + 1))))), (ad 12, .inl (M.G.2 0, 25, .inl (wgt (drG g N x (q + 1))))), (ad 13, .inl (M.G.2 1, 18, .inl (wpl (drG g N x (q + 1)))))]) (by rw [drG_t hdr]) ?_
                exact ih_L4 (by omega)
        refine V.lvs [3, 4, 5, 6, 2, 1, 0] (lv2 := [(0, .ref (ad 0)), (1, .int x), (2, .int (nI m)), (3, .int z), (4, .int (drv x 0)), (5, .int (drC g N x 0)), (6, .int (nI 0))]) rfl ?_
        refine V.weq (ws2 := [xO ad i j, (ad 1, .inl (M.G.2 4, 4, .inr (.inr (.inr (.inr (fun k => some (ad (2 + k)))))))), (ad 2, .inr (1, [])), (ad 3, .inr (2, [])), (ad 4, .inr (3, [])), (ad 5, .inr (4, [])), wO (ad 6) (ad 7) (ad 8) (ad 9) N g, (ad 7, .inl (M.G.2 1, 20, .inl (wcl g))), (ad 8, .inl (M.G.2 0, 25, .inl (wgt g))), (ad 9, .inl (M.G.2 1, 18, .inl (wpl g))), wO (ad 10) (ad 11) (ad 12) (ad 13) N (drG g N x 0), (ad 11, .inl (M.G.2 1, 20, .inl (wcl (drG g N x 0)))), (ad 12, .inl (M.G.2 0, 25, .inl (wgt (drG g N x 0)))), (ad 13, .inl (M.G.2 1, 18, .inl (wpl (drG g N x 0))))]) rfl ?_
        exact L4 0 (by omega)
      · refine V.bipush (pc' := 33) C dX0_drift_31 rfl kcb_m2 ?_
        exact V.iret C T dX0_drift_33 (i, j, K, t) rfl rfl (Eq.trans (if_pos (show N = 0 from (nI_eq (by omega) (by omega)).mp h3)).symm (if_pos ⟨h1, h2⟩).symm) rfl ⟨rfl, rfl, rfl, rfl, rfl⟩ rfl rfl rfl
    · refine V.iconst (pc' := 20) C dX0_drift_19 rfl kci_m1 ?_
      exact V.iret C T dX0_drift_20 (i, j, K, t) rfl rfl (if_neg (fun z => h2 z.2)).symm rfl ⟨rfl, rfl, rfl, rfl, rfl⟩ rfl rfl rfl
