set_option maxRecDepth 100000
set_option maxHeartbeats 4000000 in
theorem ct_X0_countN (l : Launch) (G : GG) (ad : Nat → Nat) (i : Nat → Int32) (j : Nat → Int64) (N : Nat) (g : Pg) (np : Nat) (x : Int32) (ok : okP g N np) : Ct l G yX0_count (ws_ yX0_count cX0_count 7 (some .int)) ({ frames := 1, cells := 0, slots := 0, locals := 20 } : Room) [.ref (ad 0), .int x] [xO ad i j, wO (ad 6) (ad 7) (ad 8) (ad 9) N g, (ad 7, .inl (G.2 1, 20, .inl (wcl g))), (ad 8, .inl (G.2 0, 25, .inl (wgt g))), (ad 9, .inl (G.2 1, 18, .inl (wpl g))), (ad 32, .inl (G.2 6, 4, .inr (.inr (.inr (.inr (fun q => some (ad (33 + q)))))))), (ad (33 + 0), .inr (6, [.null]))] (fun _ : Unit => some (.int (a_countC g (i 5) (i 7) (i 11) (-4) np x))) (fun _ => True) (fun _ => [xO ad i j, wO (ad 6) (ad 7) (ad 8) (ad 9) N g, (ad 7, .inl (G.2 1, 20, .inl (wcl g))), (ad 8, .inl (G.2 0, 25, .inl (wgt g))), (ad 9, .inl (G.2 1, 18, .inl (wpl g))), (ad 32, .inl (G.2 6, 4, .inr (.inr (.inr (.inr (fun q => some (ad (33 + q)))))))), (ad (33 + 0), .inr (6, [.null]))]) := by
  refine Ct.of rfl rfl ?_
  intro M el eG hnL C T
  subst el
  subst eG
  have C : Cx M cX0_count "ClockWard" ({ frames := 1, cells := 0, slots := 0, locals := 20 } : Room) := C
  have hN5 := ok.n5
  have hn6 := ok.n6
  refine V.lvs [0, 1] (lv2 := [(0, .ref (ad 0)), (1, .int x)]) rfl ?_
  refine V.aload_n (pc' := 1) C 0 dX0_count_0 rfl rfl ?_
  refine V.get (pc' := 4) C dX0_count_1 rfl 0 rfl rfl in_X0 22 rfl q205 rfl ?_
  refine V.iconst (pc' := 5) C dX0_count_4 rfl kci_0 ?_
  refine V.aald (pc' := 6) C 0 dX0_count_5 rfl 5 6 rfl rfl (by omega) rfl rfl ?_
  refine V.getN (pc' := 9) C dX0_count_6 rfl 6 rfl rfl in_X6 0 rfl q178 rfl ?_
  refine V.astore_nN (pc' := 10) C [(2, .null), (0, .ref (ad 0)), (1, .int x)] dX0_count_9 rfl 7 hnL rfl rfl ?_
  refine V.aload_nN (pc' := 11) C 0 dX0_count_10 rfl rfl ?_
  refine V.instNull (pc' := 14) C dX0_count_11 rfl q888 ?_
  refine V.if_eq (pc' := 17) C 25 dX0_count_14 rfl rfl (fun _ => ?_) (fun h1 => absurd h1 (by decide))
  refine V.aload_nN (pc' := 26) C 0 dX0_count_25 rfl rfl ?_
  refine V.instNull (pc' := 29) C dX0_count_26 rfl q889 ?_
  refine V.if_eq (pc' := 32) C 40 dX0_count_29 rfl rfl (fun _ => ?_) (fun h2 => absurd h2 (by decide))
  refine V.aload_nN (pc' := 41) C 0 dX0_count_40 rfl rfl ?_
  refine V.instNull (pc' := 44) C dX0_count_41 rfl q890 ?_
  refine V.if_eq (pc' := 47) C 55 dX0_count_44 rfl rfl (fun _ => ?_) (fun h3 => absurd h3 (by decide))
  refine V.bipush (pc' := 57) C dX0_count_55 rfl kcb_m4 ?_
  refine V.istore_n (pc' := 58) C [(3, .int (-4)), (2, .null), (0, .ref (ad 0)), (1, .int x)] dX0_count_57 rfl 7 hnL rfl rfl ?_
  refine V.iconst (pc' := 59) C dX0_count_58 rfl kci_0 ?_
  refine V.istore (pc' := 61) C [(4, .int 0), (3, .int (-4)), (2, .null), (0, .ref (ad 0)), (1, .int x)] dX0_count_59 rfl 7 hnL rfl rfl ?_
  refine V.iconst (pc' := 62) C dX0_count_61 rfl kci_0 ?_
  refine V.istore (pc' := 64) C [(5, .int 0), (4, .int 0), (3, .int (-4)), (2, .null), (0, .ref (ad 0)), (1, .int x)] dX0_count_62 rfl 7 hnL rfl rfl ?_
  refine V.iconst (pc' := 65) C dX0_count_64 rfl kci_0 ?_
  refine V.istore (pc' := 67) C [(6, .int 0), (5, .int 0), (4, .int 0), (3, .int (-4)), (2, .null), (0, .ref (ad 0)), (1, .int x)] dX0_count_65 rfl 7 hnL rfl rfl ?_
  have L4 : ∀ c : Nat, c ≤ 25 → V M 0 0 [xO ad i j, wO (ad 6) (ad 7) (ad 8) (ad 9) N g, (ad 7, .inl (M.G.2 1, 20, .inl (wcl g))), (ad 8, .inl (M.G.2 0, 25, .inl (wgt g))), (ad 9, .inl (M.G.2 1, 18, .inl (wpl g))), (ad 32, .inl (M.G.2 6, 4, .inr (.inr (.inr (.inr (fun q => some (ad (33 + q)))))))), (ad (33 + 0), .inr (6, [.null]))] [(0, .ref (ad 0)), (1, .int x), (3, .int (-4)), (4, .int (gotTo g c)), (5, .int 0), (6, .int (nI c))] [] 67 := by
    refine loopN _ 25 (fun c hc ih_L4 => ?_)
    refine V.iload (pc' := 69) C 5 dX0_count_67 rfl rfl ?_
    refine V.bipush (pc' := 71) C dX0_count_69 rfl kcb_25 ?_
    refine V.icmp_geN (pc' := 74) C c 25 (by omega) (by omega) 95 dX0_count_71 rfl rfl (fun h5 => ?_) (fun h5 => ?_)
    · have hx6 : 25 = c := by omega
      subst hx6
      refine V.iconst (pc' := 96) C dX0_count_95 rfl kci_0 ?_
      refine V.istore (pc' := 98) C [(6, .int 0), (0, .ref (ad 0)), (1, .int x), (3, .int (-4)), (4, .int (gotTo g 25)), (5, .int 0)] dX0_count_96 rfl 7 hnL rfl rfl ?_
      have L7 : ∀ e : Nat, e ≤ np → V M 0 0 [xO ad i j, wO (ad 6) (ad 7) (ad 8) (ad 9) N g, (ad 7, .inl (M.G.2 1, 20, .inl (wcl g))), (ad 8, .inl (M.G.2 0, 25, .inl (wgt g))), (ad 9, .inl (M.G.2 1, 18, .inl (wpl g))), (ad 32, .inl (M.G.2 6, 4, .inr (.inr (.inr (.inr (fun q => some (ad (33 + q)))))))), (ad (33 + 0), .inr (6, [.null]))] [(0, .ref (ad 0)), (1, .int x), (3, .int (-4)), (4, .int (gotTo g 25)), (5, .int (plaTo g e)), (6, .int (nI e))] [] 98 := by
        refine loopN _ np (fun e he ih_L7 => ?_)
        refine V.iload (pc' := 100) C 5 dX0_count_98 rfl rfl ?_
        refine V.aload_n (pc' := 101) C 0 dX0_count_100 rfl rfl ?_
        refine V.get (pc' := 104) C dX0_count_101 rfl 0 rfl rfl in_X0 1 rfl q183 rfl ?_
        refine V.getN (pc' := 107) C dX0_count_104 rfl 1 rfl rfl in_X5 6 rfl q146 rfl ?_
        refine V.topI (y := nI np) ok.2.2.1 ?_
        refine V.icmp_geN (pc' := 110) C e np (by omega) (by omega) 135 dX0_count_107 rfl rfl (fun h8 => ?_) (fun h8 => ?_)
        · have hx9 : np = e := by omega
          subst hx9
          refine V.iload_n (pc' := 136) C 1 dX0_count_135 rfl rfl ?_
          by_cases h10 : x = 0
          · subst h10
            refine V.tableIn C 176 dX0_count_136 (by decide) (by decide) rfl rfl ?_
            refine V.aload_n (pc' := 177) C 0 dX0_count_176 rfl rfl ?_
            refine V.get (pc' := 180) C dX0_count_177 rfl 0 rfl rfl in_X0 7 rfl q189 rfl ?_
            exact V.iret C T dX0_count_180 () rfl rfl rfl rfl trivial rfl rfl rfl
          by_cases h11 : x = 1
          · subst h11
            refine V.tableIn C 181 dX0_count_136 (by decide) (by decide) rfl rfl ?_
            refine V.aload_n (pc' := 182) C 0 dX0_count_181 rfl rfl ?_
            refine V.get (pc' := 185) C dX0_count_182 rfl 0 rfl rfl in_X0 5 rfl q187 rfl ?_
            refine V.callS (pc' := 188) (wr := [xO ad i j, wO (ad 6) (ad 7) (ad 8) (ad 9) N g, (ad 7, .inl (M.G.2 1, 20, .inl (wcl g))), (ad 8, .inl (M.G.2 0, 25, .inl (wgt g))), (ad 9, .inl (M.G.2 1, 18, .inl (wpl g))), (ad 32, .inl (M.G.2 6, 4, .inr (.inr (.inr (.inr (fun q => some (ad (33 + q)))))))), (ad (33 + 0), .inr (6, [.null]))]) C (ct_J7_bitCount M.l M.G (i 5) ) dX0_count_185 rfl (lw_S q671 q672 q82 q673) hys_J7_bitCount rfl rfl [] [0, 1, 2, 3, 4, 5, 6] [0, 1, 2, 3, 4, 5, 6] rfl rfl rfl (fun _ => [xO ad i j, wO (ad 6) (ad 7) (ad 8) (ad 9) N g, (ad 7, .inl (M.G.2 1, 20, .inl (wcl g))), (ad 8, .inl (M.G.2 0, 25, .inl (wgt g))), (ad 9, .inl (M.G.2 1, 18, .inl (wpl g))), (ad 32, .inl (M.G.2 6, 4, .inr (.inr (.inr (.inr (fun q => some (ad (33 + q)))))))), (ad (33 + 0), .inr (6, [.null]))]) (fun _ => rfl) rfl 0 0 rfl rfl (fun _ => [.int (bitCnt (i 5))]) (fun _ => rfl) (fun _ _ => ?_)
            exact V.iret C T dX0_count_188 () rfl rfl rfl rfl trivial rfl rfl rfl
          by_cases h12 : x = 2
          · subst h12
            refine V.tableIn C 189 dX0_count_136 (by decide) (by decide) rfl rfl ?_
            refine V.aload_n (pc' := 190) C 0 dX0_count_189 rfl rfl ?_
            refine V.get (pc' := 193) C dX0_count_190 rfl 0 rfl rfl in_X0 11 rfl q194 rfl ?_
            exact V.iret C T dX0_count_193 () rfl rfl rfl rfl trivial rfl rfl rfl
          by_cases h13 : x = 3
          · subst h13
            refine V.tableIn C 194 dX0_count_136 (by decide) (by decide) rfl rfl ?_
            refine V.iload_n (pc' := 195) C 2 dX0_count_194 rfl rfl ?_
            exact V.iret C T dX0_count_195 () rfl rfl rfl rfl trivial rfl rfl rfl
          by_cases h14 : x = 4
          · subst h14
            refine V.tableIn C 196 dX0_count_136 (by decide) (by decide) rfl rfl ?_
            refine V.iload (pc' := 198) C 3 dX0_count_196 rfl rfl ?_
            exact V.iret C T dX0_count_198 () rfl rfl rfl rfl trivial rfl rfl rfl
          by_cases h15 : x = 5
          · subst h15
            refine V.tableIn C 199 dX0_count_136 (by decide) (by decide) rfl rfl ?_
            refine V.iload (pc' := 201) C 4 dX0_count_199 rfl rfl ?_
            exact V.iret C T dX0_count_201 () rfl rfl rfl rfl trivial rfl rfl rfl
          refine V.tableOut C 202 dX0_count_136 (by have := lv_neT (a := 0) h10 (by decide); have := lv_neT (a := 1) h11 (by decide); have := lv_neT (a := 2) h12 (by decide); have := lv_neT (a := 3) h13 (by decide); have := lv_neT (a := 4) h14 (by decide); have := lv_neT (a := 5) h15 (by decide); omega) rfl ?_
          refine V.iconst (pc' := 203) C dX0_count_202 rfl kci_m1 ?_
          exact V.iret C T dX0_count_203 () rfl rfl (by unfold a_countC; rw [if_neg h10, if_neg h11, if_neg h12, if_neg h13, if_neg h14, if_neg h15]) rfl trivial rfl rfl rfl
        · refine V.iload (pc' := 112) C 4 dX0_count_110 rfl rfl ?_
          refine V.aload_n (pc' := 113) C 0 dX0_count_112 rfl rfl ?_
          refine V.get (pc' := 116) C dX0_count_113 rfl 0 rfl rfl in_X0 1 rfl q183 rfl ?_
          refine V.getN (pc' := 119) C dX0_count_116 rfl 1 rfl rfl in_X5 7 rfl q149 rfl ?_
          refine V.iconst (pc' := 120) C dX0_count_119 rfl kci_3 ?_
          refine V.iload (pc' := 122) C 5 dX0_count_120 rfl rfl ?_
          refine V.imulN (pc' := 123) C 3 e dX0_count_122 rfl ?_
          refine V.iconst (pc' := 124) C dX0_count_123 rfl kci_2 ?_
          refine V.iaddN (pc' := 125) C (3 * e) 2 dX0_count_124 rfl ?_
          refine V.bald (pc' := 126) C (3 * e + 2) dX0_count_125 rfl 4 rfl (by omega) rfl ?_
          refine V.topI (y := g (48 + 3 * e + 2)) (by show g (48 + (3 * e + 2)) = _; rw [← Nat.add_assoc]) ?_
          refine V.iadd (pc' := 127) C dX0_count_126 rfl ?_
          refine V.istore (pc' := 129) C [(5, .int ((plaTo g e) + (g (48 + 3 * e + 2)))), (0, .ref (ad 0)), (1, .int x), (3, .int (-4)), (4, .int (gotTo g 25)), (6, .int (nI e))] dX0_count_127 rfl 7 hnL rfl rfl ?_
          refine V.iinc (pc' := 132) C (nI (e + 1)) [(6, .int (nI (e + 1))), (5, .int ((plaTo g e) + (g (48 + 3 * e + 2)))), (0, .ref (ad 0)), (1, .int x), (3, .int (-4)), (4, .int (gotTo g 25))] dX0_count_129 rfl 7 hnL rfl 5 rfl (ii_N e 1 rfl) rfl ?_
          refine V.goto C 98 dX0_count_132 rfl ?_
          refine V.lvs [2, 3, 4, 5, 1, 0] (lv2 := [(0, .ref (ad 0)), (1, .int x), (3, .int (-4)), (4, .int (gotTo g 25)), (5, .int (plaTo g (e + 1))), (6, .int (nI (e + 1)))]) rfl ?_
          exact ih_L7 (by omega)
      refine V.lvs [1, 2, 3, 4, 5, 0] (lv2 := [(0, .ref (ad 0)), (1, .int x), (3, .int (-4)), (4, .int (gotTo g 25)), (5, .int (plaTo g 0)), (6, .int (nI 0))]) rfl ?_
      exact L7 0 (by omega)
    · refine V.iload (pc' := 76) C 3 dX0_count_74 rfl rfl ?_
      refine V.aload_n (pc' := 77) C 0 dX0_count_76 rfl rfl ?_
      refine V.get (pc' := 80) C dX0_count_77 rfl 0 rfl rfl in_X0 1 rfl q183 rfl ?_
      refine V.getN (pc' := 83) C dX0_count_80 rfl 1 rfl rfl in_X5 5 rfl q144 rfl ?_
      refine V.iload (pc' := 85) C 5 dX0_count_83 rfl rfl ?_
      refine V.iald (pc' := 86) C c dX0_count_85 rfl 3 rfl (by omega) rfl ?_
      refine V.iadd (pc' := 87) C dX0_count_86 rfl ?_
      refine V.istore (pc' := 89) C [(4, .int ((gotTo g c) + ((wgt g) c))), (0, .ref (ad 0)), (1, .int x), (3, .int (-4)), (5, .int 0), (6, .int (nI c))] dX0_count_87 rfl 7 hnL rfl rfl ?_
      refine V.iinc (pc' := 92) C (nI (c + 1)) [(6, .int (nI (c + 1))), (4, .int ((gotTo g c) + ((wgt g) c))), (0, .ref (ad 0)), (1, .int x), (3, .int (-4)), (5, .int 0)] dX0_count_89 rfl 7 hnL rfl 5 rfl (ii_N c 1 rfl) rfl ?_
      refine V.goto C 67 dX0_count_92 rfl ?_
      refine V.lvs [2, 3, 4, 1, 5, 0] (lv2 := [(0, .ref (ad 0)), (1, .int x), (3, .int (-4)), (4, .int (gotTo g (c + 1))), (5, .int 0), (6, .int (nI (c + 1)))]) rfl ?_
      exact ih_L4 (by omega)
  refine V.lvs [5, 6, 3, 2, 1, 0] (lv2 := [(0, .ref (ad 0)), (1, .int x), (3, .int (-4)), (4, .int (gotTo g 0)), (5, .int 0), (6, .int (nI 0))]) rfl ?_
  exact L4 0 (by omega)
set_option maxHeartbeats 4000000 in
theorem ct_X0_countB (l : Launch) (G : GG) (ad : Nat → Nat) (i : Nat → Int32) (j : Nat → Int64) (a : Nat) (n : Nat) (f : Nat → Int32) (N : Nat) (g : Pg) (np : Nat) (x : Int32) (ok : okP g N np) (hn : n ≤ 40) : Ct l G yX0_count (ws_ yX0_count cX0_count 7 (some .int)) ({ frames := 1, cells := 0, slots := 0, locals := 20 } : Room) [.ref (ad 0), .int x] [xO ad i j, wO (ad 6) (ad 7) (ad 8) (ad 9) N g, (ad 7, .inl (G.2 1, 20, .inl (wcl g))), (ad 8, .inl (G.2 0, 25, .inl (wgt g))), (ad 9, .inl (G.2 1, 18, .inl (wpl g))), (ad 32, .inl (G.2 6, 4, .inr (.inr (.inr (.inr (fun q => some (ad (33 + q)))))))), (ad (33 + 0), .inr (6, [.ref a])), (a, .inl (G.2 1, n, .inl f))] (fun _ : Unit => some (.int (a_countC g (i 5) (i 7) (i 11) (nI n) np x))) (fun _ => True) (fun _ => [xO ad i j, wO (ad 6) (ad 7) (ad 8) (ad 9) N g, (ad 7, .inl (G.2 1, 20, .inl (wcl g))), (ad 8, .inl (G.2 0, 25, .inl (wgt g))), (ad 9, .inl (G.2 1, 18, .inl (wpl g))), (ad 32, .inl (G.2 6, 4, .inr (.inr (.inr (.inr (fun q => some (ad (33 + q)))))))), (ad (33 + 0), .inr (6, [.ref a])), (a, .inl (G.2 1, n, .inl f))]) := by
  refine Ct.of rfl rfl ?_
  intro M el eG hnL C T
  subst el
  subst eG
  have C : Cx M cX0_count "ClockWard" ({ frames := 1, cells := 0, slots := 0, locals := 20 } : Room) := C
  have hN5 := ok.n5
  have hn6 := ok.n6
  refine V.lvs [0, 1] (lv2 := [(0, .ref (ad 0)), (1, .int x)]) rfl ?_
  refine V.aload_n (pc' := 1) C 0 dX0_count_0 rfl rfl ?_
  refine V.get (pc' := 4) C dX0_count_1 rfl 0 rfl rfl in_X0 22 rfl q205 rfl ?_
  refine V.iconst (pc' := 5) C dX0_count_4 rfl kci_0 ?_
  refine V.aald (pc' := 6) C 0 dX0_count_5 rfl 5 6 rfl rfl (by omega) rfl rfl ?_
  refine V.getN (pc' := 9) C dX0_count_6 rfl 6 rfl rfl in_X6 0 rfl q178 rfl ?_
  refine V.astore_n (pc' := 10) C [(2, .ref a), (0, .ref (ad 0)), (1, .int x)] dX0_count_9 rfl 7 hnL rfl rfl ?_
  refine V.aload_n (pc' := 11) C 0 dX0_count_10 rfl rfl ?_
  refine V.instYes (pc' := 14) C dX0_count_11 rfl 7 1 rfl rfl (fun U z => va_nm_byte z) q888 ?_
  refine V.if_eq (pc' := 17) C 25 dX0_count_14 rfl rfl (fun h1 => absurd h1 (by decide)) (fun _ => ?_)
  refine V.aload_n (pc' := 18) C 0 dX0_count_17 rfl rfl ?_
  refine V.castYes (pc' := 21) C dX0_count_18 rfl 7 1 rfl rfl (fun U z => va_nm_byte z) q888 ?_
  refine V.alen (pc' := 22) C dX0_count_21 rfl 7 1 rfl rfl ?_
  refine V.goto C 57 dX0_count_22 rfl ?_
  refine V.istore_n (pc' := 58) C [(3, .int (nI n)), (2, .ref a), (0, .ref (ad 0)), (1, .int x)] dX0_count_57 rfl 7 hnL rfl rfl ?_
  refine V.iconst (pc' := 59) C dX0_count_58 rfl kci_0 ?_
  refine V.istore (pc' := 61) C [(4, .int 0), (3, .int (nI n)), (2, .ref a), (0, .ref (ad 0)), (1, .int x)] dX0_count_59 rfl 7 hnL rfl rfl ?_
  refine V.iconst (pc' := 62) C dX0_count_61 rfl kci_0 ?_
  refine V.istore (pc' := 64) C [(5, .int 0), (4, .int 0), (3, .int (nI n)), (2, .ref a), (0, .ref (ad 0)), (1, .int x)] dX0_count_62 rfl 7 hnL rfl rfl ?_
  refine V.iconst (pc' := 65) C dX0_count_64 rfl kci_0 ?_
  refine V.istore (pc' := 67) C [(6, .int 0), (5, .int 0), (4, .int 0), (3, .int (nI n)), (2, .ref a), (0, .ref (ad 0)), (1, .int x)] dX0_count_65 rfl 7 hnL rfl rfl ?_
  have L2 : ∀ c : Nat, c ≤ 25 → V M 0 0 [xO ad i j, wO (ad 6) (ad 7) (ad 8) (ad 9) N g, (ad 7, .inl (M.G.2 1, 20, .inl (wcl g))), (ad 8, .inl (M.G.2 0, 25, .inl (wgt g))), (ad 9, .inl (M.G.2 1, 18, .inl (wpl g))), (ad 32, .inl (M.G.2 6, 4, .inr (.inr (.inr (.inr (fun q => some (ad (33 + q)))))))), (ad (33 + 0), .inr (6, [.ref a])), (a, .inl (M.G.2 1, n, .inl f))] [(0, .ref (ad 0)), (1, .int x), (3, .int (nI n)), (4, .int (gotTo g c)), (5, .int 0), (6, .int (nI c))] [] 67 := by
    refine loopN _ 25 (fun c hc ih_L2 => ?_)
    refine V.iload (pc' := 69) C 5 dX0_count_67 rfl rfl ?_
    refine V.bipush (pc' := 71) C dX0_count_69 rfl kcb_25 ?_
    refine V.icmp_geN (pc' := 74) C c 25 (by omega) (by omega) 95 dX0_count_71 rfl rfl (fun h3 => ?_) (fun h3 => ?_)
    · have hx4 : 25 = c := by omega
      subst hx4
      refine V.iconst (pc' := 96) C dX0_count_95 rfl kci_0 ?_
      refine V.istore (pc' := 98) C [(6, .int 0), (0, .ref (ad 0)), (1, .int x), (3, .int (nI n)), (4, .int (gotTo g 25)), (5, .int 0)] dX0_count_96 rfl 7 hnL rfl rfl ?_
      have L5 : ∀ e : Nat, e ≤ np → V M 0 0 [xO ad i j, wO (ad 6) (ad 7) (ad 8) (ad 9) N g, (ad 7, .inl (M.G.2 1, 20, .inl (wcl g))), (ad 8, .inl (M.G.2 0, 25, .inl (wgt g))), (ad 9, .inl (M.G.2 1, 18, .inl (wpl g))), (ad 32, .inl (M.G.2 6, 4, .inr (.inr (.inr (.inr (fun q => some (ad (33 + q)))))))), (ad (33 + 0), .inr (6, [.ref a])), (a, .inl (M.G.2 1, n, .inl f))] [(0, .ref (ad 0)), (1, .int x), (3, .int (nI n)), (4, .int (gotTo g 25)), (5, .int (plaTo g e)), (6, .int (nI e))] [] 98 := by
        refine loopN _ np (fun e he ih_L5 => ?_)
        refine V.iload (pc' := 100) C 5 dX0_count_98 rfl rfl ?_
        refine V.aload_n (pc' := 101) C 0 dX0_count_100 rfl rfl ?_
        refine V.get (pc' := 104) C dX0_count_101 rfl 0 rfl rfl in_X0 1 rfl q183 rfl ?_
        refine V.getN (pc' := 107) C dX0_count_104 rfl 1 rfl rfl in_X5 6 rfl q146 rfl ?_
        refine V.topI (y := nI np) ok.2.2.1 ?_
        refine V.icmp_geN (pc' := 110) C e np (by omega) (by omega) 135 dX0_count_107 rfl rfl (fun h6 => ?_) (fun h6 => ?_)
        · have hx7 : np = e := by omega
          subst hx7
          refine V.iload_n (pc' := 136) C 1 dX0_count_135 rfl rfl ?_
          by_cases h8 : x = 0
          · subst h8
            refine V.tableIn C 176 dX0_count_136 (by decide) (by decide) rfl rfl ?_
            refine V.aload_n (pc' := 177) C 0 dX0_count_176 rfl rfl ?_
            refine V.get (pc' := 180) C dX0_count_177 rfl 0 rfl rfl in_X0 7 rfl q189 rfl ?_
            exact V.iret C T dX0_count_180 () rfl rfl rfl rfl trivial rfl rfl rfl
          by_cases h9 : x = 1
          · subst h9
            refine V.tableIn C 181 dX0_count_136 (by decide) (by decide) rfl rfl ?_
            refine V.aload_n (pc' := 182) C 0 dX0_count_181 rfl rfl ?_
            refine V.get (pc' := 185) C dX0_count_182 rfl 0 rfl rfl in_X0 5 rfl q187 rfl ?_
            refine V.callS (pc' := 188) (wr := [xO ad i j, wO (ad 6) (ad 7) (ad 8) (ad 9) N g, (ad 7, .inl (M.G.2 1, 20, .inl (wcl g))), (ad 8, .inl (M.G.2 0, 25, .inl (wgt g))), (ad 9, .inl (M.G.2 1, 18, .inl (wpl g))), (ad 32, .inl (M.G.2 6, 4, .inr (.inr (.inr (.inr (fun q => some (ad (33 + q)))))))), (ad (33 + 0), .inr (6, [.ref a])), (a, .inl (M.G.2 1, n, .inl f))]) C (ct_J7_bitCount M.l M.G (i 5) ) dX0_count_185 rfl (lw_S q671 q672 q82 q673) hys_J7_bitCount rfl rfl [] [0, 1, 2, 3, 4, 5, 6, 7] [0, 1, 2, 3, 4, 5, 6, 7] rfl rfl rfl (fun _ => [xO ad i j, wO (ad 6) (ad 7) (ad 8) (ad 9) N g, (ad 7, .inl (M.G.2 1, 20, .inl (wcl g))), (ad 8, .inl (M.G.2 0, 25, .inl (wgt g))), (ad 9, .inl (M.G.2 1, 18, .inl (wpl g))), (ad 32, .inl (M.G.2 6, 4, .inr (.inr (.inr (.inr (fun q => some (ad (33 + q)))))))), (ad (33 + 0), .inr (6, [.ref a])), (a, .inl (M.G.2 1, n, .inl f))]) (fun _ => rfl) rfl 0 0 rfl rfl (fun _ => [.int (bitCnt (i 5))]) (fun _ => rfl) (fun _ _ => ?_)
            exact V.iret C T dX0_count_188 () rfl rfl rfl rfl trivial rfl rfl rfl
          by_cases h10 : x = 2
          · subst h10
            refine V.tableIn C 189 dX0_count_136 (by decide) (by decide) rfl rfl ?_
            refine V.aload_n (pc' := 190) C 0 dX0_count_189 rfl rfl ?_
            refine V.get (pc' := 193) C dX0_count_190 rfl 0 rfl rfl in_X0 11 rfl q194 rfl ?_
            exact V.iret C T dX0_count_193 () rfl rfl rfl rfl trivial rfl rfl rfl
          by_cases h11 : x = 3
          · subst h11
            refine V.tableIn C 194 dX0_count_136 (by decide) (by decide) rfl rfl ?_
            refine V.iload_n (pc' := 195) C 2 dX0_count_194 rfl rfl ?_
            exact V.iret C T dX0_count_195 () rfl rfl rfl rfl trivial rfl rfl rfl
          by_cases h12 : x = 4
          · subst h12
            refine V.tableIn C 196 dX0_count_136 (by decide) (by decide) rfl rfl ?_
            refine V.iload (pc' := 198) C 3 dX0_count_196 rfl rfl ?_
            exact V.iret C T dX0_count_198 () rfl rfl rfl rfl trivial rfl rfl rfl
          by_cases h13 : x = 5
          · subst h13
            refine V.tableIn C 199 dX0_count_136 (by decide) (by decide) rfl rfl ?_
            refine V.iload (pc' := 201) C 4 dX0_count_199 rfl rfl ?_
            exact V.iret C T dX0_count_201 () rfl rfl rfl rfl trivial rfl rfl rfl
          refine V.tableOut C 202 dX0_count_136 (by have := lv_neT (a := 0) h8 (by decide); have := lv_neT (a := 1) h9 (by decide); have := lv_neT (a := 2) h10 (by decide); have := lv_neT (a := 3) h11 (by decide); have := lv_neT (a := 4) h12 (by decide); have := lv_neT (a := 5) h13 (by decide); omega) rfl ?_
          refine V.iconst (pc' := 203) C dX0_count_202 rfl kci_m1 ?_
          exact V.iret C T dX0_count_203 () rfl rfl (by unfold a_countC; rw [if_neg h8, if_neg h9, if_neg h10, if_neg h11, if_neg h12, if_neg h13]) rfl trivial rfl rfl rfl
        · refine V.iload (pc' := 112) C 4 dX0_count_110 rfl rfl ?_
          refine V.aload_n (pc' := 113) C 0 dX0_count_112 rfl rfl ?_
          refine V.get (pc' := 116) C dX0_count_113 rfl 0 rfl rfl in_X0 1 rfl q183 rfl ?_
          refine V.getN (pc' := 119) C dX0_count_116 rfl 1 rfl rfl in_X5 7 rfl q149 rfl ?_
          refine V.iconst (pc' := 120) C dX0_count_119 rfl kci_3 ?_
          refine V.iload (pc' := 122) C 5 dX0_count_120 rfl rfl ?_
          refine V.imulN (pc' := 123) C 3 e dX0_count_122 rfl ?_
          refine V.iconst (pc' := 124) C dX0_count_123 rfl kci_2 ?_
          refine V.iaddN (pc' := 125) C (3 * e) 2 dX0_count_124 rfl ?_
          refine V.bald (pc' := 126) C (3 * e + 2) dX0_count_125 rfl 4 rfl (by omega) rfl ?_
          refine V.topI (y := g (48 + 3 * e + 2)) (by show g (48 + (3 * e + 2)) = _; rw [← Nat.add_assoc]) ?_
          refine V.iadd (pc' := 127) C dX0_count_126 rfl ?_
          refine V.istore (pc' := 129) C [(5, .int ((plaTo g e) + (g (48 + 3 * e + 2)))), (0, .ref (ad 0)), (1, .int x), (3, .int (nI n)), (4, .int (gotTo g 25)), (6, .int (nI e))] dX0_count_127 rfl 7 hnL rfl rfl ?_
          refine V.iinc (pc' := 132) C (nI (e + 1)) [(6, .int (nI (e + 1))), (5, .int ((plaTo g e) + (g (48 + 3 * e + 2)))), (0, .ref (ad 0)), (1, .int x), (3, .int (nI n)), (4, .int (gotTo g 25))] dX0_count_129 rfl 7 hnL rfl 5 rfl (ii_N e 1 rfl) rfl ?_
          refine V.goto C 98 dX0_count_132 rfl ?_
          refine V.lvs [2, 3, 4, 5, 1, 0] (lv2 := [(0, .ref (ad 0)), (1, .int x), (3, .int (nI n)), (4, .int (gotTo g 25)), (5, .int (plaTo g (e + 1))), (6, .int (nI (e + 1)))]) rfl ?_
          exact ih_L5 (by omega)
      refine V.lvs [1, 2, 3, 4, 5, 0] (lv2 := [(0, .ref (ad 0)), (1, .int x), (3, .int (nI n)), (4, .int (gotTo g 25)), (5, .int (plaTo g 0)), (6, .int (nI 0))]) rfl ?_
      exact L5 0 (by omega)
    · refine V.iload (pc' := 76) C 3 dX0_count_74 rfl rfl ?_
      refine V.aload_n (pc' := 77) C 0 dX0_count_76 rfl rfl ?_
      refine V.get (pc' := 80) C dX0_count_77 rfl 0 rfl rfl in_X0 1 rfl q183 rfl ?_
      refine V.getN (pc' := 83) C dX0_count_80 rfl 1 rfl rfl in_X5 5 rfl q144 rfl ?_
      refine V.iload (pc' := 85) C 5 dX0_count_83 rfl rfl ?_
      refine V.iald (pc' := 86) C c dX0_count_85 rfl 3 rfl (by omega) rfl ?_
      refine V.iadd (pc' := 87) C dX0_count_86 rfl ?_
      refine V.istore (pc' := 89) C [(4, .int ((gotTo g c) + ((wgt g) c))), (0, .ref (ad 0)), (1, .int x), (3, .int (nI n)), (5, .int 0), (6, .int (nI c))] dX0_count_87 rfl 7 hnL rfl rfl ?_
      refine V.iinc (pc' := 92) C (nI (c + 1)) [(6, .int (nI (c + 1))), (4, .int ((gotTo g c) + ((wgt g) c))), (0, .ref (ad 0)), (1, .int x), (3, .int (nI n)), (5, .int 0)] dX0_count_89 rfl 7 hnL rfl 5 rfl (ii_N c 1 rfl) rfl ?_
      refine V.goto C 67 dX0_count_92 rfl ?_
      refine V.lvs [2, 3, 4, 1, 5, 0] (lv2 := [(0, .ref (ad 0)), (1, .int x), (3, .int (nI n)), (4, .int (gotTo g (c + 1))), (5, .int 0), (6, .int (nI (c + 1)))]) rfl ?_
      exact ih_L2 (by omega)
  refine V.lvs [5, 6, 3, 2, 1, 0] (lv2 := [(0, .ref (ad 0)), (1, .int x), (3, .int (nI n)), (4, .int (gotTo g 0)), (5, .int 0), (6, .int (nI 0))]) rfl ?_
  exact L2 0 (by omega)
set_option maxHeartbeats 4000000 in
theorem ct_X0_countS (l : Launch) (G : GG) (ad : Nat → Nat) (i : Nat → Int32) (j : Nat → Int64) (a : Nat) (n : Nat) (f : Nat → Int32) (N : Nat) (g : Pg) (np : Nat) (x : Int32) (ok : okP g N np) (hn : n ≤ 40) : Ct l G yX0_count (ws_ yX0_count cX0_count 7 (some .int)) ({ frames := 1, cells := 0, slots := 0, locals := 20 } : Room) [.ref (ad 0), .int x] [xO ad i j, wO (ad 6) (ad 7) (ad 8) (ad 9) N g, (ad 7, .inl (G.2 1, 20, .inl (wcl g))), (ad 8, .inl (G.2 0, 25, .inl (wgt g))), (ad 9, .inl (G.2 1, 18, .inl (wpl g))), (ad 32, .inl (G.2 6, 4, .inr (.inr (.inr (.inr (fun q => some (ad (33 + q)))))))), (ad (33 + 0), .inr (6, [.ref a])), (a, .inl (G.2 2, n, .inl f))] (fun _ : Unit => some (.int (a_countC g (i 5) (i 7) (i 11) (nI n) np x))) (fun _ => True) (fun _ => [xO ad i j, wO (ad 6) (ad 7) (ad 8) (ad 9) N g, (ad 7, .inl (G.2 1, 20, .inl (wcl g))), (ad 8, .inl (G.2 0, 25, .inl (wgt g))), (ad 9, .inl (G.2 1, 18, .inl (wpl g))), (ad 32, .inl (G.2 6, 4, .inr (.inr (.inr (.inr (fun q => some (ad (33 + q)))))))), (ad (33 + 0), .inr (6, [.ref a])), (a, .inl (G.2 2, n, .inl f))]) := by
  refine Ct.of rfl rfl ?_
  intro M el eG hnL C T
  subst el
  subst eG
  have C : Cx M cX0_count "ClockWard" ({ frames := 1, cells := 0, slots := 0, locals := 20 } : Room) := C
  have hN5 := ok.n5
  have hn6 := ok.n6
  refine V.lvs [0, 1] (lv2 := [(0, .ref (ad 0)), (1, .int x)]) rfl ?_
  refine V.aload_n (pc' := 1) C 0 dX0_count_0 rfl rfl ?_
  refine V.get (pc' := 4) C dX0_count_1 rfl 0 rfl rfl in_X0 22 rfl q205 rfl ?_
  refine V.iconst (pc' := 5) C dX0_count_4 rfl kci_0 ?_
  refine V.aald (pc' := 6) C 0 dX0_count_5 rfl 5 6 rfl rfl (by omega) rfl rfl ?_
  refine V.getN (pc' := 9) C dX0_count_6 rfl 6 rfl rfl in_X6 0 rfl q178 rfl ?_
  refine V.astore_n (pc' := 10) C [(2, .ref a), (0, .ref (ad 0)), (1, .int x)] dX0_count_9 rfl 7 hnL rfl rfl ?_
  refine V.aload_n (pc' := 11) C 0 dX0_count_10 rfl rfl ?_
  refine V.instNo (pc' := 14) C dX0_count_11 rfl 7 2 rfl rfl (fun U z => va_nm_short z) q888 (by decide) ?_
  refine V.if_eq (pc' := 17) C 25 dX0_count_14 rfl rfl (fun _ => ?_) (fun h1 => absurd h1 (by decide))
  refine V.aload_n (pc' := 26) C 0 dX0_count_25 rfl rfl ?_
  refine V.instYes (pc' := 29) C dX0_count_26 rfl 7 2 rfl rfl (fun U z => va_nm_short z) q889 ?_
  refine V.if_eq (pc' := 32) C 40 dX0_count_29 rfl rfl (fun h2 => absurd h2 (by decide)) (fun _ => ?_)
  refine V.aload_n (pc' := 33) C 0 dX0_count_32 rfl rfl ?_
  refine V.castYes (pc' := 36) C dX0_count_33 rfl 7 2 rfl rfl (fun U z => va_nm_short z) q889 ?_
  refine V.alen (pc' := 37) C dX0_count_36 rfl 7 2 rfl rfl ?_
  refine V.goto C 57 dX0_count_37 rfl ?_
  refine V.istore_n (pc' := 58) C [(3, .int (nI n)), (2, .ref a), (0, .ref (ad 0)), (1, .int x)] dX0_count_57 rfl 7 hnL rfl rfl ?_
  refine V.iconst (pc' := 59) C dX0_count_58 rfl kci_0 ?_
  refine V.istore (pc' := 61) C [(4, .int 0), (3, .int (nI n)), (2, .ref a), (0, .ref (ad 0)), (1, .int x)] dX0_count_59 rfl 7 hnL rfl rfl ?_
  refine V.iconst (pc' := 62) C dX0_count_61 rfl kci_0 ?_
  refine V.istore (pc' := 64) C [(5, .int 0), (4, .int 0), (3, .int (nI n)), (2, .ref a), (0, .ref (ad 0)), (1, .int x)] dX0_count_62 rfl 7 hnL rfl rfl ?_
  refine V.iconst (pc' := 65) C dX0_count_64 rfl kci_0 ?_
  refine V.istore (pc' := 67) C [(6, .int 0), (5, .int 0), (4, .int 0), (3, .int (nI n)), (2, .ref a), (0, .ref (ad 0)), (1, .int x)] dX0_count_65 rfl 7 hnL rfl rfl ?_
  have L3 : ∀ c : Nat, c ≤ 25 → V M 0 0 [xO ad i j, wO (ad 6) (ad 7) (ad 8) (ad 9) N g, (ad 7, .inl (M.G.2 1, 20, .inl (wcl g))), (ad 8, .inl (M.G.2 0, 25, .inl (wgt g))), (ad 9, .inl (M.G.2 1, 18, .inl (wpl g))), (ad 32, .inl (M.G.2 6, 4, .inr (.inr (.inr (.inr (fun q => some (ad (33 + q)))))))), (ad (33 + 0), .inr (6, [.ref a])), (a, .inl (M.G.2 2, n, .inl f))] [(0, .ref (ad 0)), (1, .int x), (3, .int (nI n)), (4, .int (gotTo g c)), (5, .int 0), (6, .int (nI c))] [] 67 := by
    refine loopN _ 25 (fun c hc ih_L3 => ?_)
    refine V.iload (pc' := 69) C 5 dX0_count_67 rfl rfl ?_
    refine V.bipush (pc' := 71) C dX0_count_69 rfl kcb_25 ?_
    refine V.icmp_geN (pc' := 74) C c 25 (by omega) (by omega) 95 dX0_count_71 rfl rfl (fun h4 => ?_) (fun h4 => ?_)
    · have hx5 : 25 = c := by omega
      subst hx5
      refine V.iconst (pc' := 96) C dX0_count_95 rfl kci_0 ?_
      refine V.istore (pc' := 98) C [(6, .int 0), (0, .ref (ad 0)), (1, .int x), (3, .int (nI n)), (4, .int (gotTo g 25)), (5, .int 0)] dX0_count_96 rfl 7 hnL rfl rfl ?_
      have L6 : ∀ e : Nat, e ≤ np → V M 0 0 [xO ad i j, wO (ad 6) (ad 7) (ad 8) (ad 9) N g, (ad 7, .inl (M.G.2 1, 20, .inl (wcl g))), (ad 8, .inl (M.G.2 0, 25, .inl (wgt g))), (ad 9, .inl (M.G.2 1, 18, .inl (wpl g))), (ad 32, .inl (M.G.2 6, 4, .inr (.inr (.inr (.inr (fun q => some (ad (33 + q)))))))), (ad (33 + 0), .inr (6, [.ref a])), (a, .inl (M.G.2 2, n, .inl f))] [(0, .ref (ad 0)), (1, .int x), (3, .int (nI n)), (4, .int (gotTo g 25)), (5, .int (plaTo g e)), (6, .int (nI e))] [] 98 := by
        refine loopN _ np (fun e he ih_L6 => ?_)
        refine V.iload (pc' := 100) C 5 dX0_count_98 rfl rfl ?_
        refine V.aload_n (pc' := 101) C 0 dX0_count_100 rfl rfl ?_
        refine V.get (pc' := 104) C dX0_count_101 rfl 0 rfl rfl in_X0 1 rfl q183 rfl ?_
        refine V.getN (pc' := 107) C dX0_count_104 rfl 1 rfl rfl in_X5 6 rfl q146 rfl ?_
        refine V.topI (y := nI np) ok.2.2.1 ?_
        refine V.icmp_geN (pc' := 110) C e np (by omega) (by omega) 135 dX0_count_107 rfl rfl (fun h7 => ?_) (fun h7 => ?_)
        · have hx8 : np = e := by omega
          subst hx8
          refine V.iload_n (pc' := 136) C 1 dX0_count_135 rfl rfl ?_
          by_cases h9 : x = 0
          · subst h9
            refine V.tableIn C 176 dX0_count_136 (by decide) (by decide) rfl rfl ?_
            refine V.aload_n (pc' := 177) C 0 dX0_count_176 rfl rfl ?_
            refine V.get (pc' := 180) C dX0_count_177 rfl 0 rfl rfl in_X0 7 rfl q189 rfl ?_
            exact V.iret C T dX0_count_180 () rfl rfl rfl rfl trivial rfl rfl rfl
          by_cases h10 : x = 1
          · subst h10
            refine V.tableIn C 181 dX0_count_136 (by decide) (by decide) rfl rfl ?_
            refine V.aload_n (pc' := 182) C 0 dX0_count_181 rfl rfl ?_
            refine V.get (pc' := 185) C dX0_count_182 rfl 0 rfl rfl in_X0 5 rfl q187 rfl ?_
            refine V.callS (pc' := 188) (wr := [xO ad i j, wO (ad 6) (ad 7) (ad 8) (ad 9) N g, (ad 7, .inl (M.G.2 1, 20, .inl (wcl g))), (ad 8, .inl (M.G.2 0, 25, .inl (wgt g))), (ad 9, .inl (M.G.2 1, 18, .inl (wpl g))), (ad 32, .inl (M.G.2 6, 4, .inr (.inr (.inr (.inr (fun q => some (ad (33 + q)))))))), (ad (33 + 0), .inr (6, [.ref a])), (a, .inl (M.G.2 2, n, .inl f))]) C (ct_J7_bitCount M.l M.G (i 5) ) dX0_count_185 rfl (lw_S q671 q672 q82 q673) hys_J7_bitCount rfl rfl [] [0, 1, 2, 3, 4, 5, 6, 7] [0, 1, 2, 3, 4, 5, 6, 7] rfl rfl rfl (fun _ => [xO ad i j, wO (ad 6) (ad 7) (ad 8) (ad 9) N g, (ad 7, .inl (M.G.2 1, 20, .inl (wcl g))), (ad 8, .inl (M.G.2 0, 25, .inl (wgt g))), (ad 9, .inl (M.G.2 1, 18, .inl (wpl g))), (ad 32, .inl (M.G.2 6, 4, .inr (.inr (.inr (.inr (fun q => some (ad (33 + q)))))))), (ad (33 + 0), .inr (6, [.ref a])), (a, .inl (M.G.2 2, n, .inl f))]) (fun _ => rfl) rfl 0 0 rfl rfl (fun _ => [.int (bitCnt (i 5))]) (fun _ => rfl) (fun _ _ => ?_)
            exact V.iret C T dX0_count_188 () rfl rfl rfl rfl trivial rfl rfl rfl
          by_cases h11 : x = 2
          · subst h11
            refine V.tableIn C 189 dX0_count_136 (by decide) (by decide) rfl rfl ?_
            refine V.aload_n (pc' := 190) C 0 dX0_count_189 rfl rfl ?_
            refine V.get (pc' := 193) C dX0_count_190 rfl 0 rfl rfl in_X0 11 rfl q194 rfl ?_
            exact V.iret C T dX0_count_193 () rfl rfl rfl rfl trivial rfl rfl rfl
          by_cases h12 : x = 3
          · subst h12
            refine V.tableIn C 194 dX0_count_136 (by decide) (by decide) rfl rfl ?_
            refine V.iload_n (pc' := 195) C 2 dX0_count_194 rfl rfl ?_
            exact V.iret C T dX0_count_195 () rfl rfl rfl rfl trivial rfl rfl rfl
          by_cases h13 : x = 4
          · subst h13
            refine V.tableIn C 196 dX0_count_136 (by decide) (by decide) rfl rfl ?_
            refine V.iload (pc' := 198) C 3 dX0_count_196 rfl rfl ?_
            exact V.iret C T dX0_count_198 () rfl rfl rfl rfl trivial rfl rfl rfl
          by_cases h14 : x = 5
          · subst h14
            refine V.tableIn C 199 dX0_count_136 (by decide) (by decide) rfl rfl ?_
            refine V.iload (pc' := 201) C 4 dX0_count_199 rfl rfl ?_
            exact V.iret C T dX0_count_201 () rfl rfl rfl rfl trivial rfl rfl rfl
          refine V.tableOut C 202 dX0_count_136 (by have := lv_neT (a := 0) h9 (by decide); have := lv_neT (a := 1) h10 (by decide); have := lv_neT (a := 2) h11 (by decide); have := lv_neT (a := 3) h12 (by decide); have := lv_neT (a := 4) h13 (by decide); have := lv_neT (a := 5) h14 (by decide); omega) rfl ?_
          refine V.iconst (pc' := 203) C dX0_count_202 rfl kci_m1 ?_
          exact V.iret C T dX0_count_203 () rfl rfl (by unfold a_countC; rw [if_neg h9, if_neg h10, if_neg h11, if_neg h12, if_neg h13, if_neg h14]) rfl trivial rfl rfl rfl
        · refine V.iload (pc' := 112) C 4 dX0_count_110 rfl rfl ?_
          refine V.aload_n (pc' := 113) C 0 dX0_count_112 rfl rfl ?_
          refine V.get (pc' := 116) C dX0_count_113 rfl 0 rfl rfl in_X0 1 rfl q183 rfl ?_
          refine V.getN (pc' := 119) C dX0_count_116 rfl 1 rfl rfl in_X5 7 rfl q149 rfl ?_
          refine V.iconst (pc' := 120) C dX0_count_119 rfl kci_3 ?_
          refine V.iload (pc' := 122) C 5 dX0_count_120 rfl rfl ?_
          refine V.imulN (pc' := 123) C 3 e dX0_count_122 rfl ?_
          refine V.iconst (pc' := 124) C dX0_count_123 rfl kci_2 ?_
          refine V.iaddN (pc' := 125) C (3 * e) 2 dX0_count_124 rfl ?_
          refine V.bald (pc' := 126) C (3 * e + 2) dX0_count_125 rfl 4 rfl (by omega) rfl ?_
          refine V.topI (y := g (48 + 3 * e + 2)) (by show g (48 + (3 * e + 2)) = _; rw [← Nat.add_assoc]) ?_
          refine V.iadd (pc' := 127) C dX0_count_126 rfl ?_
          refine V.istore (pc' := 129) C [(5, .int ((plaTo g e) + (g (48 + 3 * e + 2)))), (0, .ref (ad 0)), (1, .int x), (3, .int (nI n)), (4, .int (gotTo g 25)), (6, .int (nI e))] dX0_count_127 rfl 7 hnL rfl rfl ?_
          refine V.iinc (pc' := 132) C (nI (e + 1)) [(6, .int (nI (e + 1))), (5, .int ((plaTo g e) + (g (48 + 3 * e + 2)))), (0, .ref (ad 0)), (1, .int x), (3, .int (nI n)), (4, .int (gotTo g 25))] dX0_count_129 rfl 7 hnL rfl 5 rfl (ii_N e 1 rfl) rfl ?_
          refine V.goto C 98 dX0_count_132 rfl ?_
          refine V.lvs [2, 3, 4, 5, 1, 0] (lv2 := [(0, .ref (ad 0)), (1, .int x), (3, .int (nI n)), (4, .int (gotTo g 25)), (5, .int (plaTo g (e + 1))), (6, .int (nI (e + 1)))]) rfl ?_
          exact ih_L6 (by omega)
      refine V.lvs [1, 2, 3, 4, 5, 0] (lv2 := [(0, .ref (ad 0)), (1, .int x), (3, .int (nI n)), (4, .int (gotTo g 25)), (5, .int (plaTo g 0)), (6, .int (nI 0))]) rfl ?_
      exact L6 0 (by omega)
    · refine V.iload (pc' := 76) C 3 dX0_count_74 rfl rfl ?_
      refine V.aload_n (pc' := 77) C 0 dX0_count_76 rfl rfl ?_
      refine V.get (pc' := 80) C dX0_count_77 rfl 0 rfl rfl in_X0 1 rfl q183 rfl ?_
      refine V.getN (pc' := 83) C dX0_count_80 rfl 1 rfl rfl in_X5 5 rfl q144 rfl ?_
      refine V.iload (pc' := 85) C 5 dX0_count_83 rfl rfl ?_
      refine V.iald (pc' := 86) C c dX0_count_85 rfl 3 rfl (by omega) rfl ?_
      refine V.iadd (pc' := 87) C dX0_count_86 rfl ?_
      refine V.istore (pc' := 89) C [(4, .int ((gotTo g c) + ((wgt g) c))), (0, .ref (ad 0)), (1, .int x), (3, .int (nI n)), (5, .int 0), (6, .int (nI c))] dX0_count_87 rfl 7 hnL rfl rfl ?_
      refine V.iinc (pc' := 92) C (nI (c + 1)) [(6, .int (nI (c + 1))), (4, .int ((gotTo g c) + ((wgt g) c))), (0, .ref (ad 0)), (1, .int x), (3, .int (nI n)), (5, .int 0)] dX0_count_89 rfl 7 hnL rfl 5 rfl (ii_N c 1 rfl) rfl ?_
      refine V.goto C 67 dX0_count_92 rfl ?_
      refine V.lvs [2, 3, 4, 1, 5, 0] (lv2 := [(0, .ref (ad 0)), (1, .int x), (3, .int (nI n)), (4, .int (gotTo g (c + 1))), (5, .int 0), (6, .int (nI (c + 1)))]) rfl ?_
      exact ih_L3 (by omega)
  refine V.lvs [5, 6, 3, 2, 1, 0] (lv2 := [(0, .ref (ad 0)), (1, .int x), (3, .int (nI n)), (4, .int (gotTo g 0)), (5, .int 0), (6, .int (nI 0))]) rfl ?_
  exact L3 0 (by omega)
set_option maxHeartbeats 4000000 in
theorem ct_X0_countI (l : Launch) (G : GG) (ad : Nat → Nat) (i : Nat → Int32) (j : Nat → Int64) (a : Nat) (n : Nat) (f : Nat → Int32) (N : Nat) (g : Pg) (np : Nat) (x : Int32) (ok : okP g N np) (hn : n ≤ 40) : Ct l G yX0_count (ws_ yX0_count cX0_count 7 (some .int)) ({ frames := 1, cells := 0, slots := 0, locals := 20 } : Room) [.ref (ad 0), .int x] [xO ad i j, wO (ad 6) (ad 7) (ad 8) (ad 9) N g, (ad 7, .inl (G.2 1, 20, .inl (wcl g))), (ad 8, .inl (G.2 0, 25, .inl (wgt g))), (ad 9, .inl (G.2 1, 18, .inl (wpl g))), (ad 32, .inl (G.2 6, 4, .inr (.inr (.inr (.inr (fun q => some (ad (33 + q)))))))), (ad (33 + 0), .inr (6, [.ref a])), (a, .inl (G.2 0, n, .inl f))] (fun _ : Unit => some (.int (a_countC g (i 5) (i 7) (i 11) (nI n) np x))) (fun _ => True) (fun _ => [xO ad i j, wO (ad 6) (ad 7) (ad 8) (ad 9) N g, (ad 7, .inl (G.2 1, 20, .inl (wcl g))), (ad 8, .inl (G.2 0, 25, .inl (wgt g))), (ad 9, .inl (G.2 1, 18, .inl (wpl g))), (ad 32, .inl (G.2 6, 4, .inr (.inr (.inr (.inr (fun q => some (ad (33 + q)))))))), (ad (33 + 0), .inr (6, [.ref a])), (a, .inl (G.2 0, n, .inl f))]) := by
  refine Ct.of rfl rfl ?_
  intro M el eG hnL C T
  subst el
  subst eG
  have C : Cx M cX0_count "ClockWard" ({ frames := 1, cells := 0, slots := 0, locals := 20 } : Room) := C
  have hN5 := ok.n5
  have hn6 := ok.n6
  refine V.lvs [0, 1] (lv2 := [(0, .ref (ad 0)), (1, .int x)]) rfl ?_
  refine V.aload_n (pc' := 1) C 0 dX0_count_0 rfl rfl ?_
  refine V.get (pc' := 4) C dX0_count_1 rfl 0 rfl rfl in_X0 22 rfl q205 rfl ?_
  refine V.iconst (pc' := 5) C dX0_count_4 rfl kci_0 ?_
  refine V.aald (pc' := 6) C 0 dX0_count_5 rfl 5 6 rfl rfl (by omega) rfl rfl ?_
  refine V.getN (pc' := 9) C dX0_count_6 rfl 6 rfl rfl in_X6 0 rfl q178 rfl ?_
  refine V.astore_n (pc' := 10) C [(2, .ref a), (0, .ref (ad 0)), (1, .int x)] dX0_count_9 rfl 7 hnL rfl rfl ?_
  refine V.aload_n (pc' := 11) C 0 dX0_count_10 rfl rfl ?_
  refine V.instNo (pc' := 14) C dX0_count_11 rfl 7 0 rfl rfl (fun U z => va_nm_int z) q888 (by decide) ?_
  refine V.if_eq (pc' := 17) C 25 dX0_count_14 rfl rfl (fun _ => ?_) (fun h1 => absurd h1 (by decide))
  refine V.aload_n (pc' := 26) C 0 dX0_count_25 rfl rfl ?_
  refine V.instNo (pc' := 29) C dX0_count_26 rfl 7 0 rfl rfl (fun U z => va_nm_int z) q889 (by decide) ?_
  refine V.if_eq (pc' := 32) C 40 dX0_count_29 rfl rfl (fun _ => ?_) (fun h2 => absurd h2 (by decide))
  refine V.aload_n (pc' := 41) C 0 dX0_count_40 rfl rfl ?_
  refine V.instYes (pc' := 44) C dX0_count_41 rfl 7 0 rfl rfl (fun U z => va_nm_int z) q890 ?_
  refine V.if_eq (pc' := 47) C 55 dX0_count_44 rfl rfl (fun h3 => absurd h3 (by decide)) (fun _ => ?_)
  refine V.aload_n (pc' := 48) C 0 dX0_count_47 rfl rfl ?_
  refine V.castYes (pc' := 51) C dX0_count_48 rfl 7 0 rfl rfl (fun U z => va_nm_int z) q890 ?_
  refine V.alen (pc' := 52) C dX0_count_51 rfl 7 0 rfl rfl ?_
  refine V.goto C 57 dX0_count_52 rfl ?_
  refine V.istore_n (pc' := 58) C [(3, .int (nI n)), (2, .ref a), (0, .ref (ad 0)), (1, .int x)] dX0_count_57 rfl 7 hnL rfl rfl ?_
  refine V.iconst (pc' := 59) C dX0_count_58 rfl kci_0 ?_
  refine V.istore (pc' := 61) C [(4, .int 0), (3, .int (nI n)), (2, .ref a), (0, .ref (ad 0)), (1, .int x)] dX0_count_59 rfl 7 hnL rfl rfl ?_
  refine V.iconst (pc' := 62) C dX0_count_61 rfl kci_0 ?_
  refine V.istore (pc' := 64) C [(5, .int 0), (4, .int 0), (3, .int (nI n)), (2, .ref a), (0, .ref (ad 0)), (1, .int x)] dX0_count_62 rfl 7 hnL rfl rfl ?_
  refine V.iconst (pc' := 65) C dX0_count_64 rfl kci_0 ?_
  refine V.istore (pc' := 67) C [(6, .int 0), (5, .int 0), (4, .int 0), (3, .int (nI n)), (2, .ref a), (0, .ref (ad 0)), (1, .int x)] dX0_count_65 rfl 7 hnL rfl rfl ?_
  have L4 : ∀ c : Nat, c ≤ 25 → V M 0 0 [xO ad i j, wO (ad 6) (ad 7) (ad 8) (ad 9) N g, (ad 7, .inl (M.G.2 1, 20, .inl (wcl g))), (ad 8, .inl (M.G.2 0, 25, .inl (wgt g))), (ad 9, .inl (M.G.2 1, 18, .inl (wpl g))), (ad 32, .inl (M.G.2 6, 4, .inr (.inr (.inr (.inr (fun q => some (ad (33 + q)))))))), (ad (33 + 0), .inr (6, [.ref a])), (a, .inl (M.G.2 0, n, .inl f))] [(0, .ref (ad 0)), (1, .int x), (3, .int (nI n)), (4, .int (gotTo g c)), (5, .int 0), (6, .int (nI c))] [] 67 := by
    refine loopN _ 25 (fun c hc ih_L4 => ?_)
    refine V.iload (pc' := 69) C 5 dX0_count_67 rfl rfl ?_
    refine V.bipush (pc' := 71) C dX0_count_69 rfl kcb_25 ?_
    refine V.icmp_geN (pc' := 74) C c 25 (by omega) (by omega) 95 dX0_count_71 rfl rfl (fun h5 => ?_) (fun h5 => ?_)
    · have hx6 : 25 = c := by omega
      subst hx6
      refine V.iconst (pc' := 96) C dX0_count_95 rfl kci_0 ?_
      refine V.istore (pc' := 98) C [(6, .int 0), (0, .ref (ad 0)), (1, .int x), (3, .int (nI n)), (4, .int (gotTo g 25)), (5, .int 0)] dX0_count_96 rfl 7 hnL rfl rfl ?_
      have L7 : ∀ e : Nat, e ≤ np → V M 0 0 [xO ad i j, wO (ad 6) (ad 7) (ad 8) (ad 9) N g, (ad 7, .inl (M.G.2 1, 20, .inl (wcl g))), (ad 8, .inl (M.G.2 0, 25, .inl (wgt g))), (ad 9, .inl (M.G.2 1, 18, .inl (wpl g))), (ad 32, .inl (M.G.2 6, 4, .inr (.inr (.inr (.inr (fun q => some (ad (33 + q)))))))), (ad (33 + 0), .inr (6, [.ref a])), (a, .inl (M.G.2 0, n, .inl f))] [(0, .ref (ad 0)), (1, .int x), (3, .int (nI n)), (4, .int (gotTo g 25)), (5, .int (plaTo g e)), (6, .int (nI e))] [] 98 := by
        refine loopN _ np (fun e he ih_L7 => ?_)
        refine V.iload (pc' := 100) C 5 dX0_count_98 rfl rfl ?_
        refine V.aload_n (pc' := 101) C 0 dX0_count_100 rfl rfl ?_
        refine V.get (pc' := 104) C dX0_count_101 rfl 0 rfl rfl in_X0 1 rfl q183 rfl ?_
        refine V.getN (pc' := 107) C dX0_count_104 rfl 1 rfl rfl in_X5 6 rfl q146 rfl ?_
        refine V.topI (y := nI np) ok.2.2.1 ?_
        refine V.icmp_geN (pc' := 110) C e np (by omega) (by omega) 135 dX0_count_107 rfl rfl (fun h8 => ?_) (fun h8 => ?_)
        · have hx9 : np = e := by omega
          subst hx9
          refine V.iload_n (pc' := 136) C 1 dX0_count_135 rfl rfl ?_
          by_cases h10 : x = 0
          · subst h10
            refine V.tableIn C 176 dX0_count_136 (by decide) (by decide) rfl rfl ?_
            refine V.aload_n (pc' := 177) C 0 dX0_count_176 rfl rfl ?_
            refine V.get (pc' := 180) C dX0_count_177 rfl 0 rfl rfl in_X0 7 rfl q189 rfl ?_
            exact V.iret C T dX0_count_180 () rfl rfl rfl rfl trivial rfl rfl rfl
          by_cases h11 : x = 1
          · subst h11
            refine V.tableIn C 181 dX0_count_136 (by decide) (by decide) rfl rfl ?_
            refine V.aload_n (pc' := 182) C 0 dX0_count_181 rfl rfl ?_
            refine V.get (pc' := 185) C dX0_count_182 rfl 0 rfl rfl in_X0 5 rfl q187 rfl ?_
            refine V.callS (pc' := 188) (wr := [xO ad i j, wO (ad 6) (ad 7) (ad 8) (ad 9) N g, (ad 7, .inl (M.G.2 1, 20, .inl (wcl g))), (ad 8, .inl (M.G.2 0, 25, .inl (wgt g))), (ad 9, .inl (M.G.2 1, 18, .inl (wpl g))), (ad 32, .inl (M.G.2 6, 4, .inr (.inr (.inr (.inr (fun q => some (ad (33 + q)))))))), (ad (33 + 0), .inr (6, [.ref a])), (a, .inl (M.G.2 0, n, .inl f))]) C (ct_J7_bitCount M.l M.G (i 5) ) dX0_count_185 rfl (lw_S q671 q672 q82 q673) hys_J7_bitCount rfl rfl [] [0, 1, 2, 3, 4, 5, 6, 7] [0, 1, 2, 3, 4, 5, 6, 7] rfl rfl rfl (fun _ => [xO ad i j, wO (ad 6) (ad 7) (ad 8) (ad 9) N g, (ad 7, .inl (M.G.2 1, 20, .inl (wcl g))), (ad 8, .inl (M.G.2 0, 25, .inl (wgt g))), (ad 9, .inl (M.G.2 1, 18, .inl (wpl g))), (ad 32, .inl (M.G.2 6, 4, .inr (.inr (.inr (.inr (fun q => some (ad (33 + q)))))))), (ad (33 + 0), .inr (6, [.ref a])), (a, .inl (M.G.2 0, n, .inl f))]) (fun _ => rfl) rfl 0 0 rfl rfl (fun _ => [.int (bitCnt (i 5))]) (fun _ => rfl) (fun _ _ => ?_)
            exact V.iret C T dX0_count_188 () rfl rfl rfl rfl trivial rfl rfl rfl
          by_cases h12 : x = 2
          · subst h12
            refine V.tableIn C 189 dX0_count_136 (by decide) (by decide) rfl rfl ?_
            refine V.aload_n (pc' := 190) C 0 dX0_count_189 rfl rfl ?_
            refine V.get (pc' := 193) C dX0_count_190 rfl 0 rfl rfl in_X0 11 rfl q194 rfl ?_
            exact V.iret C T dX0_count_193 () rfl rfl rfl rfl trivial rfl rfl rfl
          by_cases h13 : x = 3
          · subst h13
            refine V.tableIn C 194 dX0_count_136 (by decide) (by decide) rfl rfl ?_
            refine V.iload_n (pc' := 195) C 2 dX0_count_194 rfl rfl ?_
            exact V.iret C T dX0_count_195 () rfl rfl rfl rfl trivial rfl rfl rfl
          by_cases h14 : x = 4
          · subst h14
            refine V.tableIn C 196 dX0_count_136 (by decide) (by decide) rfl rfl ?_
            refine V.iload (pc' := 198) C 3 dX0_count_196 rfl rfl ?_
            exact V.iret C T dX0_count_198 () rfl rfl rfl rfl trivial rfl rfl rfl
          by_cases h15 : x = 5
          · subst h15
            refine V.tableIn C 199 dX0_count_136 (by decide) (by decide) rfl rfl ?_
            refine V.iload (pc' := 201) C 4 dX0_count_199 rfl rfl ?_
            exact V.iret C T dX0_count_201 () rfl rfl rfl rfl trivial rfl rfl rfl
          refine V.tableOut C 202 dX0_count_136 (by have := lv_neT (a := 0) h10 (by decide); have := lv_neT (a := 1) h11 (by decide); have := lv_neT (a := 2) h12 (by decide); have := lv_neT (a := 3) h13 (by decide); have := lv_neT (a := 4) h14 (by decide); have := lv_neT (a := 5) h15 (by decide); omega) rfl ?_
          refine V.iconst (pc' := 203) C dX0_count_202 rfl kci_m1 ?_
          exact V.iret C T dX0_count_203 () rfl rfl (by unfold a_countC; rw [if_neg h10, if_neg h11, if_neg h12, if_neg h13, if_neg h14, if_neg h15]) rfl trivial rfl rfl rfl
        · refine V.iload (pc' := 112) C 4 dX0_count_110 rfl rfl ?_
          refine V.aload_n (pc' := 113) C 0 dX0_count_112 rfl rfl ?_
          refine V.get (pc' := 116) C dX0_count_113 rfl 0 rfl rfl in_X0 1 rfl q183 rfl ?_
          refine V.getN (pc' := 119) C dX0_count_116 rfl 1 rfl rfl in_X5 7 rfl q149 rfl ?_
          refine V.iconst (pc' := 120) C dX0_count_119 rfl kci_3 ?_
          refine V.iload (pc' := 122) C 5 dX0_count_120 rfl rfl ?_
          refine V.imulN (pc' := 123) C 3 e dX0_count_122 rfl ?_
          refine V.iconst (pc' := 124) C dX0_count_123 rfl kci_2 ?_
          refine V.iaddN (pc' := 125) C (3 * e) 2 dX0_count_124 rfl ?_
          refine V.bald (pc' := 126) C (3 * e + 2) dX0_count_125 rfl 4 rfl (by omega) rfl ?_
          refine V.topI (y := g (48 + 3 * e + 2)) (by show g (48 + (3 * e + 2)) = _; rw [← Nat.add_assoc]) ?_
          refine V.iadd (pc' := 127) C dX0_count_126 rfl ?_
          refine V.istore (pc' := 129) C [(5, .int ((plaTo g e) + (g (48 + 3 * e + 2)))), (0, .ref (ad 0)), (1, .int x), (3, .int (nI n)), (4, .int (gotTo g 25)), (6, .int (nI e))] dX0_count_127 rfl 7 hnL rfl rfl ?_
          refine V.iinc (pc' := 132) C (nI (e + 1)) [(6, .int (nI (e + 1))), (5, .int ((plaTo g e) + (g (48 + 3 * e + 2)))), (0, .ref (ad 0)), (1, .int x), (3, .int (nI n)), (4, .int (gotTo g 25))] dX0_count_129 rfl 7 hnL rfl 5 rfl (ii_N e 1 rfl) rfl ?_
          refine V.goto C 98 dX0_count_132 rfl ?_
          refine V.lvs [2, 3, 4, 5, 1, 0] (lv2 := [(0, .ref (ad 0)), (1, .int x), (3, .int (nI n)), (4, .int (gotTo g 25)), (5, .int (plaTo g (e + 1))), (6, .int (nI (e + 1)))]) rfl ?_
          exact ih_L7 (by omega)
      refine V.lvs [1, 2, 3, 4, 5, 0] (lv2 := [(0, .ref (ad 0)), (1, .int x), (3, .int (nI n)), (4, .int (gotTo g 25)), (5, .int (plaTo g 0)), (6, .int (nI 0))]) rfl ?_
      exact L7 0 (by omega)
    · refine V.iload (pc' := 76) C 3 dX0_count_74 rfl rfl ?_
      refine V.aload_n (pc' := 77) C 0 dX0_count_76 rfl rfl ?_
      refine V.get (pc' := 80) C dX0_count_77 rfl 0 rfl rfl in_X0 1 rfl q183 rfl ?_
      refine V.getN (pc' := 83) C dX0_count_80 rfl 1 rfl rfl in_X5 5 rfl q144 rfl ?_
      refine V.iload (pc' := 85) C 5 dX0_count_83 rfl rfl ?_
      refine V.iald (pc' := 86) C c dX0_count_85 rfl 3 rfl (by omega) rfl ?_
      refine V.iadd (pc' := 87) C dX0_count_86 rfl ?_
      refine V.istore (pc' := 89) C [(4, .int ((gotTo g c) + ((wgt g) c))), (0, .ref (ad 0)), (1, .int x), (3, .int (nI n)), (5, .int 0), (6, .int (nI c))] dX0_count_87 rfl 7 hnL rfl rfl ?_
      refine V.iinc (pc' := 92) C (nI (c + 1)) [(6, .int (nI (c + 1))), (4, .int ((gotTo g c) + ((wgt g) c))), (0, .ref (ad 0)), (1, .int x), (3, .int (nI n)), (5, .int 0)] dX0_count_89 rfl 7 hnL rfl 5 rfl (ii_N c 1 rfl) rfl ?_
      refine V.goto C 67 dX0_count_92 rfl ?_
      refine V.lvs [2, 3, 4, 1, 5, 0] (lv2 := [(0, .ref (ad 0)), (1, .int x), (3, .int (nI n)), (4, .int (gotTo g (c + 1))), (5, .int 0), (6, .int (nI (c + 1)))]) rfl ?_
      exact ih_L4 (by omega)
  refine V.lvs [5, 6, 3, 2, 1, 0] (lv2 := [(0, .ref (ad 0)), (1, .int x), (3, .int (nI n)), (4, .int (gotTo g 0)), (5, .int 0), (6, .int (nI 0))]) rfl ?_
  exact L4 0 (by omega)
