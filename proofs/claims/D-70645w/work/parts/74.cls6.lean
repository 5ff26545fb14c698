set_option maxRecDepth 100000
set_option maxHeartbeats 4000000 in
theorem ct_X0_isSo (l : Launch) (G : GG) (ad : Nat → Nat) (i : Nat → Int32) (j : Nat → Int64) (N : Nat) (g : Pg) (K : Nat) (t : Pg) (sn : Nat → Int32) (sh : Nat → Int32) (c : Nat) (w : Nat) (v : Int32) (sm : Nat) (n : Nat) (ok : okP g N n) (hs : i 7 = nI sm) (hok : okS sn N sm) (hc : c < 5) (hw : w < 4) (hv : bfit v) (okt : okP (wput g w c v) N n) : Ct l G yX0_isSo (ws_ yX0_isSo cX0_isSo 6 (some .boolean)) ({ frames := 5, cells := 0, slots := 0, locals := 107 } : Room) [.ref (ad 0), .int (nI c), .int (nI w), .int v] [xO ad i j, (ad 1, .inl (G.2 4, 4, .inr (.inr (.inr (.inr (fun k => some (ad (2 + k)))))))), (ad 2, .inr (1, [])), (ad 3, .inr (2, [])), (ad 4, .inr (3, [])), (ad 5, .inr (4, [])), wO (ad 6) (ad 7) (ad 8) (ad 9) N g, (ad 7, .inl (G.2 1, 20, .inl (wcl g))), (ad 8, .inl (G.2 0, 25, .inl (wgt g))), (ad 9, .inl (G.2 1, 18, .inl (wpl g))), wO (ad 10) (ad 11) (ad 12) (ad 13) K t, (ad 11, .inl (G.2 1, 20, .inl (wcl t))), (ad 12, .inl (G.2 0, 25, .inl (wgt t))), (ad 13, .inl (G.2 1, 18, .inl (wpl t))), (ad 27, .inl (G.2 1, 18, .inl sn)), (ad 30, .inl (G.2 1, 105, .inl sh))] (fun _ : Unit => some (.int (bI (seenOk (wput g w c v) sn N sm)))) (fun _ => True) (fun _ => [xO ad i j, (ad 1, .inl (G.2 4, 4, .inr (.inr (.inr (.inr (fun k => some (ad (2 + k)))))))), (ad 2, .inr (1, [])), (ad 3, .inr (2, [])), (ad 4, .inr (3, [])), (ad 5, .inr (4, [])), wO (ad 6) (ad 7) (ad 8) (ad 9) N g, (ad 7, .inl (G.2 1, 20, .inl (wcl g))), (ad 8, .inl (G.2 0, 25, .inl (wgt g))), (ad 9, .inl (G.2 1, 18, .inl (wpl g))), wO (ad 10) (ad 11) (ad 12) (ad 13) N (nightsTo (wput g w c v) N 21), (ad 11, .inl (G.2 1, 20, .inl (wcl (nightsTo (wput g w c v) N 21)))), (ad 12, .inl (G.2 0, 25, .inl (wgt (nightsTo (wput g w c v) N 21)))), (ad 13, .inl (G.2 1, 18, .inl (wpl (nightsTo (wput g w c v) N 21)))), (ad 27, .inl (G.2 1, 18, .inl sn)), (ad 30, .inl (G.2 1, 105, .inl (shB sh (wput g w c v) N 21 0)))]) := by
  refine Ct.of rfl rfl ?_
  intro M el eG hnL C T
  subst el
  subst eG
  have C : Cx M cX0_isSo "ClockWard" ({ frames := 5, cells := 0, slots := 0, locals := 107 } : Room) := C
  have hN5 := ok.n5
  have hn6 := ok.n6
  have hs6 := hok.1
  refine V.lvs [0, 1, 2, 3] (lv2 := [(0, .ref (ad 0)), (1, .int (nI c)), (2, .int (nI w)), (3, .int v)]) rfl ?_
  refine V.aload_n (pc' := 1) C 0 dX0_isSo_0 rfl rfl ?_
  refine V.get (pc' := 4) C dX0_isSo_1 rfl 0 rfl rfl in_X0 2 rfl q184 rfl ?_
  refine V.aload_n (pc' := 5) C 0 dX0_isSo_4 rfl rfl ?_
  refine V.get (pc' := 8) C dX0_isSo_5 rfl 0 rfl rfl in_X0 1 rfl q183 rfl ?_
  refine V.callV (pc' := 11) (wr := [xO ad i j, (ad 1, .inl (M.G.2 4, 4, .inr (.inr (.inr (.inr (fun k => some (ad (2 + k)))))))), (ad 2, .inr (1, [])), (ad 3, .inr (2, [])), (ad 4, .inr (3, [])), (ad 5, .inr (4, [])), (ad 27, .inl (M.G.2 1, 18, .inl sn)), (ad 30, .inl (M.G.2 1, 105, .inl sh))]) C (ct_X5_as M.l M.G (ad 10) (ad 11) (ad 12) (ad 13) K t (ad 6) (ad 7) (ad 8) (ad 9) N g ok.w) dX0_isSo_8 rfl (lw_V q504 q505 q506 q69 q507) hyv_X5_as rfl rfl 0 rfl rfl [10, 11, 12, 13, 6, 7, 8, 9] [0, 1, 2, 3, 4, 5, 14, 15] [0, 1, 2, 3, 4, 5, 12, 13, 14, 15, 8, 9, 10, 11, 6, 7] rfl rfl rfl (fun _ => [xO ad i j, (ad 1, .inl (M.G.2 4, 4, .inr (.inr (.inr (.inr (fun k => some (ad (2 + k)))))))), (ad 2, .inr (1, [])), (ad 3, .inr (2, [])), (ad 4, .inr (3, [])), (ad 5, .inr (4, [])), wO (ad 6) (ad 7) (ad 8) (ad 9) N g, (ad 7, .inl (M.G.2 1, 20, .inl (wcl g))), (ad 8, .inl (M.G.2 0, 25, .inl (wgt g))), (ad 9, .inl (M.G.2 1, 18, .inl (wpl g))), wO (ad 10) (ad 11) (ad 12) (ad 13) N g, (ad 11, .inl (M.G.2 1, 20, .inl (wcl g))), (ad 12, .inl (M.G.2 0, 25, .inl (wgt g))), (ad 13, .inl (M.G.2 1, 18, .inl (wpl g))), (ad 27, .inl (M.G.2 1, 18, .inl sn)), (ad 30, .inl (M.G.2 1, 105, .inl sh))]) (fun _ => rfl) rfl 0 0 rfl rfl (fun _ => []) (fun _ => rfl) (fun _ _ => ?_)
  refine V.aload_n (pc' := 12) C 0 dX0_isSo_11 rfl rfl ?_
  refine V.get (pc' := 15) C dX0_isSo_12 rfl 0 rfl rfl in_X0 2 rfl q184 rfl ?_
  refine V.iload_n (pc' := 16) C 1 dX0_isSo_15 rfl rfl ?_
  refine V.iload_n (pc' := 17) C 2 dX0_isSo_16 rfl rfl ?_
  refine V.iload_n (pc' := 18) C 3 dX0_isSo_17 rfl rfl ?_
  refine V.callV (pc' := 21) (wr := [xO ad i j, (ad 1, .inl (M.G.2 4, 4, .inr (.inr (.inr (.inr (fun k => some (ad (2 + k)))))))), (ad 2, .inr (1, [])), (ad 3, .inr (2, [])), (ad 4, .inr (3, [])), (ad 5, .inr (4, [])), wO (ad 6) (ad 7) (ad 8) (ad 9) N g, (ad 7, .inl (M.G.2 1, 20, .inl (wcl g))), (ad 8, .inl (M.G.2 0, 25, .inl (wgt g))), (ad 9, .inl (M.G.2 1, 18, .inl (wpl g))), (ad 27, .inl (M.G.2 1, 18, .inl sn)), (ad 30, .inl (M.G.2 1, 105, .inl sh))]) C (ct_X5_becomes M.l M.G (ad 10) (ad 11) (ad 12) (ad 13) N g c w v hc hw hv) dX0_isSo_18 rfl (lw_V q587 q501 q502 q69 q503) hyv_X5_becomes rfl rfl 0 rfl rfl [10, 11, 12, 13] [0, 1, 2, 3, 4, 5, 6, 7, 8, 9, 14, 15] [0, 1, 2, 3, 4, 5, 6, 7, 8, 9, 12, 13, 14, 15, 10, 11] rfl rfl rfl (fun _ => [xO ad i j, (ad 1, .inl (M.G.2 4, 4, .inr (.inr (.inr (.inr (fun k => some (ad (2 + k)))))))), (ad 2, .inr (1, [])), (ad 3, .inr (2, [])), (ad 4, .inr (3, [])), (ad 5, .inr (4, [])), wO (ad 6) (ad 7) (ad 8) (ad 9) N g, (ad 7, .inl (M.G.2 1, 20, .inl (wcl g))), (ad 8, .inl (M.G.2 0, 25, .inl (wgt g))), (ad 9, .inl (M.G.2 1, 18, .inl (wpl g))), wO (ad 10) (ad 11) (ad 12) (ad 13) N (wput g w c v), (ad 11, .inl (M.G.2 1, 20, .inl (wcl (wput g w c v)))), (ad 12, .inl (M.G.2 0, 25, .inl (wgt (wput g w c v)))), (ad 13, .inl (M.G.2 1, 18, .inl (wpl (wput g w c v)))), (ad 27, .inl (M.G.2 1, 18, .inl sn)), (ad 30, .inl (M.G.2 1, 105, .inl sh))]) (fun _ => rfl) rfl 0 0 rfl rfl (fun _ => []) (fun _ => rfl) (fun _ _ => ?_)
  refine V.iconst (pc' := 22) C dX0_isSo_21 rfl kci_0 ?_
  refine V.istore (pc' := 24) C [(4, .int 0), (0, .ref (ad 0)), (1, .int (nI c)), (2, .int (nI w)), (3, .int v)] dX0_isSo_22 rfl 6 hnL rfl rfl ?_
  have L1 : ∀ k : Nat, k ≤ 21 → V M 0 0 [xO ad i j, (ad 1, .inl (M.G.2 4, 4, .inr (.inr (.inr (.inr (fun k => some (ad (2 + k)))))))), (ad 2, .inr (1, [])), (ad 3, .inr (2, [])), (ad 4, .inr (3, [])), (ad 5, .inr (4, [])), wO (ad 6) (ad 7) (ad 8) (ad 9) N g, (ad 7, .inl (M.G.2 1, 20, .inl (wcl g))), (ad 8, .inl (M.G.2 0, 25, .inl (wgt g))), (ad 9, .inl (M.G.2 1, 18, .inl (wpl g))), wO (ad 10) (ad 11) (ad 12) (ad 13) N (nightsTo (wput g w c v) N k), (ad 11, .inl (M.G.2 1, 20, .inl (wcl (nightsTo (wput g w c v) N k)))), (ad 12, .inl (M.G.2 0, 25, .inl (wgt (nightsTo (wput g w c v) N k)))), (ad 13, .inl (M.G.2 1, 18, .inl (wpl (nightsTo (wput g w c v) N k)))), (ad 27, .inl (M.G.2 1, 18, .inl sn)), (ad 30, .inl (M.G.2 1, 105, .inl (shB sh (wput g w c v) N k 0)))] [(0, .ref (ad 0)), (1, .int (nI c)), (2, .int (nI w)), (3, .int v), (4, .int (nI k))] [] 24 := by
    refine loopN _ 21 (fun k hk ih_L1 => ?_)
    refine V.iload (pc' := 26) C 4 dX0_isSo_24 rfl rfl ?_
    refine V.bipush (pc' := 28) C dX0_isSo_26 rfl kcb_20 ?_
    refine V.icmp_gtN (pc' := 31) C k 20 (by omega) (by omega) 89 dX0_isSo_28 rfl rfl (fun h2 => ?_) (fun h2 => ?_)
    · have hx3 : 21 = k := by omega
      subst hx3
      refine V.iconst (pc' := 90) C dX0_isSo_89 rfl kci_1 ?_
      refine V.istore (pc' := 92) C [(4, .int 1), (0, .ref (ad 0)), (1, .int (nI c)), (2, .int (nI w)), (3, .int v)] dX0_isSo_90 rfl 6 hnL rfl rfl ?_
      refine V.iconst (pc' := 93) C dX0_isSo_92 rfl kci_0 ?_
      refine V.istore (pc' := 95) C [(5, .int 0), (4, .int 1), (0, .ref (ad 0)), (1, .int (nI c)), (2, .int (nI w)), (3, .int v)] dX0_isSo_93 rfl 6 hnL rfl rfl ?_
      have L4 : ∀ e : Nat, e ≤ sm → V M 0 0 [xO ad i j, (ad 1, .inl (M.G.2 4, 4, .inr (.inr (.inr (.inr (fun k => some (ad (2 + k)))))))), (ad 2, .inr (1, [])), (ad 3, .inr (2, [])), (ad 4, .inr (3, [])), (ad 5, .inr (4, [])), wO (ad 6) (ad 7) (ad 8) (ad 9) N g, (ad 7, .inl (M.G.2 1, 20, .inl (wcl g))), (ad 8, .inl (M.G.2 0, 25, .inl (wgt g))), (ad 9, .inl (M.G.2 1, 18, .inl (wpl g))), wO (ad 10) (ad 11) (ad 12) (ad 13) N (nightsTo (wput g w c v) N 21), (ad 11, .inl (M.G.2 1, 20, .inl (wcl (nightsTo (wput g w c v) N 21)))), (ad 12, .inl (M.G.2 0, 25, .inl (wgt (nightsTo (wput g w c v) N 21)))), (ad 13, .inl (M.G.2 1, 18, .inl (wpl (nightsTo (wput g w c v) N 21)))), (ad 27, .inl (M.G.2 1, 18, .inl sn)), (ad 30, .inl (M.G.2 1, 105, .inl (shB sh (wput g w c v) N 21 0)))] [(0, .ref (ad 0)), (1, .int (nI c)), (2, .int (nI w)), (3, .int v), (4, .int (bI (seenOk (wput g w c v) sn N e))), (5, .int (nI e))] [] 95 := by
        refine loopN _ sm (fun e he ih_L4 => ?_)
        refine V.iload (pc' := 97) C 5 dX0_isSo_95 rfl rfl ?_
        refine V.aload_n (pc' := 98) C 0 dX0_isSo_97 rfl rfl ?_
        refine V.get (pc' := 101) C dX0_isSo_98 rfl 0 rfl rfl in_X0 7 rfl q189 rfl ?_
        refine V.topI hs ?_
        refine V.icmp_geN (pc' := 104) C e sm (by omega) (by omega) 162 dX0_isSo_101 rfl rfl (fun h5 => ?_) (fun h5 => ?_)
        · have hx6 : sm = e := by omega
          subst hx6
          refine V.iload (pc' := 164) C 4 dX0_isSo_162 rfl rfl ?_
          exact V.iret C T dX0_isSo_164 () rfl rfl rfl bI_nar trivial rfl rfl rfl
        · obtain ⟨⟨e1, l1⟩, ⟨e2, l2⟩, -⟩ := hok.2 e (by omega)
          refine V.iload (pc' := 106) C 4 dX0_isSo_104 rfl rfl ?_
          refine V.aload_n (pc' := 107) C 0 dX0_isSo_106 rfl rfl ?_
          refine V.get (pc' := 110) C dX0_isSo_107 rfl 0 rfl rfl in_X0 20 rfl q203 rfl ?_
          refine V.iconst (pc' := 111) C dX0_isSo_110 rfl kci_5 ?_
          refine V.aload_n (pc' := 112) C 0 dX0_isSo_111 rfl rfl ?_
          refine V.get (pc' := 115) C dX0_isSo_112 rfl 0 rfl rfl in_X0 6 rfl q188 rfl ?_
          refine V.iconst (pc' := 116) C dX0_isSo_115 rfl kci_3 ?_
          refine V.iload (pc' := 118) C 5 dX0_isSo_116 rfl rfl ?_
          refine V.imulN (pc' := 119) C 3 e dX0_isSo_118 rfl ?_
          refine V.iconst (pc' := 120) C dX0_isSo_119 rfl kci_1 ?_
          refine V.iaddN (pc' := 121) C (3 * e) 1 dX0_isSo_120 rfl ?_
          refine V.bald (pc' := 122) C (3 * e + 1) dX0_isSo_121 rfl 14 rfl (by omega) rfl ?_
          refine V.topI e2 ?_
          refine V.imulN (pc' := 123) C 5 (pN sn (3 * e + 1)) dX0_isSo_122 rfl ?_
          refine V.aload_n (pc' := 124) C 0 dX0_isSo_123 rfl rfl ?_
          refine V.get (pc' := 127) C dX0_isSo_124 rfl 0 rfl rfl in_X0 6 rfl q188 rfl ?_
          refine V.iconst (pc' := 128) C dX0_isSo_127 rfl kci_3 ?_
          refine V.iload (pc' := 130) C 5 dX0_isSo_128 rfl rfl ?_
          refine V.imulN (pc' := 131) C 3 e dX0_isSo_130 rfl ?_
          refine V.bald (pc' := 132) C (3 * e) dX0_isSo_131 rfl 14 rfl (by omega) rfl ?_
          refine V.topI e1 ?_
          refine V.iaddN (pc' := 133) C (5 * (pN sn (3 * e + 1))) (pN sn (3 * e)) dX0_isSo_132 rfl ?_
          refine V.bald (pc' := 134) C (5 * (pN sn (3 * e + 1)) + pN sn (3 * e)) dX0_isSo_133 rfl 15 rfl (by omega) rfl ?_
          refine V.topI (y := nightsTo (wput g w c v) N (pN sn (3 * e + 1)) (15 + pN sn (3 * e))) (shB_at l2 l1 hN5) ?_
          refine V.aload_n (pc' := 135) C 0 dX0_isSo_134 rfl rfl ?_
          refine V.get (pc' := 138) C dX0_isSo_135 rfl 0 rfl rfl in_X0 6 rfl q188 rfl ?_
          refine V.iconst (pc' := 139) C dX0_isSo_138 rfl kci_3 ?_
          refine V.iload (pc' := 141) C 5 dX0_isSo_139 rfl rfl ?_
          refine V.imulN (pc' := 142) C 3 e dX0_isSo_141 rfl ?_
          refine V.iconst (pc' := 143) C dX0_isSo_142 rfl kci_2 ?_
          refine V.iaddN (pc' := 144) C (3 * e) 2 dX0_isSo_143 rfl ?_
          refine V.bald (pc' := 145) C (3 * e + 2) dX0_isSo_144 rfl 14 rfl (by omega) rfl ?_
          have J9 : ∀ (x8 : Int32), x8 = (if (nightsTo (wput g w c v) N (pN sn (3 * e + 1)) (15 + pN sn (3 * e))) = (sn (3 * e + 2)) then 1 else 0) → V M 0 0 [xO ad i j, (ad 1, .inl (M.G.2 4, 4, .inr (.inr (.inr (.inr (fun k => some (ad (2 + k)))))))), (ad 2, .inr (1, [])), (ad 3, .inr (2, [])), (ad 4, .inr (3, [])), (ad 5, .inr (4, [])), wO (ad 6) (ad 7) (ad 8) (ad 9) N g, (ad 7, .inl (M.G.2 1, 20, .inl (wcl g))), (ad 8, .inl (M.G.2 0, 25, .inl (wgt g))), (ad 9, .inl (M.G.2 1, 18, .inl (wpl g))), wO (ad 10) (ad 11) (ad 12) (ad 13) N (nightsTo (wput g w c v) N 21), (ad 11, .inl (M.G.2 1, 20, .inl (wcl (nightsTo (wput g w c v) N 21)))), (ad 12, .inl (M.G.2 0, 25, .inl (wgt (nightsTo (wput g w c v) N 21)))), (ad 13, .inl (M.G.2 1, 18, .inl (wpl (nightsTo (wput g w c v) N 21)))), (ad 27, .inl (M.G.2 1, 18, .inl sn)), (ad 30, .inl (M.G.2 1, 105, .inl (shB sh (wput g w c v) N 21 0)))] [(0, .ref (ad 0)), (1, .int (nI c)), (2, .int (nI w)), (3, .int v), (4, .int (bI (seenOk (wput g w c v) sn N e))), (5, .int (nI e))] [.int x8, .int (bI (seenOk (wput g w c v) sn N e))] 153 := by
            intro x8 ex8
            have ex8 : x8 = bI ((nightsTo (wput g w c v) N (pN sn (3 * e + 1)) (15 + pN sn (3 * e))) = (sn (3 * e + 2))) := ex8.trans it_10
            subst ex8
            refine V.iand (pc' := 154) C dX0_isSo_153 rfl ?_
            refine V.istore (pc' := 156) C [(4, .int ((bI (seenOk (wput g w c v) sn N e)) &&& (bI ((nightsTo (wput g w c v) N (pN sn (3 * e + 1)) (15 + pN sn (3 * e))) = (sn (3 * e + 2)))))), (0, .ref (ad 0)), (1, .int (nI c)), (2, .int (nI w)), (3, .int v), (5, .int (nI e))] dX0_isSo_154 rfl 6 hnL rfl rfl ?_
            refine V.iinc (pc' := 159) C (nI (e + 1)) [(5, .int (nI (e + 1))), (4, .int ((bI (seenOk (wput g w c v) sn N e)) &&& (bI ((nightsTo (wput g w c v) N (pN sn (3 * e + 1)) (15 + pN sn (3 * e))) = (sn (3 * e + 2)))))), (0, .ref (ad 0)), (1, .int (nI c)), (2, .int (nI w)), (3, .int v)] dX0_isSo_156 rfl 6 hnL rfl 5 rfl (ii_N e 1 rfl) rfl ?_
            refine V.goto C 95 dX0_isSo_159 rfl ?_
            refine V.lvs [2, 3, 4, 5, 1, 0] (lv2 := [(0, .ref (ad 0)), (1, .int (nI c)), (2, .int (nI w)), (3, .int v), (4, .int (bI (seenOk (wput g w c v) sn N (e + 1)))), (5, .int (nI (e + 1)))]) (by rw [bI_and, bI_iff seenOk_s]; rfl) ?_
            exact ih_L4 (by omega)
          refine V.icmp_ne (pc' := 148) C 152 dX0_isSo_145 rfl rfl (fun h7 => ?_) (fun h7 => ?_)
          · refine V.iconst (pc' := 153) C dX0_isSo_152 rfl kci_0 ?_
            exact J9 _ (by rw [if_neg h7])
          · refine V.iconst (pc' := 149) C dX0_isSo_148 rfl kci_1 ?_
            refine V.goto C 153 dX0_isSo_149 rfl ?_
            exact J9 _ (by rw [if_pos h7])
      refine V.lvs [2, 3, 4, 5, 1, 0] (lv2 := [(0, .ref (ad 0)), (1, .int (nI c)), (2, .int (nI w)), (3, .int v), (4, .int (bI (seenOk (wput g w c v) sn N 0))), (5, .int (nI 0))]) (by rw [bI_t (show seenOk _ sn N 0 from fun x hx => absurd hx (by omega))]; rfl) ?_
      exact L4 0 (by omega)
    · refine V.iconst (pc' := 32) C dX0_isSo_31 rfl kci_0 ?_
      refine V.istore (pc' := 34) C [(5, .int 0), (0, .ref (ad 0)), (1, .int (nI c)), (2, .int (nI w)), (3, .int v), (4, .int (nI k))] dX0_isSo_32 rfl 6 hnL rfl rfl ?_
      have L10 : ∀ d : Nat, d ≤ N → V M 0 0 [xO ad i j, (ad 1, .inl (M.G.2 4, 4, .inr (.inr (.inr (.inr (fun k => some (ad (2 + k)))))))), (ad 2, .inr (1, [])), (ad 3, .inr (2, [])), (ad 4, .inr (3, [])), (ad 5, .inr (4, [])), wO (ad 6) (ad 7) (ad 8) (ad 9) N g, (ad 7, .inl (M.G.2 1, 20, .inl (wcl g))), (ad 8, .inl (M.G.2 0, 25, .inl (wgt g))), (ad 9, .inl (M.G.2 1, 18, .inl (wpl g))), wO (ad 10) (ad 11) (ad 12) (ad 13) N (nightsTo (wput g w c v) N k), (ad 11, .inl (M.G.2 1, 20, .inl (wcl (nightsTo (wput g w c v) N k)))), (ad 12, .inl (M.G.2 0, 25, .inl (wgt (nightsTo (wput g w c v) N k)))), (ad 13, .inl (M.G.2 1, 18, .inl (wpl (nightsTo (wput g w c v) N k)))), (ad 27, .inl (M.G.2 1, 18, .inl sn)), (ad 30, .inl (M.G.2 1, 105, .inl (shB sh (wput g w c v) N k d)))] [(0, .ref (ad 0)), (1, .int (nI c)), (2, .int (nI w)), (3, .int v), (4, .int (nI k)), (5, .int (nI d))] [] 34 := by
        refine loopN _ N (fun d hd ih_L10 => ?_)
        refine V.iload (pc' := 36) C 5 dX0_isSo_34 rfl rfl ?_
        refine V.aload_n (pc' := 37) C 0 dX0_isSo_36 rfl rfl ?_
        refine V.get (pc' := 40) C dX0_isSo_37 rfl 0 rfl rfl in_X0 1 rfl q183 rfl ?_
        refine V.getN (pc' := 43) C dX0_isSo_40 rfl 6 rfl rfl in_X5 0 rfl q133 rfl ?_
        refine V.icmp_geN (pc' := 46) C d N (by omega) (by omega) 75 dX0_isSo_43 rfl rfl (fun h11 => ?_) (fun h11 => ?_)
        · have hx12 : N = d := by omega
          subst hx12
          refine V.aload_n (pc' := 76) C 0 dX0_isSo_75 rfl rfl ?_
          refine V.aload_n (pc' := 77) C 0 dX0_isSo_76 rfl rfl ?_
          refine V.get (pc' := 80) C dX0_isSo_77 rfl 0 rfl rfl in_X0 2 rfl q184 rfl ?_
          refine V.callV (pc' := 83) (wr := [wO (ad 6) (ad 7) (ad 8) (ad 9) N g, (ad 7, .inl (M.G.2 1, 20, .inl (wcl g))), (ad 8, .inl (M.G.2 0, 25, .inl (wgt g))), (ad 9, .inl (M.G.2 1, 18, .inl (wpl g))), (ad 27, .inl (M.G.2 1, 18, .inl sn)), (ad 30, .inl (M.G.2 1, 105, .inl (shB sh (wput g w c v) N k N)))]) C (ct_X0_nightGoes M.l M.G ad i j (ad 10) (ad 11) (ad 12) (ad 13) N (nightsTo (wput g w c v) N k) hN5 (okK_nights okt.k N k)) dX0_isSo_80 rfl (lw_V q636 q638 qs17 q64 q639) hyv_X0_nightGoes rfl rfl 0 rfl rfl [0, 1, 2, 3, 4, 5, 10, 11, 12, 13] [6, 7, 8, 9, 14, 15] [6, 7, 8, 9, 10, 11, 0, 1, 2, 3, 12, 13, 14, 15, 4, 5] rfl rfl rfl (fun _ => [xO ad i j, (ad 1, .inl (M.G.2 4, 4, .inr (.inr (.inr (.inr (fun k => some (ad (2 + k)))))))), (ad 2, .inr (1, [])), (ad 3, .inr (2, [])), (ad 4, .inr (3, [])), (ad 5, .inr (4, [])), wO (ad 6) (ad 7) (ad 8) (ad 9) N g, (ad 7, .inl (M.G.2 1, 20, .inl (wcl g))), (ad 8, .inl (M.G.2 0, 25, .inl (wgt g))), (ad 9, .inl (M.G.2 1, 18, .inl (wpl g))), wO (ad 10) (ad 11) (ad 12) (ad 13) N (night (nightsTo (wput g w c v) N k) N), (ad 11, .inl (M.G.2 1, 20, .inl (wcl (night (nightsTo (wput g w c v) N k) N)))), (ad 12, .inl (M.G.2 0, 25, .inl (wgt (night (nightsTo (wput g w c v) N k) N)))), (ad 13, .inl (M.G.2 1, 18, .inl (wpl (night (nightsTo (wput g w c v) N k) N)))), (ad 27, .inl (M.G.2 1, 18, .inl sn)), (ad 30, .inl (M.G.2 1, 105, .inl (shB sh (wput g w c v) N k N)))]) (fun _ => rfl) rfl 0 0 rfl rfl (fun _ => []) (fun _ => rfl) (fun _ _ => ?_)
          refine V.iinc (pc' := 86) C (nI (k + 1)) [(4, .int (nI (k + 1))), (0, .ref (ad 0)), (1, .int (nI c)), (2, .int (nI w)), (3, .int v), (5, .int (nI N))] dX0_isSo_83 rfl 6 hnL rfl 4 rfl (ii_N k 1 rfl) rfl ?_
          refine V.goto C 24 dX0_isSo_86 rfl ?_
          refine V.lvs [1, 2, 3, 4, 0] (lv2 := [(0, .ref (ad 0)), (1, .int (nI c)), (2, .int (nI w)), (3, .int v), (4, .int (nI (k + 1)))]) rfl ?_
          refine V.weq (ws2 := [xO ad i j, (ad 1, .inl (M.G.2 4, 4, .inr (.inr (.inr (.inr (fun k => some (ad (2 + k)))))))), (ad 2, .inr (1, [])), (ad 3, .inr (2, [])), (ad 4, .inr (3, [])), (ad 5, .inr (4, [])), wO (ad 6) (ad 7) (ad 8) (ad 9) N g, (ad 7, .inl (M.G.2 1, 20, .inl (wcl g))), (ad 8, .inl (M.G.2 0, 25, .inl (wgt g))), (ad 9, .inl (M.G.2 1, 18, .inl (wpl g))), wO (ad 10) (ad 11) (ad 12) (ad 13) N (nightsTo (wput g w c v) N (k + 1)), (ad 11, .inl (M.G.2 1, 20, .inl (wcl (nightsTo (wput g w c v) N (k + 1))))), (ad 12, .inl (M.G.2 0, 25, .inl (wgt (nightsTo (wput g w c v) N (k + 1))))), (ad 13, .inl (M.G.2 1, 18, .inl (wpl (nightsTo (wput g w c v) N (k + 1))))), (ad 27, .inl (M.G.2 1, 18, .inl sn)), (ad 30, .inl (M.G.2 1, 105, .inl (shB sh (wput g w c v) N (k + 1) 0)))]) (by rw [shB_n]; rfl) ?_
          exact ih_L1 (by omega)
        · have hft := ok_fit (okP_nights okt k) (d := d) (by omega)
          refine V.aload_n (pc' := 47) C 0 dX0_isSo_46 rfl rfl ?_
          refine V.get (pc' := 50) C dX0_isSo_47 rfl 0 rfl rfl in_X0 20 rfl q203 rfl ?_
          refine V.iconst (pc' := 51) C dX0_isSo_50 rfl kci_5 ?_
          refine V.iload (pc' := 53) C 4 dX0_isSo_51 rfl rfl ?_
          refine V.imulN (pc' := 54) C 5 k dX0_isSo_53 rfl ?_
          refine V.iload (pc' := 56) C 5 dX0_isSo_54 rfl rfl ?_
          refine V.iaddN (pc' := 57) C (5 * k) d dX0_isSo_56 rfl ?_
          refine V.aload_n (pc' := 58) C 0 dX0_isSo_57 rfl rfl ?_
          refine V.get (pc' := 61) C dX0_isSo_58 rfl 0 rfl rfl in_X0 2 rfl q184 rfl ?_
          refine V.iload (pc' := 63) C 5 dX0_isSo_61 rfl rfl ?_
          refine V.iconst (pc' := 64) C dX0_isSo_63 rfl kci_3 ?_
          refine V.callV (pc' := 67) (wr := [xO ad i j, (ad 1, .inl (M.G.2 4, 4, .inr (.inr (.inr (.inr (fun k => some (ad (2 + k)))))))), (ad 2, .inr (1, [])), (ad 3, .inr (2, [])), (ad 4, .inr (3, [])), (ad 5, .inr (4, [])), wO (ad 6) (ad 7) (ad 8) (ad 9) N g, (ad 7, .inl (M.G.2 1, 20, .inl (wcl g))), (ad 8, .inl (M.G.2 0, 25, .inl (wgt g))), (ad 9, .inl (M.G.2 1, 18, .inl (wpl g))), (ad 27, .inl (M.G.2 1, 18, .inl sn)), (ad 30, .inl (M.G.2 1, 105, .inl (shB sh (wput g w c v) N k d)))]) C (ct_X5_of M.l M.G (ad 10) (ad 11) (ad 12) (ad 13) N (nightsTo (wput g w c v) N k) d 3 (by omega) (by decide)) dX0_isSo_64 rfl (lw_V q540 q524 q525 q69 q526) hyv_X5_of rfl rfl 0 rfl rfl [10, 11, 12, 13] [0, 1, 2, 3, 4, 5, 6, 7, 8, 9, 14, 15] [0, 1, 2, 3, 4, 5, 6, 7, 8, 9, 12, 13, 14, 15, 10, 11] rfl rfl rfl (fun _ => [xO ad i j, (ad 1, .inl (M.G.2 4, 4, .inr (.inr (.inr (.inr (fun k => some (ad (2 + k)))))))), (ad 2, .inr (1, [])), (ad 3, .inr (2, [])), (ad 4, .inr (3, [])), (ad 5, .inr (4, [])), wO (ad 6) (ad 7) (ad 8) (ad 9) N g, (ad 7, .inl (M.G.2 1, 20, .inl (wcl g))), (ad 8, .inl (M.G.2 0, 25, .inl (wgt g))), (ad 9, .inl (M.G.2 1, 18, .inl (wpl g))), wO (ad 10) (ad 11) (ad 12) (ad 13) N (nightsTo (wput g w c v) N k), (ad 11, .inl (M.G.2 1, 20, .inl (wcl (nightsTo (wput g w c v) N k)))), (ad 12, .inl (M.G.2 0, 25, .inl (wgt (nightsTo (wput g w c v) N k)))), (ad 13, .inl (M.G.2 1, 18, .inl (wpl (nightsTo (wput g w c v) N k)))), (ad 27, .inl (M.G.2 1, 18, .inl sn)), (ad 30, .inl (M.G.2 1, 105, .inl (shB sh (wput g w c v) N k d)))]) (fun _ => rfl) rfl 0 0 rfl rfl (fun _ => [.int ((nightsTo (wput g w c v) N k) (15 + d)), .int (nI (5 * k + d)), .ref (ad 30)]) (fun _ => rfl) (fun _ _ => ?_)
          refine V.i2b (pc' := 68) C dX0_isSo_67 rfl ?_
          refine V.bast (pc' := 69) C (5 * k + d) [xO ad i j, (ad 1, .inl (M.G.2 4, 4, .inr (.inr (.inr (.inr (fun k => some (ad (2 + k)))))))), (ad 2, .inr (1, [])), (ad 3, .inr (2, [])), (ad 4, .inr (3, [])), (ad 5, .inr (4, [])), wO (ad 6) (ad 7) (ad 8) (ad 9) N g, (ad 7, .inl (M.G.2 1, 20, .inl (wcl g))), (ad 8, .inl (M.G.2 0, 25, .inl (wgt g))), (ad 9, .inl (M.G.2 1, 18, .inl (wpl g))), wO (ad 10) (ad 11) (ad 12) (ad 13) N (nightsTo (wput g w c v) N k), (ad 11, .inl (M.G.2 1, 20, .inl (wcl (nightsTo (wput g w c v) N k)))), (ad 12, .inl (M.G.2 0, 25, .inl (wgt (nightsTo (wput g w c v) N k)))), (ad 13, .inl (M.G.2 1, 18, .inl (wpl (nightsTo (wput g w c v) N k)))), (ad 27, .inl (M.G.2 1, 18, .inl sn)), (ad 30, .inl (M.G.2 1, 105, .inl (upd (shB sh (wput g w c v) N k d) (5 * k + d) (nightsTo (wput g w c v) N k (15 + d)))))] dX0_isSo_68 rfl 15 rfl (by omega) rfl (nightsTo (wput g w c v) N k (15 + d)) ((pk_vb _).trans hft) rfl ?_
          refine V.iinc (pc' := 72) C (nI (d + 1)) [(5, .int (nI (d + 1))), (0, .ref (ad 0)), (1, .int (nI c)), (2, .int (nI w)), (3, .int v), (4, .int (nI k))] dX0_isSo_69 rfl 6 hnL rfl 5 rfl (ii_N d 1 rfl) rfl ?_
          refine V.goto C 34 dX0_isSo_72 rfl ?_
          refine V.lvs [1, 2, 3, 4, 5, 0] (lv2 := [(0, .ref (ad 0)), (1, .int (nI c)), (2, .int (nI w)), (3, .int v), (4, .int (nI k)), (5, .int (nI (d + 1)))]) rfl ?_
          refine V.weq (ws2 := [xO ad i j, (ad 1, .inl (M.G.2 4, 4, .inr (.inr (.inr (.inr (fun k => some (ad (2 + k)))))))), (ad 2, .inr (1, [])), (ad 3, .inr (2, [])), (ad 4, .inr (3, [])), (ad 5, .inr (4, [])), wO (ad 6) (ad 7) (ad 8) (ad 9) N g, (ad 7, .inl (M.G.2 1, 20, .inl (wcl g))), (ad 8, .inl (M.G.2 0, 25, .inl (wgt g))), (ad 9, .inl (M.G.2 1, 18, .inl (wpl g))), wO (ad 10) (ad 11) (ad 12) (ad 13) N (nightsTo (wput g w c v) N k), (ad 11, .inl (M.G.2 1, 20, .inl (wcl (nightsTo (wput g w c v) N k)))), (ad 12, .inl (M.G.2 0, 25, .inl (wgt (nightsTo (wput g w c v) N k)))), (ad 13, .inl (M.G.2 1, 18, .inl (wpl (nightsTo (wput g w c v) N k)))), (ad 27, .inl (M.G.2 1, 18, .inl sn)), (ad 30, .inl (M.G.2 1, 105, .inl (shB sh (wput g w c v) N k (d + 1))))]) (by rw [shB_s sh _ (by omega)]) ?_
          exact ih_L10 (by omega)
      refine V.lvs [1, 2, 3, 4, 5, 0] (lv2 := [(0, .ref (ad 0)), (1, .int (nI c)), (2, .int (nI w)), (3, .int v), (4, .int (nI k)), (5, .int (nI 0))]) rfl ?_
      exact L10 0 (by omega)
  refine V.lvs [1, 2, 3, 4, 0] (lv2 := [(0, .ref (ad 0)), (1, .int (nI c)), (2, .int (nI w)), (3, .int v), (4, .int (nI 0))]) rfl ?_
  refine V.weq (ws2 := [xO ad i j, (ad 1, .inl (M.G.2 4, 4, .inr (.inr (.inr (.inr (fun k => some (ad (2 + k)))))))), (ad 2, .inr (1, [])), (ad 3, .inr (2, [])), (ad 4, .inr (3, [])), (ad 5, .inr (4, [])), wO (ad 6) (ad 7) (ad 8) (ad 9) N g, (ad 7, .inl (M.G.2 1, 20, .inl (wcl g))), (ad 8, .inl (M.G.2 0, 25, .inl (wgt g))), (ad 9, .inl (M.G.2 1, 18, .inl (wpl g))), wO (ad 10) (ad 11) (ad 12) (ad 13) N (nightsTo (wput g w c v) N 0), (ad 11, .inl (M.G.2 1, 20, .inl (wcl (nightsTo (wput g w c v) N 0)))), (ad 12, .inl (M.G.2 0, 25, .inl (wgt (nightsTo (wput g w c v) N 0)))), (ad 13, .inl (M.G.2 1, 18, .inl (wpl (nightsTo (wput g w c v) N 0)))), (ad 27, .inl (M.G.2 1, 18, .inl sn)), (ad 30, .inl (M.G.2 1, 105, .inl (shB sh (wput g w c v) N 0 0)))]) (by rw [shB_0]; rfl) ?_
  exact L1 0 (by omega)
