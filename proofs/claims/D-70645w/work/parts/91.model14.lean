set_option maxRecDepth 100000
set_option maxHeartbeats 4000000 in
theorem ct_X7_byRejL (l : Launch) (G : GG) (h : Nat) (ad : Nat → Nat) (i : Nat → Int32) (f : Nat → Int32) (N : Nat) (v : Nat) (c : Nat) (y : Int32) (n : Nat) (hN : i 1 = nI N) (hN5 : N ≤ 5) (hpl : okPl f n) (hv : v ≤ 10) (hc : c < 5) : Ct l G yX7_byRejected (ws_ yX7_byRejected cX7_byRejected 13 (some .long)) ({ frames := 4, cells := 0, slots := 0, locals := 93 } : Room) [.ref h, .int (nI v), .int (nI c), .int y] [mO h ad i, (ad 0, .inl (G.2 0, 402, .inl f))] (fun u : (Nat → Int32) × (Nat → Int32) => some (.long (lowR (odT f n v N (wtL c) 64) (awT f n 6) y))) (fun u => Qf f u.1 ∧ Qi i u.2) (fun u => [mO h ad u.2, (ad 0, .inl (G.2 0, 402, .inl u.1))]) := by
  refine Ct.of rfl rfl ?_
  intro M el eG hnL C T
  subst el
  subst eG
  have C : Cx M cX7_byRejected "ClockWardModel" ({ frames := 4, cells := 0, slots := 0, locals := 93 } : Room) := C
  have hn6 := hpl.2.1
  refine V.lvs [0, 1, 2, 3] (lv2 := [(0, .ref h), (1, .int (nI v)), (2, .int (nI c)), (3, .int y)]) rfl ?_
  refine V.iconst (pc' := 1) C dX7_byRejected_0 rfl kci_0 ?_
  refine V.istore (pc' := 3) C [(4, .int 0), (0, .ref h), (1, .int (nI v)), (2, .int (nI c)), (3, .int y)] dX7_byRejected_1 rfl 13 hnL rfl rfl ?_
  refine V.iconst (pc' := 4) C dX7_byRejected_3 rfl kci_0 ?_
  refine V.istore (pc' := 6) C [(5, .int 0), (4, .int 0), (0, .ref h), (1, .int (nI v)), (2, .int (nI c)), (3, .int y)] dX7_byRejected_4 rfl 13 hnL rfl rfl ?_
  have L1 : ∀ e : Nat, e ≤ n → V M 0 0 [mO h ad i, (ad 0, .inl (M.G.2 0, 402, .inl f))] [(0, .ref h), (1, .int (nI v)), (2, .int (nI c)), (3, .int y), (4, .int (mkI f n e)), (5, .int (nI e))] [] 6 := by
    refine loopN _ n (fun e he ih_L1 => ?_)
    refine V.iload (pc' := 8) C 5 dX7_byRejected_6 rfl rfl ?_
    refine V.aload_n (pc' := 9) C 0 dX7_byRejected_8 rfl rfl ?_
    refine V.get (pc' := 12) C dX7_byRejected_9 rfl 0 rfl rfl in_X7 0 rfl q929 rfl ?_
    refine V.bipush (pc' := 14) C dX7_byRejected_12 rfl kcb_66 ?_
    refine V.iald (pc' := 15) C 66 dX7_byRejected_14 rfl 1 rfl (by omega) rfl ?_
    refine V.topI hpl.1 ?_
    refine V.icmp_geN (pc' := 18) C e n (by omega) (by omega) 60 dX7_byRejected_15 rfl rfl (fun h2 => ?_) (fun h2 => ?_)
    · have hx3 : n = e := by omega
      subst hx3
      refine V.lvs [0, 1, 2, 3, 4, 5] (lv2 := [(0, .ref h), (1, .int (nI v)), (2, .int (nI c)), (3, .int y), (4, .int (nI (ckm f n n))), (5, .int (nI n))]) (by rw [(mk_nat f n n hn6).1]; rfl) ?_
      refine V.lconst (pc' := 61) C dX7_byRejected_60 rfl kcl_0 ?_
      refine V.lstore (pc' := 63) C [(5, .long 0), (0, .ref h), (1, .int (nI v)), (2, .int (nI c)), (3, .int y), (4, .int (nI (ckm f n n)))] dX7_byRejected_61 rfl 13 hnL rfl rfl ?_
      refine V.lconst (pc' := 64) C dX7_byRejected_63 rfl kcl_1 ?_
      refine V.lstore (pc' := 66) C [(7, .long 1), (5, .long 0), (0, .ref h), (1, .int (nI v)), (2, .int (nI c)), (3, .int y), (4, .int (nI (ckm f n n)))] dX7_byRejected_64 rfl 13 hnL rfl rfl ?_
      refine V.iconst (pc' := 67) C dX7_byRejected_66 rfl kci_0 ?_
      refine V.istore (pc' := 69) C [(9, .int 0), (7, .long 1), (5, .long 0), (0, .ref h), (1, .int (nI v)), (2, .int (nI c)), (3, .int y), (4, .int (nI (ckm f n n)))] dX7_byRejected_67 rfl 13 hnL rfl rfl ?_
      have L4 : ∀ e : Nat, e ≤ 6 → V M 0 0 [mO h ad i, (ad 0, .inl (M.G.2 0, 402, .inl f))] [(0, .ref h), (1, .int (nI v)), (2, .int (nI c)), (3, .int y), (4, .int (nI (ckm f n n))), (5, .long 0), (7, .long (lN (awT f n e))), (9, .int (nI e))] [] 69 := by
        refine loopN _ 6 (fun e he ih_L4 => ?_)
        refine V.iload (pc' := 71) C 7 dX7_byRejected_69 rfl rfl ?_
        refine V.bipush (pc' := 73) C dX7_byRejected_71 rfl kcb_6 ?_
        refine V.icmp_geN (pc' := 76) C e 6 (by omega) (by omega) 105 dX7_byRejected_73 rfl rfl (fun h5 => ?_) (fun h5 => ?_)
        · have hx6 : 6 = e := by omega
          subst hx6
          refine V.iconst (pc' := 106) C dX7_byRejected_105 rfl kci_0 ?_
          refine V.istore (pc' := 108) C [(9, .int 0), (0, .ref h), (1, .int (nI v)), (2, .int (nI c)), (3, .int y), (4, .int (nI (ckm f n n))), (5, .long 0), (7, .long (lN (awT f n 6)))] dX7_byRejected_106 rfl 13 hnL rfl rfl ?_
          have L7 : ∀ o : Nat, o ≤ 64 → ∀ (F : Nat → Int32), ∀ (q17 : Int32), ∀ (q18 : Int32), Qf f F → V M 0 0 [(h, .inr (7, [.ref (ad 0), .int (i 1), .ref (ad 2), .int (i 3), .int (i 4), .int (i 5), .ref (ad 6), .int (i 7), .int (i 8), .int (i 9), .int (i 10), .int (i 11), .int (i 12), .int (i 13), .int (i 14), .ref (ad 15), .ref (ad 16), .int q17, .int q18, .int (i 19), .int (i 20), .int (i 21), .int (i 22), .int (i 23), .ref (ad 24), .int (i 25), .ref (ad 26), .ref (ad 27), .ref (ad 28), .ref (ad 29), .ref (ad 30), .int (i 31)])), (ad 0, .inl (M.G.2 0, 402, .inl F))] [(0, .ref h), (1, .int (nI v)), (2, .int (nI c)), (3, .int y), (4, .int (nI (ckm f n n))), (5, .long (lN (odT f n v N (wtL c) o))), (7, .long (lN (awT f n 6))), (9, .int (nI o))] [] 108 := by
            refine loopN _ 64 (fun o ho ih_L7 => ?_)
            intro F q17 q18 hF
            refine V.iload (pc' := 110) C 7 dX7_byRejected_108 rfl rfl ?_
            refine V.bipush (pc' := 112) C dX7_byRejected_110 rfl kcb_64 ?_
            refine V.icmp_geN (pc' := 115) C o 64 (by omega) (by omega) 234 dX7_byRejected_112 rfl rfl (fun h8 => ?_) (fun h8 => ?_)
            · have hx9 : 64 = o := by omega
              subst hx9
              refine V.lload (pc' := 236) C 5 dX7_byRejected_234 rfl rfl ?_
              refine V.lload (pc' := 238) C 6 dX7_byRejected_236 rfl rfl ?_
              refine V.iload_n (pc' := 239) C 3 dX7_byRejected_238 rfl rfl ?_
              refine V.callS (pc' := 242) (wr := [(h, .inr (7, [.ref (ad 0), .int (i 1), .ref (ad 2), .int (i 3), .int (i 4), .int (i 5), .ref (ad 6), .int (i 7), .int (i 8), .int (i 9), .int (i 10), .int (i 11), .int (i 12), .int (i 13), .int (i 14), .ref (ad 15), .ref (ad 16), .int q17, .int q18, .int (i 19), .int (i 20), .int (i 21), .int (i 22), .int (i 23), .ref (ad 24), .int (i 25), .ref (ad 26), .ref (ad 27), .ref (ad 28), .ref (ad 29), .ref (ad 30), .int (i 31)])), (ad 0, .inl (M.G.2 0, 402, .inl F))]) C (ct_X7_lowest M.l M.G (odT f n v N (wtL c) 64) (awT f n 6) y (od_b hn6 hv (fun h => wtL_le c h N)) aw_b.2 aw_b.1) dX7_byRejected_239 rfl (lw_S q1263 q1264 q71 q1265) hys_X7_lowest rfl rfl [] [0, 1] [0, 1] rfl rfl rfl (fun _ => [(h, .inr (7, [.ref (ad 0), .int (i 1), .ref (ad 2), .int (i 3), .int (i 4), .int (i 5), .ref (ad 6), .int (i 7), .int (i 8), .int (i 9), .int (i 10), .int (i 11), .int (i 12), .int (i 13), .int (i 14), .ref (ad 15), .ref (ad 16), .int q17, .int q18, .int (i 19), .int (i 20), .int (i 21), .int (i 22), .int (i 23), .ref (ad 24), .int (i 25), .ref (ad 26), .ref (ad 27), .ref (ad 28), .ref (ad 29), .ref (ad 30), .int (i 31)])), (ad 0, .inl (M.G.2 0, 402, .inl F))]) (fun _ => rfl) rfl 0 0 rfl rfl (fun _ => [.long (lowR (odT f n v N (wtL c) 64) (awT f n 6) y)]) (fun _ => rfl) (fun _ _ => ?_)
              exact V.lret C T dX7_byRejected_242 (F, upd (upd i 17 q17) 18 q18) rfl rfl ⟨hF, rfl, rfl, rfl, rfl, rfl⟩ rfl rfl rfl
            · refine V.iload (pc' := 117) C 7 dX7_byRejected_115 rfl rfl ?_
              refine V.iload (pc' := 119) C 4 dX7_byRejected_117 rfl rfl ?_
              refine V.iconst (pc' := 120) C dX7_byRejected_119 rfl kci_m1 ?_
              refine V.ixor (pc' := 121) C dX7_byRejected_120 rfl ?_
              refine V.iand (pc' := 122) C dX7_byRejected_121 rfl ?_
              refine V.if_ne (pc' := 125) C 228 dX7_byRejected_122 rfl rfl (fun h10 => ?_) (fun h10 => ?_)
              · refine V.iinc (pc' := 231) C (nI (o + 1)) [(9, .int (nI (o + 1))), (0, .ref h), (1, .int (nI v)), (2, .int (nI c)), (3, .int y), (4, .int (nI (ckm f n n))), (5, .long (lN (odT f n v N (wtL c) o))), (7, .long (lN (awT f n 6)))] dX7_byRejected_228 rfl 13 hnL rfl 7 rfl (ii_N o 1 rfl) rfl ?_
                refine V.goto C 108 dX7_byRejected_231 rfl ?_
                refine V.lvs [1, 2, 3, 4, 5, 6, 7, 0] (lv2 := [(0, .ref h), (1, .int (nI v)), (2, .int (nI c)), (3, .int y), (4, .int (nI (ckm f n n))), (5, .long (lN (odT f n v N (wtL c) (o + 1)))), (7, .long (lN (awT f n 6))), (9, .int (nI (o + 1)))]) (by rw [odT_f h10]; rfl) ?_
                exact ih_L7 (by omega) F q17 q18 hF
              · refine V.lconst (pc' := 126) C dX7_byRejected_125 rfl kcl_1 ?_
                refine V.lstore (pc' := 128) C [(10, .long 1), (0, .ref h), (1, .int (nI v)), (2, .int (nI c)), (3, .int y), (4, .int (nI (ckm f n n))), (5, .long (lN (odT f n v N (wtL c) o))), (7, .long (lN (awT f n 6))), (9, .int (nI o))] dX7_byRejected_126 rfl 13 hnL rfl rfl ?_
                refine V.iconst (pc' := 129) C dX7_byRejected_128 rfl kci_0 ?_
                refine V.istore (pc' := 131) C [(12, .int 0), (10, .long 1), (0, .ref h), (1, .int (nI v)), (2, .int (nI c)), (3, .int y), (4, .int (nI (ckm f n n))), (5, .long (lN (odT f n v N (wtL c) o))), (7, .long (lN (awT f n 6))), (9, .int (nI o))] dX7_byRejected_129 rfl 13 hnL rfl rfl ?_
                have L11 : ∀ k2 : Nat, k2 ≤ 6 → V M 0 0 [(h, .inr (7, [.ref (ad 0), .int (i 1), .ref (ad 2), .int (i 3), .int (i 4), .int (i 5), .ref (ad 6), .int (i 7), .int (i 8), .int (i 9), .int (i 10), .int (i 11), .int (i 12), .int (i 13), .int (i 14), .ref (ad 15), .ref (ad 16), .int q17, .int q18, .int (i 19), .int (i 20), .int (i 21), .int (i 22), .int (i 23), .ref (ad 24), .int (i 25), .ref (ad 26), .ref (ad 27), .ref (ad 28), .ref (ad 29), .ref (ad 30), .int (i 31)])), (ad 0, .inl (M.G.2 0, 402, .inl F))] [(0, .ref h), (1, .int (nI v)), (2, .int (nI c)), (3, .int y), (4, .int (nI (ckm f n n))), (5, .long (lN (odT f n v N (wtL c) o))), (7, .long (lN (awT f n 6))), (9, .int (nI o)), (10, .long (lN (wyT f n v o k2))), (12, .int (nI k2))] [] 131 := by
                  refine loopN _ 6 (fun k2 hk2 ih_L11 => ?_)
                  refine V.iload (pc' := 133) C 9 dX7_byRejected_131 rfl rfl ?_
                  refine V.bipush (pc' := 135) C dX7_byRejected_133 rfl kcb_6 ?_
                  refine V.icmp_geN (pc' := 138) C k2 6 (by omega) (by omega) 184 dX7_byRejected_135 rfl rfl (fun h12 => ?_) (fun h12 => ?_)
                  · have hx13 : 6 = k2 := by omega
                    subst hx13
                    refine V.aload_n (pc' := 185) C 0 dX7_byRejected_184 rfl rfl ?_
                    refine V.iload (pc' := 187) C 7 dX7_byRejected_185 rfl rfl ?_
                    refine V.callV (pc' := 190) (wr := []) C (ct_X7_planGoes M.l M.G h ad (upd (upd i 17 q17) 18 q18) F (nI o) n (okPl_q hF hpl)) dX7_byRejected_187 rfl (lw_V q1193 q1195 qs54 q71 q1196) hyv_X7_planGoes rfl rfl 0 rfl rfl [0, 1] [] [0, 1] rfl rfl rfl (fun _ => [(h, .inr (7, [.ref (ad 0), .int (i 1), .ref (ad 2), .int (i 3), .int (i 4), .int (i 5), .ref (ad 6), .int (i 7), .int (i 8), .int (i 9), .int (i 10), .int (i 11), .int (i 12), .int (i 13), .int (i 14), .ref (ad 15), .ref (ad 16), .int (goC F (cpP F 0 268) (nI o) n), .int (goF F (cpP F 0 268) (nI o) n), .int (i 19), .int (i 20), .int (i 21), .int (i 22), .int (i 23), .ref (ad 24), .int (i 25), .ref (ad 26), .ref (ad 27), .ref (ad 28), .ref (ad 29), .ref (ad 30), .int (i 31)])), (ad 0, .inl (M.G.2 0, 402, .inl (pp F 268 (goG F (cpP F 0 268) (nI o) n))))]) (fun _ => rfl) rfl 0 0 rfl rfl (fun _ => []) (fun _ => rfl) (fun _ _ => ?_)
                    refine V.aload_n (pc' := 191) C 0 dX7_byRejected_190 rfl rfl ?_
                    refine V.sipush (pc' := 194) C dX7_byRejected_191 rfl kcs_268 ?_
                    refine V.callV (pc' := 197) (wr := []) C (ct_X7_rightOn M.l M.G h ad (upd (upd i 17 (goC F (cpP F 0 268) (nI o) n)) 18 (goF F (cpP F 0 268) (nI o) n)) (pp F 268 (goG F (cpP F 0 268) (nI o) n)) N 268 hN hN5 (by omega)) dX7_byRejected_194 rfl (lw_V q1092 q1094 qs42 q71 q1095) hyv_X7_rightOn rfl rfl 0 rfl rfl [0, 1] [] [0, 1] rfl rfl rfl (fun _ => [(h, .inr (7, [.ref (ad 0), .int (i 1), .ref (ad 2), .int (i 3), .int (i 4), .int (i 5), .ref (ad 6), .int (i 7), .int (i 8), .int (i 9), .int (i 10), .int (i 11), .int (i 12), .int (i 13), .int (i 14), .ref (ad 15), .ref (ad 16), .int (goC F (cpP F 0 268) (nI o) n), .int (goF F (cpP F 0 268) (nI o) n), .int (i 19), .int (i 20), .int (i 21), .int (i 22), .int (i 23), .ref (ad 24), .int (i 25), .ref (ad 26), .ref (ad 27), .ref (ad 28), .ref (ad 29), .ref (ad 30), .int (i 31)])), (ad 0, .inl (M.G.2 0, 402, .inl (pp F 268 (goG F (cpP F 0 268) (nI o) n))))]) (fun _ => rfl) rfl 0 0 rfl rfl (fun _ => [.int (rightTo (pg (pp F 268 (goG F (cpP F 0 268) (nI o) n)) 268) N)]) (fun _ => rfl) (fun _ _ => ?_)
                    refine V.topI (y := rightTo (goG f f (nI o) n) N) (by rw [pg_pp]; exact rt_q hF hpl hN5 _) ?_
                    refine V.istore (pc' := 199) C [(12, .int (rightTo (goG f f (nI o) n) N)), (0, .ref h), (1, .int (nI v)), (2, .int (nI c)), (3, .int y), (4, .int (nI (ckm f n n))), (5, .long (lN (odT f n v N (wtL c) o))), (7, .long (lN (awT f n 6))), (9, .int (nI o)), (10, .long (lN (wyT f n v o 6)))] dX7_byRejected_197 rfl 13 hnL rfl rfl ?_
                    refine V.lload (pc' := 201) C 6 dX7_byRejected_199 rfl rfl ?_
                    refine V.lload (pc' := 203) C 9 dX7_byRejected_201 rfl rfl ?_
                    refine V.iload_n (pc' := 204) C 3 dX7_byRejected_203 rfl rfl ?_
                    refine V.bipush (pc' := 206) C dX7_byRejected_204 rfl kcb_m4 ?_
                    refine V.icmp_ne (pc' := 209) C 217 dX7_byRejected_206 rfl rfl (fun _ => ?_) (fun h14 => absurd h14 (nc4 (by omega)))
                    refine V.iload (pc' := 219) C 0 dX7_byRejected_217 rfl rfl ?_
                    refine V.iload_n (pc' := 220) C 3 dX7_byRejected_219 rfl rfl ?_
                    refine V.ishr (pc' := 221) C dX7_byRejected_220 rfl ?_
                    refine V.iconst (pc' := 222) C dX7_byRejected_221 rfl kci_1 ?_
                    refine V.iand (pc' := 223) C dX7_byRejected_222 rfl ?_
                    refine V.topI (y := nI (wtL c (rightTo (goG f f (nI o) n) N))) (bit_nat _ c) ?_
                    refine V.i2l (pc' := 224) C dX7_byRejected_223 rfl ?_
                    refine V.topL (y := lN ((wtL c) (rightTo (goG f f (nI o) n) N))) (nI_l (by have := wtL_le c (goG f f (nI o) n) N; omega)) ?_
                    refine V.lmul (pc' := 225) C dX7_byRejected_224 rfl ?_
                    refine V.ladd (pc' := 226) C dX7_byRejected_225 rfl ?_
                    refine V.lstore (pc' := 228) C [(5, .long ((lN (odT f n v N (wtL c) o)) + ((lN (wyT f n v o 6)) * (lN ((wtL c) (rightTo (goG f f (nI o) n) N)))))), (12, .int (rightTo (goG f f (nI o) n) N)), (0, .ref h), (1, .int (nI v)), (2, .int (nI c)), (3, .int y), (4, .int (nI (ckm f n n))), (7, .long (lN (awT f n 6))), (9, .int (nI o)), (10, .long (lN (wyT f n v o 6)))] dX7_byRejected_226 rfl 13 hnL rfl rfl ?_
                    refine V.iinc (pc' := 231) C (nI (o + 1)) [(9, .int (nI (o + 1))), (5, .long ((lN (odT f n v N (wtL c) o)) + ((lN (wyT f n v o 6)) * (lN ((wtL c) (rightTo (goG f f (nI o) n) N)))))), (12, .int (rightTo (goG f f (nI o) n) N)), (0, .ref h), (1, .int (nI v)), (2, .int (nI c)), (3, .int y), (4, .int (nI (ckm f n n))), (7, .long (lN (awT f n 6))), (10, .long (lN (wyT f n v o 6)))] dX7_byRejected_228 rfl 13 hnL rfl 8 rfl (ii_N o 1 rfl) rfl ?_
                    refine V.goto C 108 dX7_byRejected_231 rfl ?_
                    refine V.lvs [3, 4, 5, 6, 7, 1, 8, 0] (lv2 := [(0, .ref h), (1, .int (nI v)), (2, .int (nI c)), (3, .int y), (4, .int (nI (ckm f n n))), (5, .long (lN (odT f n v N (wtL c) (o + 1)))), (7, .long (lN (awT f n 6))), (9, .int (nI (o + 1)))]) (by rw [← od_t hn6 h10]; rfl) ?_
                    exact ih_L7 (by omega) (pp F 268 (goG F (cpP F 0 268) (nI o) n)) (goC F (cpP F 0 268) (nI o) n) (goF F (cpP F 0 268) (nI o) n) (hF.tr (Qf.pp (by omega)))
                  · refine V.lload (pc' := 140) C 8 dX7_byRejected_138 rfl rfl ?_
                    refine V.iload (pc' := 142) C 4 dX7_byRejected_140 rfl rfl ?_
                    refine V.iload (pc' := 144) C 9 dX7_byRejected_142 rfl rfl ?_
                    refine V.ishr (pc' := 145) C dX7_byRejected_144 rfl ?_
                    refine V.iconst (pc' := 146) C dX7_byRejected_145 rfl kci_1 ?_
                    refine V.iand (pc' := 147) C dX7_byRejected_146 rfl ?_
                    refine V.if_ne (pc' := 150) C 154 dX7_byRejected_147 rfl rfl (fun h15 => ?_) (fun h15 => ?_)
                    · refine V.iload (pc' := 156) C 7 dX7_byRejected_154 rfl rfl ?_
                      refine V.iload (pc' := 158) C 9 dX7_byRejected_156 rfl rfl ?_
                      refine V.ishr (pc' := 159) C dX7_byRejected_158 rfl ?_
                      refine V.iconst (pc' := 160) C dX7_byRejected_159 rfl kci_1 ?_
                      refine V.iand (pc' := 161) C dX7_byRejected_160 rfl ?_
                      refine V.iconst (pc' := 162) C dX7_byRejected_161 rfl kci_1 ?_
                      refine V.icmp_ne (pc' := 165) C 170 dX7_byRejected_162 rfl rfl (fun h16 => ?_) (fun h16 => ?_)
                      · refine V.bipush (pc' := 172) C dX7_byRejected_170 rfl kcb_10 ?_
                        refine V.iload_n (pc' := 173) C 1 dX7_byRejected_172 rfl rfl ?_
                        refine V.isubN (pc' := 174) C 10 v hv dX7_byRejected_173 rfl ?_
                        refine V.i2l (pc' := 175) C dX7_byRejected_174 rfl ?_
                        refine V.lmul (pc' := 176) C dX7_byRejected_175 rfl ?_
                        refine V.lstore (pc' := 178) C [(10, .long ((lN (wyT f n v o k2)) * ((nI (10 - v)).toInt64))), (0, .ref h), (1, .int (nI v)), (2, .int (nI c)), (3, .int y), (4, .int (nI (ckm f n n))), (5, .long (lN (odT f n v N (wtL c) o))), (7, .long (lN (awT f n 6))), (9, .int (nI o)), (12, .int (nI k2))] dX7_byRejected_176 rfl 13 hnL rfl rfl ?_
                        refine V.iinc (pc' := 181) C (nI (k2 + 1)) [(12, .int (nI (k2 + 1))), (10, .long ((lN (wyT f n v o k2)) * ((nI (10 - v)).toInt64))), (0, .ref h), (1, .int (nI v)), (2, .int (nI c)), (3, .int y), (4, .int (nI (ckm f n n))), (5, .long (lN (odT f n v N (wtL c) o))), (7, .long (lN (awT f n 6))), (9, .int (nI o))] dX7_byRejected_178 rfl 13 hnL rfl 9 rfl (ii_N k2 1 rfl) rfl ?_
                        refine V.goto C 131 dX7_byRejected_181 rfl ?_
                        refine V.lvs [2, 3, 4, 5, 6, 7, 8, 9, 1, 0] (lv2 := [(0, .ref h), (1, .int (nI v)), (2, .int (nI c)), (3, .int y), (4, .int (nI (ckm f n n))), (5, .long (lN (odT f n v N (wtL c) o))), (7, .long (lN (awT f n 6))), (9, .int (nI o)), (10, .long (lN (wyT f n v o (k2 + 1)))), (12, .int (nI (k2 + 1)))]) (by rw [← wy_b hv (Classical.byContradiction fun z => h15 ((ck_0 hn6 (by omega)).mpr z)) h16]; rfl) ?_
                        exact ih_L11 (by omega)
                      · refine V.iload_n (pc' := 166) C 1 dX7_byRejected_165 rfl rfl ?_
                        refine V.i2l (pc' := 167) C dX7_byRejected_166 rfl ?_
                        refine V.goto C 175 dX7_byRejected_167 rfl ?_
                        refine V.lmul (pc' := 176) C dX7_byRejected_175 rfl ?_
                        refine V.lstore (pc' := 178) C [(10, .long ((lN (wyT f n v o k2)) * ((nI v).toInt64))), (0, .ref h), (1, .int (nI v)), (2, .int (nI c)), (3, .int y), (4, .int (nI (ckm f n n))), (5, .long (lN (odT f n v N (wtL c) o))), (7, .long (lN (awT f n 6))), (9, .int (nI o)), (12, .int (nI k2))] dX7_byRejected_176 rfl 13 hnL rfl rfl ?_
                        refine V.iinc (pc' := 181) C (nI (k2 + 1)) [(12, .int (nI (k2 + 1))), (10, .long ((lN (wyT f n v o k2)) * ((nI v).toInt64))), (0, .ref h), (1, .int (nI v)), (2, .int (nI c)), (3, .int y), (4, .int (nI (ckm f n n))), (5, .long (lN (odT f n v N (wtL c) o))), (7, .long (lN (awT f n 6))), (9, .int (nI o))] dX7_byRejected_178 rfl 13 hnL rfl 9 rfl (ii_N k2 1 rfl) rfl ?_
                        refine V.goto C 131 dX7_byRejected_181 rfl ?_
                        refine V.lvs [2, 3, 4, 5, 6, 7, 8, 9, 1, 0] (lv2 := [(0, .ref h), (1, .int (nI v)), (2, .int (nI c)), (3, .int y), (4, .int (nI (ckm f n n))), (5, .long (lN (odT f n v N (wtL c) o))), (7, .long (lN (awT f n 6))), (9, .int (nI o)), (10, .long (lN (wyT f n v o (k2 + 1)))), (12, .int (nI (k2 + 1)))]) (by rw [← wy_a hv (Classical.byContradiction fun z => h15 ((ck_0 hn6 (by omega)).mpr z)) h16]; rfl) ?_
                        exact ih_L11 (by omega)
                    · refine V.lconst (pc' := 151) C dX7_byRejected_150 rfl kcl_1 ?_
                      refine V.goto C 175 dX7_byRejected_151 rfl ?_
                      refine V.lmul (pc' := 176) C dX7_byRejected_175 rfl ?_
                      refine V.lstore (pc' := 178) C [(10, .long ((lN (wyT f n v o k2)) * 1)), (0, .ref h), (1, .int (nI v)), (2, .int (nI c)), (3, .int y), (4, .int (nI (ckm f n n))), (5, .long (lN (odT f n v N (wtL c) o))), (7, .long (lN (awT f n 6))), (9, .int (nI o)), (12, .int (nI k2))] dX7_byRejected_176 rfl 13 hnL rfl rfl ?_
                      refine V.iinc (pc' := 181) C (nI (k2 + 1)) [(12, .int (nI (k2 + 1))), (10, .long ((lN (wyT f n v o k2)) * 1)), (0, .ref h), (1, .int (nI v)), (2, .int (nI c)), (3, .int y), (4, .int (nI (ckm f n n))), (5, .long (lN (odT f n v N (wtL c) o))), (7, .long (lN (awT f n 6))), (9, .int (nI o))] dX7_byRejected_178 rfl 13 hnL rfl 9 rfl (ii_N k2 1 rfl) rfl ?_
                      refine V.goto C 131 dX7_byRejected_181 rfl ?_
                      refine V.lvs [2, 3, 4, 5, 6, 7, 8, 9, 1, 0] (lv2 := [(0, .ref h), (1, .int (nI v)), (2, .int (nI c)), (3, .int y), (4, .int (nI (ckm f n n))), (5, .long (lN (odT f n v N (wtL c) o))), (7, .long (lN (awT f n 6))), (9, .int (nI o)), (10, .long (lN (wyT f n v o (k2 + 1)))), (12, .int (nI (k2 + 1)))]) (by rw [← wy_f ((ck_0 hn6 (by omega)).mp h15)]; rfl) ?_
                      exact ih_L11 (by omega)
                refine V.lvs [2, 3, 4, 5, 6, 7, 8, 9, 1, 0] (lv2 := [(0, .ref h), (1, .int (nI v)), (2, .int (nI c)), (3, .int y), (4, .int (nI (ckm f n n))), (5, .long (lN (odT f n v N (wtL c) o))), (7, .long (lN (awT f n 6))), (9, .int (nI o)), (10, .long (lN (wyT f n v o 0))), (12, .int (nI 0))]) rfl ?_
                exact L11 0 (by omega)
          refine V.lvs [1, 2, 3, 4, 5, 6, 7, 0] (lv2 := [(0, .ref h), (1, .int (nI v)), (2, .int (nI c)), (3, .int y), (4, .int (nI (ckm f n n))), (5, .long (lN (odT f n v N (wtL c) 0))), (7, .long (lN (awT f n 6))), (9, .int (nI 0))]) rfl ?_
          refine V.weq (ws2 := [(h, .inr (7, [.ref (ad 0), .int (i 1), .ref (ad 2), .int (i 3), .int (i 4), .int (i 5), .ref (ad 6), .int (i 7), .int (i 8), .int (i 9), .int (i 10), .int (i 11), .int (i 12), .int (i 13), .int (i 14), .ref (ad 15), .ref (ad 16), .int (i 17), .int (i 18), .int (i 19), .int (i 20), .int (i 21), .int (i 22), .int (i 23), .ref (ad 24), .int (i 25), .ref (ad 26), .ref (ad 27), .ref (ad 28), .ref (ad 29), .ref (ad 30), .int (i 31)])), (ad 0, .inl (M.G.2 0, 402, .inl f))]) rfl ?_
          exact L7 0 (by omega) f (i 17) (i 18) (Qf.rf f)
        · refine V.lload (pc' := 78) C 6 dX7_byRejected_76 rfl rfl ?_
          refine V.iload (pc' := 80) C 4 dX7_byRejected_78 rfl rfl ?_
          refine V.iload (pc' := 82) C 7 dX7_byRejected_80 rfl rfl ?_
          refine V.ishr (pc' := 83) C dX7_byRejected_82 rfl ?_
          refine V.iconst (pc' := 84) C dX7_byRejected_83 rfl kci_1 ?_
          refine V.iand (pc' := 85) C dX7_byRejected_84 rfl ?_
          refine V.iconst (pc' := 86) C dX7_byRejected_85 rfl kci_1 ?_
          refine V.icmp_ne (pc' := 89) C 95 dX7_byRejected_86 rfl rfl (fun h17 => ?_) (fun h17 => ?_)
          · refine V.lconst (pc' := 96) C dX7_byRejected_95 rfl kcl_1 ?_
            refine V.lmul (pc' := 97) C dX7_byRejected_96 rfl ?_
            refine V.lstore (pc' := 99) C [(7, .long ((lN (awT f n e)) * 1)), (0, .ref h), (1, .int (nI v)), (2, .int (nI c)), (3, .int y), (4, .int (nI (ckm f n n))), (5, .long 0), (9, .int (nI e))] dX7_byRejected_97 rfl 13 hnL rfl rfl ?_
            refine V.iinc (pc' := 102) C (nI (e + 1)) [(9, .int (nI (e + 1))), (7, .long ((lN (awT f n e)) * 1)), (0, .ref h), (1, .int (nI v)), (2, .int (nI c)), (3, .int y), (4, .int (nI (ckm f n n))), (5, .long 0)] dX7_byRejected_99 rfl 13 hnL rfl 7 rfl (ii_N e 1 rfl) rfl ?_
            refine V.goto C 69 dX7_byRejected_102 rfl ?_
            refine V.lvs [2, 3, 4, 5, 6, 7, 1, 0] (lv2 := [(0, .ref h), (1, .int (nI v)), (2, .int (nI c)), (3, .int y), (4, .int (nI (ckm f n n))), (5, .long 0), (7, .long (lN (awT f n (e + 1)))), (9, .int (nI (e + 1)))]) (by rw [← aw_f (fun z => h17 ((ck_1 hn6 (by omega)).mpr z))]; rfl) ?_
            exact ih_L4 (by omega)
          · refine V.ldc2 (pc' := 92) C dX7_byRejected_89 rfl q1229 ?_
            refine V.goto C 96 dX7_byRejected_92 rfl ?_
            refine V.lmul (pc' := 97) C dX7_byRejected_96 rfl ?_
            refine V.lstore (pc' := 99) C [(7, .long ((lN (awT f n e)) * 10)), (0, .ref h), (1, .int (nI v)), (2, .int (nI c)), (3, .int y), (4, .int (nI (ckm f n n))), (5, .long 0), (9, .int (nI e))] dX7_byRejected_97 rfl 13 hnL rfl rfl ?_
            refine V.iinc (pc' := 102) C (nI (e + 1)) [(9, .int (nI (e + 1))), (7, .long ((lN (awT f n e)) * 10)), (0, .ref h), (1, .int (nI v)), (2, .int (nI c)), (3, .int y), (4, .int (nI (ckm f n n))), (5, .long 0)] dX7_byRejected_99 rfl 13 hnL rfl 7 rfl (ii_N e 1 rfl) rfl ?_
            refine V.goto C 69 dX7_byRejected_102 rfl ?_
            refine V.lvs [2, 3, 4, 5, 6, 7, 1, 0] (lv2 := [(0, .ref h), (1, .int (nI v)), (2, .int (nI c)), (3, .int y), (4, .int (nI (ckm f n n))), (5, .long 0), (7, .long (lN (awT f n (e + 1)))), (9, .int (nI (e + 1)))]) (by rw [← aw_t ((ck_1 hn6 (by omega)).mp h17)]; rfl) ?_
            exact ih_L4 (by omega)
      refine V.lvs [3, 4, 5, 6, 7, 2, 1, 0] (lv2 := [(0, .ref h), (1, .int (nI v)), (2, .int (nI c)), (3, .int y), (4, .int (nI (ckm f n n))), (5, .long 0), (7, .long (lN (awT f n 0))), (9, .int (nI 0))]) rfl ?_
      exact L4 0 (by omega)
    · refine V.iload (pc' := 20) C 4 dX7_byRejected_18 rfl rfl ?_
      refine V.aload_n (pc' := 21) C 0 dX7_byRejected_20 rfl rfl ?_
      refine V.get (pc' := 24) C dX7_byRejected_21 rfl 0 rfl rfl in_X7 0 rfl q929 rfl ?_
      refine V.aload_n (pc' := 25) C 0 dX7_byRejected_24 rfl rfl ?_
      refine V.get (pc' := 28) C dX7_byRejected_25 rfl 0 rfl rfl in_X7 0 rfl q929 rfl ?_
      refine V.bipush (pc' := 30) C dX7_byRejected_28 rfl kcb_48 ?_
      refine V.iconst (pc' := 31) C dX7_byRejected_30 rfl kci_3 ?_
      refine V.iload (pc' := 33) C 5 dX7_byRejected_31 rfl rfl ?_
      refine V.imulN (pc' := 34) C 3 e dX7_byRejected_33 rfl ?_
      refine V.iaddN (pc' := 35) C 48 (3 * e) dX7_byRejected_34 rfl ?_
      refine V.iconst (pc' := 36) C dX7_byRejected_35 rfl kci_1 ?_
      refine V.iaddN (pc' := 37) C (48 + 3 * e) 1 dX7_byRejected_36 rfl ?_
      refine V.iald (pc' := 38) C (48 + 3 * e + 1) dX7_byRejected_37 rfl 1 rfl (by omega) rfl ?_
      refine V.topI (y := nI (pN f (48 + 3 * e + 1))) ((hpl.2.2 e (by omega)).2.1) ?_
      refine V.iald (pc' := 39) C (pN f (48 + 3 * e + 1)) dX7_byRejected_38 rfl 1 rfl (by have := (hpl.2.2 e (by omega)).2.2; omega) rfl ?_
      refine V.iconst (pc' := 40) C dX7_byRejected_39 rfl kci_1 ?_
      refine V.icmp_ne (pc' := 43) C 50 dX7_byRejected_40 rfl rfl (fun h18 => ?_) (fun h18 => ?_)
      · refine V.iconst (pc' := 51) C dX7_byRejected_50 rfl kci_0 ?_
        refine V.ior (pc' := 52) C dX7_byRejected_51 rfl ?_
        refine V.istore (pc' := 54) C [(4, .int ((mkI f n e) ||| 0)), (0, .ref h), (1, .int (nI v)), (2, .int (nI c)), (3, .int y), (5, .int (nI e))] dX7_byRejected_52 rfl 13 hnL rfl rfl ?_
        refine V.iinc (pc' := 57) C (nI (e + 1)) [(5, .int (nI (e + 1))), (4, .int ((mkI f n e) ||| 0)), (0, .ref h), (1, .int (nI v)), (2, .int (nI c)), (3, .int y)] dX7_byRejected_54 rfl 13 hnL rfl 5 rfl (ii_N e 1 rfl) rfl ?_
        refine V.goto C 6 dX7_byRejected_57 rfl ?_
        refine V.lvs [2, 3, 4, 5, 1, 0] (lv2 := [(0, .ref h), (1, .int (nI v)), (2, .int (nI c)), (3, .int y), (4, .int (mkI f n (e + 1))), (5, .int (nI (e + 1)))]) (by rw [mkI_f h18]; rfl) ?_
        exact ih_L1 (by omega)
      · refine V.iconst (pc' := 44) C dX7_byRejected_43 rfl kci_1 ?_
        refine V.iload (pc' := 46) C 5 dX7_byRejected_44 rfl rfl ?_
        refine V.ishl (pc' := 47) C dX7_byRejected_46 rfl ?_
        refine V.goto C 51 dX7_byRejected_47 rfl ?_
        refine V.ior (pc' := 52) C dX7_byRejected_51 rfl ?_
        refine V.istore (pc' := 54) C [(4, .int ((mkI f n e) ||| (1 <<< (nI e &&& 31)))), (0, .ref h), (1, .int (nI v)), (2, .int (nI c)), (3, .int y), (5, .int (nI e))] dX7_byRejected_52 rfl 13 hnL rfl rfl ?_
        refine V.iinc (pc' := 57) C (nI (e + 1)) [(5, .int (nI (e + 1))), (4, .int ((mkI f n e) ||| (1 <<< (nI e &&& 31)))), (0, .ref h), (1, .int (nI v)), (2, .int (nI c)), (3, .int y)] dX7_byRejected_54 rfl 13 hnL rfl 5 rfl (ii_N e 1 rfl) rfl ?_
        refine V.goto C 6 dX7_byRejected_57 rfl ?_
        refine V.lvs [2, 3, 4, 5, 1, 0] (lv2 := [(0, .ref h), (1, .int (nI v)), (2, .int (nI c)), (3, .int y), (4, .int (mkI f n (e + 1))), (5, .int (nI (e + 1)))]) (by rw [mkI_t h18]; rfl) ?_
        exact ih_L1 (by omega)
  refine V.lvs [2, 3, 4, 5, 1, 0] (lv2 := [(0, .ref h), (1, .int (nI v)), (2, .int (nI c)), (3, .int y), (4, .int (mkI f n 0)), (5, .int (nI 0))]) rfl ?_
  exact L1 0 (by omega)
set_option maxHeartbeats 4000000 in
theorem ct_X7_byRejM (l : Launch) (G : GG) (h : Nat) (ad : Nat → Nat) (i : Nat → Int32) (f : Nat → Int32) (N : Nat) (v : Nat) (y : Int32) (n : Nat) (hN : i 1 = nI N) (hN5 : N ≤ 5) (hpl : okPl f n) (hv : v ≤ 10) : Ct l G yX7_byRejected (ws_ yX7_byRejected cX7_byRejected 13 (some .long)) ({ frames := 4, cells := 0, slots := 0, locals := 93 } : Room) [.ref h, .int (nI v), .int (-4), .int y] [mO h ad i, (ad 0, .inl (G.2 0, 402, .inl f))] (fun u : (Nat → Int32) × (Nat → Int32) => some (.long (lowR (odT f n v N wtM 64) (awT f n 6) y))) (fun u => Qf f u.1 ∧ Qi i u.2) (fun u => [mO h ad u.2, (ad 0, .inl (G.2 0, 402, .inl u.1))]) := by
  refine Ct.of rfl rfl ?_
  intro M el eG hnL C T
  subst el
  subst eG
  have C : Cx M cX7_byRejected "ClockWardModel" ({ frames := 4, cells := 0, slots := 0, locals := 93 } : Room) := C
  have hn6 := hpl.2.1
  refine V.lvs [0, 1, 2, 3] (lv2 := [(0, .ref h), (1, .int (nI v)), (2, .int (-4)), (3, .int y)]) rfl ?_
  refine V.iconst (pc' := 1) C dX7_byRejected_0 rfl kci_0 ?_
  refine V.istore (pc' := 3) C [(4, .int 0), (0, .ref h), (1, .int (nI v)), (2, .int (-4)), (3, .int y)] dX7_byRejected_1 rfl 13 hnL rfl rfl ?_
  refine V.iconst (pc' := 4) C dX7_byRejected_3 rfl kci_0 ?_
  refine V.istore (pc' := 6) C [(5, .int 0), (4, .int 0), (0, .ref h), (1, .int (nI v)), (2, .int (-4)), (3, .int y)] dX7_byRejected_4 rfl 13 hnL rfl rfl ?_
  have L1 : ∀ e : Nat, e ≤ n → V M 0 0 [mO h ad i, (ad 0, .inl (M.G.2 0, 402, .inl f))] [(0, .ref h), (1, .int (nI v)), (2, .int (-4)), (3, .int y), (4, .int (mkI f n e)), (5, .int (nI e))] [] 6 := by
    refine loopN _ n (fun e he ih_L1 => ?_)
    refine V.iload (pc' := 8) C 5 dX7_byRejected_6 rfl rfl ?_
    refine V.aload_n (pc' := 9) C 0 dX7_byRejected_8 rfl rfl ?_
    refine V.get (pc' := 12) C dX7_byRejected_9 rfl 0 rfl rfl in_X7 0 rfl q929 rfl ?_
    refine V.bipush (pc' := 14) C dX7_byRejected_12 rfl kcb_66 ?_
    refine V.iald (pc' := 15) C 66 dX7_byRejected_14 rfl 1 rfl (by omega) rfl ?_
    refine V.topI hpl.1 ?_
    refine V.icmp_geN (pc' := 18) C e n (by omega) (by omega) 60 dX7_byRejected_15 rfl rfl (fun h2 => ?_) (fun h2 => ?_)
    · have hx3 : n = e := by omega
      subst hx3
      refine V.lvs [0, 1, 2, 3, 4, 5] (lv2 := [(0, .ref h), (1, .int (nI v)), (2, .int (-4)), (3, .int y), (4, .int (nI (ckm f n n))), (5, .int (nI n))]) (by rw [(mk_nat f n n hn6).1]; rfl) ?_
      refine V.lconst (pc' := 61) C dX7_byRejected_60 rfl kcl_0 ?_
      refine V.lstore (pc' := 63) C [(5, .long 0), (0, .ref h), (1, .int (nI v)), (2, .int (-4)), (3, .int y), (4, .int (nI (ckm f n n)))] dX7_byRejected_61 rfl 13 hnL rfl rfl ?_
      refine V.lconst (pc' := 64) C dX7_byRejected_63 rfl kcl_1 ?_
      refine V.lstore (pc' := 66) C [(7, .long 1), (5, .long 0), (0, .ref h), (1, .int (nI v)), (2, .int (-4)), (3, .int y), (4, .int (nI (ckm f n n)))] dX7_byRejected_64 rfl 13 hnL rfl rfl ?_
      refine V.iconst (pc' := 67) C dX7_byRejected_66 rfl kci_0 ?_
      refine V.istore (pc' := 69) C [(9, .int 0), (7, .long 1), (5, .long 0), (0, .ref h), (1, .int (nI v)), (2, .int (-4)), (3, .int y), (4, .int (nI (ckm f n n)))] dX7_byRejected_67 rfl 13 hnL rfl rfl ?_
      have L4 : ∀ e : Nat, e ≤ 6 → V M 0 0 [mO h ad i, (ad 0, .inl (M.G.2 0, 402, .inl f))] [(0, .ref h), (1, .int (nI v)), (2, .int (-4)), (3, .int y), (4, .int (nI (ckm f n n))), (5, .long 0), (7, .long (lN (awT f n e))), (9, .int (nI e))] [] 69 := by
        refine loopN _ 6 (fun e he ih_L4 => ?_)
        refine V.iload (pc' := 71) C 7 dX7_byRejected_69 rfl rfl ?_
        refine V.bipush (pc' := 73) C dX7_byRejected_71 rfl kcb_6 ?_
        refine V.icmp_geN (pc' := 76) C e 6 (by omega) (by omega) 105 dX7_byRejected_73 rfl rfl (fun h5 => ?_) (fun h5 => ?_)
        · have hx6 : 6 = e := by omega
          subst hx6
          refine V.iconst (pc' := 106) C dX7_byRejected_105 rfl kci_0 ?_
          refine V.istore (pc' := 108) C [(9, .int 0), (0, .ref h), (1, .int (nI v)), (2, .int (-4)), (3, .int y), (4, .int (nI (ckm f n n))), (5, .long 0), (7, .long (lN (awT f n 6)))] dX7_byRejected_106 rfl 13 hnL rfl rfl ?_
          have L7 : ∀ o : Nat, o ≤ 64 → ∀ (F : Nat → Int32), ∀ (q17 : Int32), ∀ (q18 : Int32), Qf f F → V M 0 0 [(h, .inr (7, [.ref (ad 0), .int (i 1), .ref (ad 2), .int (i 3), .int (i 4), .int (i 5), .ref (ad 6), .int (i 7), .int (i 8), .int (i 9), .int (i 10), .int (i 11), .int (i 12), .int (i 13), .int (i 14), .ref (ad 15), .ref (ad 16), .int q17, .int q18, .int (i 19), .int (i 20), .int (i 21), .int (i 22), .int (i 23), .ref (ad 24), .int (i 25), .ref (ad 26), .ref (ad 27), .ref (ad 28), .ref (ad 29), .ref (ad 30), .int (i 31)])), (ad 0, .inl (M.G.2 0, 402, .inl F))] [(0, .ref h), (1, .int (nI v)), (2, .int (-4)), (3, .int y), (4, .int (nI (ckm f n n))), (5, .long (lN (odT f n v N wtM o))), (7, .long (lN (awT f n 6))), (9, .int (nI o))] [] 108 := by
            refine loopN _ 64 (fun o ho ih_L7 => ?_)
            intro F q17 q18 hF
            refine V.iload (pc' := 110) C 7 dX7_byRejected_108 rfl rfl ?_
            refine V.bipush (pc' := 112) C dX7_byRejected_110 rfl kcb_64 ?_
            refine V.icmp_geN (pc' := 115) C o 64 (by omega) (by omega) 234 dX7_byRejected_112 rfl rfl (fun h8 => ?_) (fun h8 => ?_)
            · have hx9 : 64 = o := by omega
              subst hx9
              refine V.lload (pc' := 236) C 5 dX7_byRejected_234 rfl rfl ?_
              refine V.lload (pc' := 238) C 6 dX7_byRejected_236 rfl rfl ?_
              refine V.iload_n (pc' := 239) C 3 dX7_byRejected_238 rfl rfl ?_
              refine V.callS (pc' := 242) (wr := [(h, .inr (7, [.ref (ad 0), .int (i 1), .ref (ad 2), .int (i 3), .int (i 4), .int (i 5), .ref (ad 6), .int (i 7), .int (i 8), .int (i 9), .int (i 10), .int (i 11), .int (i 12), .int (i 13), .int (i 14), .ref (ad 15), .ref (ad 16), .int q17, .int q18, .int (i 19), .int (i 20), .int (i 21), .int (i 22), .int (i 23), .ref (ad 24), .int (i 25), .ref (ad 26), .ref (ad 27), .ref (ad 28), .ref (ad 29), .ref (ad 30), .int (i 31)])), (ad 0, .inl (M.G.2 0, 402, .inl F))]) C (ct_X7_lowest M.l M.G (odT f n v N wtM 64) (awT f n 6) y (od_b hn6 hv (fun h => (wtM_r h hN5).2)) aw_b.2 aw_b.1) dX7_byRejected_239 rfl (lw_S q1263 q1264 q71 q1265) hys_X7_lowest rfl rfl [] [0, 1] [0, 1] rfl rfl rfl (fun _ => [(h, .inr (7, [.ref (ad 0), .int (i 1), .ref (ad 2), .int (i 3), .int (i 4), .int (i 5), .ref (ad 6), .int (i 7), .int (i 8), .int (i 9), .int (i 10), .int (i 11), .int (i 12), .int (i 13), .int (i 14), .ref (ad 15), .ref (ad 16), .int q17, .int q18, .int (i 19), .int (i 20), .int (i 21), .int (i 22), .int (i 23), .ref (ad 24), .int (i 25), .ref (ad 26), .ref (ad 27), .ref (ad 28), .ref (ad 29), .ref (ad 30), .int (i 31)])), (ad 0, .inl (M.G.2 0, 402, .inl F))]) (fun _ => rfl) rfl 0 0 rfl rfl (fun _ => [.long (lowR (odT f n v N wtM 64) (awT f n 6) y)]) (fun _ => rfl) (fun _ _ => ?_)
              exact V.lret C T dX7_byRejected_242 (F, upd (upd i 17 q17) 18 q18) rfl rfl ⟨hF, rfl, rfl, rfl, rfl, rfl⟩ rfl rfl rfl
            · refine V.iload (pc' := 117) C 7 dX7_byRejected_115 rfl rfl ?_
              refine V.iload (pc' := 119) C 4 dX7_byRejected_117 rfl rfl ?_
              refine V.iconst (pc' := 120) C dX7_byRejected_119 rfl kci_m1 ?_
              refine V.ixor (pc' := 121) C dX7_byRejected_120 rfl ?_
              refine V.iand (pc' := 122) C dX7_byRejected_121 rfl ?_
              refine V.if_ne (pc' := 125) C 228 dX7_byRejected_122 rfl rfl (fun h10 => ?_) (fun h10 => ?_)
              · refine V.iinc (pc' := 231) C (nI (o + 1)) [(9, .int (nI (o + 1))), (0, .ref h), (1, .int (nI v)), (2, .int (-4)), (3, .int y), (4, .int (nI (ckm f n n))), (5, .long (lN (odT f n v N wtM o))), (7, .long (lN (awT f n 6)))] dX7_byRejected_228 rfl 13 hnL rfl 7 rfl (ii_N o 1 rfl) rfl ?_
                refine V.goto C 108 dX7_byRejected_231 rfl ?_
                refine V.lvs [1, 2, 3, 4, 5, 6, 7, 0] (lv2 := [(0, .ref h), (1, .int (nI v)), (2, .int (-4)), (3, .int y), (4, .int (nI (ckm f n n))), (5, .long (lN (odT f n v N wtM (o + 1)))), (7, .long (lN (awT f n 6))), (9, .int (nI (o + 1)))]) (by rw [odT_f h10]; rfl) ?_
                exact ih_L7 (by omega) F q17 q18 hF
              · refine V.lconst (pc' := 126) C dX7_byRejected_125 rfl kcl_1 ?_
                refine V.lstore (pc' := 128) C [(10, .long 1), (0, .ref h), (1, .int (nI v)), (2, .int (-4)), (3, .int y), (4, .int (nI (ckm f n n))), (5, .long (lN (odT f n v N wtM o))), (7, .long (lN (awT f n 6))), (9, .int (nI o))] dX7_byRejected_126 rfl 13 hnL rfl rfl ?_
                refine V.iconst (pc' := 129) C dX7_byRejected_128 rfl kci_0 ?_
                refine V.istore (pc' := 131) C [(12, .int 0), (10, .long 1), (0, .ref h), (1, .int (nI v)), (2, .int (-4)), (3, .int y), (4, .int (nI (ckm f n n))), (5, .long (lN (odT f n v N wtM o))), (7, .long (lN (awT f n 6))), (9, .int (nI o))] dX7_byRejected_129 rfl 13 hnL rfl rfl ?_
                have L11 : ∀ k2 : Nat, k2 ≤ 6 → V M 0 0 [(h, .inr (7, [.ref (ad 0), .int (i 1), .ref (ad 2), .int (i 3), .int (i 4), .int (i 5), .ref (ad 6), .int (i 7), .int (i 8), .int (i 9), .int (i 10), .int (i 11), .int (i 12), .int (i 13), .int (i 14), .ref (ad 15), .ref (ad 16), .int q17, .int q18, .int (i 19), .int (i 20), .int (i 21), .int (i 22), .int (i 23), .ref (ad 24), .int (i 25), .ref (ad 26), .ref (ad 27), .ref (ad 28), .ref (ad 29), .ref (ad 30), .int (i 31)])), (ad 0, .inl (M.G.2 0, 402, .inl F))] [(0, .ref h), (1, .int (nI v)), (2, .int (-4)), (3, .int y), (4, .int (nI (ckm f n n))), (5, .long (lN (odT f n v N wtM o))), (7, .long (lN (awT f n 6))), (9, .int (nI o)), (10, .long (lN (wyT f n v o k2))), (12, .int (nI k2))] [] 131 := by
                  refine loopN _ 6 (fun k2 hk2 ih_L11 => ?_)
                  refine V.iload (pc' := 133) C 9 dX7_byRejected_131 rfl rfl ?_
                  refine V.bipush (pc' := 135) C dX7_byRejected_133 rfl kcb_6 ?_
                  refine V.icmp_geN (pc' := 138) C k2 6 (by omega) (by omega) 184 dX7_byRejected_135 rfl rfl (fun h12 => ?_) (fun h12 => ?_)
                  · have hx13 : 6 = k2 := by omega
                    subst hx13
                    refine V.aload_n (pc' := 185) C 0 dX7_byRejected_184 rfl rfl ?_
                    refine V.iload (pc' := 187) C 7 dX7_byRejected_185 rfl rfl ?_
                    refine V.callV (pc' := 190) (wr := []) C (ct_X7_planGoes M.l M.G h ad (upd (upd i 17 q17) 18 q18) F (nI o) n (okPl_q hF hpl)) dX7_byRejected_187 rfl (lw_V q1193 q1195 qs54 q71 q1196) hyv_X7_planGoes rfl rfl 0 rfl rfl [0, 1] [] [0, 1] rfl rfl rfl (fun _ => [(h, .inr (7, [.ref (ad 0), .int (i 1), .ref (ad 2), .int (i 3), .int (i 4), .int (i 5), .ref (ad 6), .int (i 7), .int (i 8), .int (i 9), .int (i 10), .int (i 11), .int (i 12), .int (i 13), .int (i 14), .ref (ad 15), .ref (ad 16), .int (goC F (cpP F 0 268) (nI o) n), .int (goF F (cpP F 0 268) (nI o) n), .int (i 19), .int (i 20), .int (i 21), .int (i 22), .int (i 23), .ref (ad 24), .int (i 25), .ref (ad 26), .ref (ad 27), .ref (ad 28), .ref (ad 29), .ref (ad 30), .int (i 31)])), (ad 0, .inl (M.G.2 0, 402, .inl (pp F 268 (goG F (cpP F 0 268) (nI o) n))))]) (fun _ => rfl) rfl 0 0 rfl rfl (fun _ => []) (fun _ => rfl) (fun _ _ => ?_)
                    refine V.aload_n (pc' := 191) C 0 dX7_byRejected_190 rfl rfl ?_
                    refine V.sipush (pc' := 194) C dX7_byRejected_191 rfl kcs_268 ?_
                    refine V.callV (pc' := 197) (wr := []) C (ct_X7_rightOn M.l M.G h ad (upd (upd i 17 (goC F (cpP F 0 268) (nI o) n)) 18 (goF F (cpP F 0 268) (nI o) n)) (pp F 268 (goG F (cpP F 0 268) (nI o) n)) N 268 hN hN5 (by omega)) dX7_byRejected_194 rfl (lw_V q1092 q1094 qs42 q71 q1095) hyv_X7_rightOn rfl rfl 0 rfl rfl [0, 1] [] [0, 1] rfl rfl rfl (fun _ => [(h, .inr (7, [.ref (ad 0), .int (i 1), .ref (ad 2), .int (i 3), .int (i 4), .int (i 5), .ref (ad 6), .int (i 7), .int (i 8), .int (i 9), .int (i 10), .int (i 11), .int (i 12), .int (i 13), .int (i 14), .ref (ad 15), .ref (ad 16), .int (goC F (cpP F 0 268) (nI o) n), .int (goF F (cpP F 0 268) (nI o) n), .int (i 19), .int (i 20), .int (i 21), .int (i 22), .int (i 23), .ref (ad 24), .int (i 25), .ref (ad 26), .ref (ad 27), .ref (ad 28), .ref (ad 29), .ref (ad 30), .int (i 31)])), (ad 0, .inl (M.G.2 0, 402, .inl (pp F 268 (goG F (cpP F 0 268) (nI o) n))))]) (fun _ => rfl) rfl 0 0 rfl rfl (fun _ => [.int (rightTo (pg (pp F 268 (goG F (cpP F 0 268) (nI o) n)) 268) N)]) (fun _ => rfl) (fun _ _ => ?_)
                    refine V.topI (y := rightTo (goG f f (nI o) n) N) (by rw [pg_pp]; exact rt_q hF hpl hN5 _) ?_
                    refine V.istore (pc' := 199) C [(12, .int (rightTo (goG f f (nI o) n) N)), (0, .ref h), (1, .int (nI v)), (2, .int (-4)), (3, .int y), (4, .int (nI (ckm f n n))), (5, .long (lN (odT f n v N wtM o))), (7, .long (lN (awT f n 6))), (9, .int (nI o)), (10, .long (lN (wyT f n v o 6)))] dX7_byRejected_197 rfl 13 hnL rfl rfl ?_
                    refine V.lload (pc' := 201) C 6 dX7_byRejected_199 rfl rfl ?_
                    refine V.lload (pc' := 203) C 9 dX7_byRejected_201 rfl rfl ?_
                    refine V.iload_n (pc' := 204) C 3 dX7_byRejected_203 rfl rfl ?_
                    refine V.bipush (pc' := 206) C dX7_byRejected_204 rfl kcb_m4 ?_
                    refine V.icmp_ne (pc' := 209) C 217 dX7_byRejected_206 rfl rfl (fun h14 => absurd h14 (fun z => z rfl)) (fun _ => ?_)
                    refine V.iload (pc' := 211) C 0 dX7_byRejected_209 rfl rfl ?_
                    refine V.callS (pc' := 214) (wr := [(h, .inr (7, [.ref (ad 0), .int (i 1), .ref (ad 2), .int (i 3), .int (i 4), .int (i 5), .ref (ad 6), .int (i 7), .int (i 8), .int (i 9), .int (i 10), .int (i 11), .int (i 12), .int (i 13), .int (i 14), .ref (ad 15), .ref (ad 16), .int (goC F (cpP F 0 268) (nI o) n), .int (goF F (cpP F 0 268) (nI o) n), .int (i 19), .int (i 20), .int (i 21), .int (i 22), .int (i 23), .ref (ad 24), .int (i 25), .ref (ad 26), .ref (ad 27), .ref (ad 28), .ref (ad 29), .ref (ad 30), .int (i 31)])), (ad 0, .inl (M.G.2 0, 402, .inl (pp F 268 (goG F (cpP F 0 268) (nI o) n))))]) C (ct_X7_bitsOf M.l M.G (rightTo (goG f f (nI o) n) N) ) dX7_byRejected_211 rfl (lw_S q1218 q1219 q71 q1220) hys_X7_bitsOf rfl rfl [] [0, 1] [0, 1] rfl rfl rfl (fun _ => [(h, .inr (7, [.ref (ad 0), .int (i 1), .ref (ad 2), .int (i 3), .int (i 4), .int (i 5), .ref (ad 6), .int (i 7), .int (i 8), .int (i 9), .int (i 10), .int (i 11), .int (i 12), .int (i 13), .int (i 14), .ref (ad 15), .ref (ad 16), .int (goC F (cpP F 0 268) (nI o) n), .int (goF F (cpP F 0 268) (nI o) n), .int (i 19), .int (i 20), .int (i 21), .int (i 22), .int (i 23), .ref (ad 24), .int (i 25), .ref (ad 26), .ref (ad 27), .ref (ad 28), .ref (ad 29), .ref (ad 30), .int (i 31)])), (ad 0, .inl (M.G.2 0, 402, .inl (pp F 268 (goG F (cpP F 0 268) (nI o) n))))]) (fun _ => rfl) rfl 0 0 rfl rfl (fun _ => [.int (bitsTo (rightTo (goG f f (nI o) n) N) 7), .long (lN (wyT f n v o 6)), .long (lN (odT f n v N wtM o))]) (fun _ => rfl) (fun _ _ => ?_)
                    refine V.goto C 223 dX7_byRejected_214 rfl ?_
                    refine V.topI (y := nI (wtM (rightTo (goG f f (nI o) n) N))) (wtM_r _ hN5).1 ?_
                    refine V.i2l (pc' := 224) C dX7_byRejected_223 rfl ?_
                    refine V.topL (y := lN (wtM (rightTo (goG f f (nI o) n) N))) (nI_l (by have := (wtM_r (goG f f (nI o) n) hN5).2; omega)) ?_
                    refine V.lmul (pc' := 225) C dX7_byRejected_224 rfl ?_
                    refine V.ladd (pc' := 226) C dX7_byRejected_225 rfl ?_
                    refine V.lstore (pc' := 228) C [(5, .long ((lN (odT f n v N wtM o)) + ((lN (wyT f n v o 6)) * (lN (wtM (rightTo (goG f f (nI o) n) N)))))), (12, .int (rightTo (goG f f (nI o) n) N)), (0, .ref h), (1, .int (nI v)), (2, .int (-4)), (3, .int y), (4, .int (nI (ckm f n n))), (7, .long (lN (awT f n 6))), (9, .int (nI o)), (10, .long (lN (wyT f n v o 6)))] dX7_byRejected_226 rfl 13 hnL rfl rfl ?_
                    refine V.iinc (pc' := 231) C (nI (o + 1)) [(9, .int (nI (o + 1))), (5, .long ((lN (odT f n v N wtM o)) + ((lN (wyT f n v o 6)) * (lN (wtM (rightTo (goG f f (nI o) n) N)))))), (12, .int (rightTo (goG f f (nI o) n) N)), (0, .ref h), (1, .int (nI v)), (2, .int (-4)), (3, .int y), (4, .int (nI (ckm f n n))), (7, .long (lN (awT f n 6))), (10, .long (lN (wyT f n v o 6)))] dX7_byRejected_228 rfl 13 hnL rfl 8 rfl (ii_N o 1 rfl) rfl ?_
                    refine V.goto C 108 dX7_byRejected_231 rfl ?_
                    refine V.lvs [3, 4, 5, 6, 7, 1, 8, 0] (lv2 := [(0, .ref h), (1, .int (nI v)), (2, .int (-4)), (3, .int y), (4, .int (nI (ckm f n n))), (5, .long (lN (odT f n v N wtM (o + 1)))), (7, .long (lN (awT f n 6))), (9, .int (nI (o + 1)))]) (by rw [← od_t hn6 h10]; rfl) ?_
                    exact ih_L7 (by omega) (pp F 268 (goG F (cpP F 0 268) (nI o) n)) (goC F (cpP F 0 268) (nI o) n) (goF F (cpP F 0 268) (nI o) n) (hF.tr (Qf.pp (by omega)))
                  · refine V.lload (pc' := 140) C 8 dX7_byRejected_138 rfl rfl ?_
                    refine V.iload (pc' := 142) C 4 dX7_byRejected_140 rfl rfl ?_
                    refine V.iload (pc' := 144) C 9 dX7_byRejected_142 rfl rfl ?_
                    refine V.ishr (pc' := 145) C dX7_byRejected_144 rfl ?_
                    refine V.iconst (pc' := 146) C dX7_byRejected_145 rfl kci_1 ?_
                    refine V.iand (pc' := 147) C dX7_byRejected_146 rfl ?_
                    refine V.if_ne (pc' := 150) C 154 dX7_byRejected_147 rfl rfl (fun h15 => ?_) (fun h15 => ?_)
                    · refine V.iload (pc' := 156) C 7 dX7_byRejected_154 rfl rfl ?_
                      refine V.iload (pc' := 158) C 9 dX7_byRejected_156 rfl rfl ?_
                      refine V.ishr (pc' := 159) C dX7_byRejected_158 rfl ?_
                      refine V.iconst (pc' := 160) C dX7_byRejected_159 rfl kci_1 ?_
                      refine V.iand (pc' := 161) C dX7_byRejected_160 rfl ?_
                      refine V.iconst (pc' := 162) C dX7_byRejected_161 rfl kci_1 ?_
                      refine V.icmp_ne (pc' := 165) C 170 dX7_byRejected_162 rfl rfl (fun h16 => ?_) (fun h16 => ?_)
                      · refine V.bipush (pc' := 172) C dX7_byRejected_170 rfl kcb_10 ?_
                        refine V.iload_n (pc' := 173) C 1 dX7_byRejected_172 rfl rfl ?_
                        refine V.isubN (pc' := 174) C 10 v hv dX7_byRejected_173 rfl ?_
                        refine V.i2l (pc' := 175) C dX7_byRejected_174 rfl ?_
                        refine V.lmul (pc' := 176) C dX7_byRejected_175 rfl ?_
                        refine V.lstore (pc' := 178) C [(10, .long ((lN (wyT f n v o k2)) * ((nI (10 - v)).toInt64))), (0, .ref h), (1, .int (nI v)), (2, .int (-4)), (3, .int y), (4, .int (nI (ckm f n n))), (5, .long (lN (odT f n v N wtM o))), (7, .long (lN (awT f n 6))), (9, .int (nI o)), (12, .int (nI k2))] dX7_byRejected_176 rfl 13 hnL rfl rfl ?_
                        refine V.iinc (pc' := 181) C (nI (k2 + 1)) [(12, .int (nI (k2 + 1))), (10, .long ((lN (wyT f n v o k2)) * ((nI (10 - v)).toInt64))), (0, .ref h), (1, .int (nI v)), (2, .int (-4)), (3, .int y), (4, .int (nI (ckm f n n))), (5, .long (lN (odT f n v N wtM o))), (7, .long (lN (awT f n 6))), (9, .int (nI o))] dX7_byRejected_178 rfl 13 hnL rfl 9 rfl (ii_N k2 1 rfl) rfl ?_
                        refine V.goto C 131 dX7_byRejected_181 rfl ?_
                        refine V.lvs [2, 3, 4, 5, 6, 7, 8, 9, 1, 0] (lv2 := [(0, .ref h), (1, .int (nI v)), (2, .int (-4)), (3, .int y), (4, .int (nI (ckm f n n))), (5, .long (lN (odT f n v N wtM o))), (7, .long (lN (awT f n 6))), (9, .int (nI o)), (10, .long (lN (wyT f n v o (k2 + 1)))), (12, .int (nI (k2 + 1)))]) (by rw [← wy_b hv (Classical.byContradiction fun z => h15 ((ck_0 hn6 (by omega)).mpr z)) h16]; rfl) ?_
                        exact ih_L11 (by omega)
                      · refine V.iload_n (pc' := 166) C 1 dX7_byRejected_165 rfl rfl ?_
                        refine V.i2l (pc' := 167) C dX7_byRejected_166 rfl ?_
                        refine V.goto C 175 dX7_byRejected_167 rfl ?_
                        refine V.lmul (pc' := 176) C dX7_byRejected_175 rfl ?_
                        refine V.lstore (pc' := 178) C [(10, .long ((lN (wyT f n v o k2)) * ((nI v).toInt64))), (0, .ref h), (1, .int (nI v)), (2, .int (-4)), (3, .int y), (4, .int (nI (ckm f n n))), (5, .long (lN (odT f n v N wtM o))), (7, .long (lN (awT f n 6))), (9, .int (nI o)), (12, .int (nI k2))] dX7_byRejected_176 rfl 13 hnL rfl rfl ?_
                        refine V.iinc (pc' := 181) C (nI (k2 + 1)) [(12, .int (nI (k2 + 1))), (10, .long ((lN (wyT f n v o k2)) * ((nI v).toInt64))), (0, .ref h), (1, .int (nI v)), (2, .int (-4)), (3, .int y), (4, .int (nI (ckm f n n))), (5, .long (lN (odT f n v N wtM o))), (7, .long (lN (awT f n 6))), (9, .int (nI o))] dX7_byRejected_178 rfl 13 hnL rfl 9 rfl (ii_N k2 1 rfl) rfl ?_
                        refine V.goto C 131 dX7_byRejected_181 rfl ?_
                        refine V.lvs [2, 3, 4, 5, 6, 7, 8, 9, 1, 0] (lv2 := [(0, .ref h), (1, .int (nI v)), (2, .int (-4)), (3, .int y), (4, .int (nI (ckm f n n))), (5, .long (lN (odT f n v N wtM o))), (7, .long (lN (awT f n 6))), (9, .int (nI o)), (10, .long (lN (wyT f n v o (k2 + 1)))), (12, .int (nI (k2 + 1)))]) (by rw [← wy_a hv (Classical.byContradiction fun z => h15 ((ck_0 hn6 (by omega)).mpr z)) h16]; rfl) ?_
                        exact ih_L11 (by omega)
                    · refine V.lconst (pc' := 151) C dX7_byRejected_150 rfl kcl_1 ?_
                      refine V.goto C 175 dX7_byRejected_151 rfl ?_
                      refine V.lmul (pc' := 176) C dX7_byRejected_175 rfl ?_
                      refine V.lstore (pc' := 178) C [(10, .long ((lN (wyT f n v o k2)) * 1)), (0, .ref h), (1, .int (nI v)), (2, .int (-4)), (3, .int y), (4, .int (nI (ckm f n n))), (5, .long (lN (odT f n v N wtM o))), (7, .long (lN (awT f n 6))), (9, .int (nI o)), (12, .int (nI k2))] dX7_byRejected_176 rfl 13 hnL rfl rfl ?_
                      refine V.iinc (pc' := 181) C (nI (k2 + 1)) [(12, .int (nI (k2 + 1))), (10, .long ((lN (wyT f n v o k2)) * 1)), (0, .ref h), (1, .int (nI v)), (2, .int (-4)), (3, .int y), (4, .int (nI (ckm f n n))), (5, .long (lN (odT f n v N wtM o))), (7, .long (lN (awT f n 6))), (9, .int (nI o))] dX7_byRejected_178 rfl 13 hnL rfl 9 rfl (ii_N k2 1 rfl) rfl ?_
                      refine V.goto C 131 dX7_byRejected_181 rfl ?_
                      refine V.lvs [2, 3, 4, 5, 6, 7, 8, 9, 1, 0] (lv2 := [(0, .ref h), (1, .int (nI v)), (2, .int (-4)), (3, .int y), (4, .int (nI (ckm f n n))), (5, .long (lN (odT f n v N wtM o))), (7, .long (lN (awT f n 6))), (9, .int (nI o)), (10, .long (lN (wyT f n v o (k2 + 1)))), (12, .int (nI (k2 + 1)))]) (by rw [← wy_f ((ck_0 hn6 (by omega)).mp h15)]; rfl) ?_
                      exact ih_L11 (by omega)
                refine V.lvs [2, 3, 4, 5, 6, 7, 8, 9, 1, 0] (lv2 := [(0, .ref h), (1, .int (nI v)), (2, .int (-4)), (3, .int y), (4, .int (nI (ckm f n n))), (5, .long (lN (odT f n v N wtM o))), (7, .long (lN (awT f n 6))), (9, .int (nI o)), (10, .long (lN (wyT f n v o 0))), (12, .int (nI 0))]) rfl ?_
                exact L11 0 (by omega)
          refine V.lvs [1, 2, 3, 4, 5, 6, 7, 0] (lv2 := [(0, .ref h), (1, .int (nI v)), (2, .int (-4)), (3, .int y), (4, .int (nI (ckm f n n))), (5, .long (lN (odT f n v N wtM 0))), (7, .long (lN (awT f n 6))), (9, .int (nI 0))]) rfl ?_
          refine V.weq (ws2 := [(h, .inr (7, [.ref (ad 0), .int (i 1), .ref (ad 2), .int (i 3), .int (i 4), .int (i 5), .ref (ad 6), .int (i 7), .int (i 8), .int (i 9), .int (i 10), .int (i 11), .int (i 12), .int (i 13), .int (i 14), .ref (ad 15), .ref (ad 16), .int (i 17), .int (i 18), .int (i 19), .int (i 20), .int (i 21), .int (i 22), .int (i 23), .ref (ad 24), .int (i 25), .ref (ad 26), .ref (ad 27), .ref (ad 28), .ref (ad 29), .ref (ad 30), .int (i 31)])), (ad 0, .inl (M.G.2 0, 402, .inl f))]) rfl ?_
          exact L7 0 (by omega) f (i 17) (i 18) (Qf.rf f)
        · refine V.lload (pc' := 78) C 6 dX7_byRejected_76 rfl rfl ?_
          refine V.iload (pc' := 80) C 4 dX7_byRejected_78 rfl rfl ?_
          refine V.iload (pc' := 82) C 7 dX7_byRejected_80 rfl rfl ?_
          refine V.ishr (pc' := 83) C dX7_byRejected_82 rfl ?_
          refine V.iconst (pc' := 84) C dX7_byRejected_83 rfl kci_1 ?_
          refine V.iand (pc' := 85) C dX7_byRejected_84 rfl ?_
          refine V.iconst (pc' := 86) C dX7_byRejected_85 rfl kci_1 ?_
          refine V.icmp_ne (pc' := 89) C 95 dX7_byRejected_86 rfl rfl (fun h17 => ?_) (fun h17 => ?_)
          · refine V.lconst (pc' := 96) C dX7_byRejected_95 rfl kcl_1 ?_
            refine V.lmul (pc' := 97) C dX7_byRejected_96 rfl ?_
            refine V.lstore (pc' := 99) C [(7, .long ((lN (awT f n e)) * 1)), (0, .ref h), (1, .int (nI v)), (2, .int (-4)), (3, .int y), (4, .int (nI (ckm f n n))), (5, .long 0), (9, .int (nI e))] dX7_byRejected_97 rfl 13 hnL rfl rfl ?_
            refine V.iinc (pc' := 102) C (nI (e + 1)) [(9, .int (nI (e + 1))), (7, .long ((lN (awT f n e)) * 1)), (0, .ref h), (1, .int (nI v)), (2, .int (-4)), (3, .int y), (4, .int (nI (ckm f n n))), (5, .long 0)] dX7_byRejected_99 rfl 13 hnL rfl 7 rfl (ii_N e 1 rfl) rfl ?_
            refine V.goto C 69 dX7_byRejected_102 rfl ?_
            refine V.lvs [2, 3, 4, 5, 6, 7, 1, 0] (lv2 := [(0, .ref h), (1, .int (nI v)), (2, .int (-4)), (3, .int y), (4, .int (nI (ckm f n n))), (5, .long 0), (7, .long (lN (awT f n (e + 1)))), (9, .int (nI (e + 1)))]) (by rw [← aw_f (fun z => h17 ((ck_1 hn6 (by omega)).mpr z))]; rfl) ?_
            exact ih_L4 (by omega)
          · refine V.ldc2 (pc' := 92) C dX7_byRejected_89 rfl q1229 ?_
            refine V.goto C 96 dX7_byRejected_92 rfl ?_
            refine V.lmul (pc' := 97) C dX7_byRejected_96 rfl ?_
            refine V.lstore (pc' := 99) C [(7, .long ((lN (awT f n e)) * 10)), (0, .ref h), (1, .int (nI v)), (2, .int (-4)), (3, .int y), (4, .int (nI (ckm f n n))), (5, .long 0), (9, .int (nI e))] dX7_byRejected_97 rfl 13 hnL rfl rfl ?_
            refine V.iinc (pc' := 102) C (nI (e + 1)) [(9, .int (nI (e + 1))), (7, .long ((lN (awT f n e)) * 10)), (0, .ref h), (1, .int (nI v)), (2, .int (-4)), (3, .int y), (4, .int (nI (ckm f n n))), (5, .long 0)] dX7_byRejected_99 rfl 13 hnL rfl 7 rfl (ii_N e 1 rfl) rfl ?_
            refine V.goto C 69 dX7_byRejected_102 rfl ?_
            refine V.lvs [2, 3, 4, 5, 6, 7, 1, 0] (lv2 := [(0, .ref h), (1, .int (nI v)), (2, .int (-4)), (3, .int y), (4, .int (nI (ckm f n n))), (5, .long 0), (7, .long (lN (awT f n (e + 1)))), (9, .int (nI (e + 1)))]) (by rw [← aw_t ((ck_1 hn6 (by omega)).mp h17)]; rfl) ?_
            exact ih_L4 (by omega)
      refine V.lvs [3, 4, 5, 6, 7, 2, 1, 0] (lv2 := [(0, .ref h), (1, .int (nI v)), (2, .int (-4)), (3, .int y), (4, .int (nI (ckm f n n))), (5, .long 0), (7, .long (lN (awT f n 0))), (9, .int (nI 0))]) rfl ?_
      exact L4 0 (by omega)
    · refine V.iload (pc' := 20) C 4 dX7_byRejected_18 rfl rfl ?_
      refine V.aload_n (pc' := 21) C 0 dX7_byRejected_20 rfl rfl ?_
      refine V.get (pc' := 24) C dX7_byRejected_21 rfl 0 rfl rfl in_X7 0 rfl q929 rfl ?_
      refine V.aload_n (pc' := 25) C 0 dX7_byRejected_24 rfl rfl ?_
      refine V.get (pc' := 28) C dX7_byRejected_25 rfl 0 rfl rfl in_X7 0 rfl q929 rfl ?_
      refine V.bipush (pc' := 30) C dX7_byRejected_28 rfl kcb_48 ?_
      refine V.iconst (pc' := 31) C dX7_byRejected_30 rfl kci_3 ?_
      refine V.iload (pc' := 33) C 5 dX7_byRejected_31 rfl rfl ?_
      refine V.imulN (pc' := 34) C 3 e dX7_byRejected_33 rfl ?_
      refine V.iaddN (pc' := 35) C 48 (3 * e) dX7_byRejected_34 rfl ?_
      refine V.iconst (pc' := 36) C dX7_byRejected_35 rfl kci_1 ?_
      refine V.iaddN (pc' := 37) C (48 + 3 * e) 1 dX7_byRejected_36 rfl ?_
      refine V.iald (pc' := 38) C (48 + 3 * e + 1) dX7_byRejected_37 rfl 1 rfl (by omega) rfl ?_
      refine V.topI (y := nI (pN f (48 + 3 * e + 1))) ((hpl.2.2 e (by omega)).2.1) ?_
      refine V.iald (pc' := 39) C (pN f (48 + 3 * e + 1)) dX7_byRejected_38 rfl 1 rfl (by have := (hpl.2.2 e (by omega)).2.2; omega) rfl ?_
      refine V.iconst (pc' := 40) C dX7_byRejected_39 rfl kci_1 ?_
      refine V.icmp_ne (pc' := 43) C 50 dX7_byRejected_40 rfl rfl (fun h18 => ?_) (fun h18 => ?_)
      · refine V.iconst (pc' := 51) C dX7_byRejected_50 rfl kci_0 ?_
        refine V.ior (pc' := 52) C dX7_byRejected_51 rfl ?_
        refine V.istore (pc' := 54) C [(4, .int ((mkI f n e) ||| 0)), (0, .ref h), (1, .int (nI v)), (2, .int (-4)), (3, .int y), (5, .int (nI e))] dX7_byRejected_52 rfl 13 hnL rfl rfl ?_
        refine V.iinc (pc' := 57) C (nI (e + 1)) [(5, .int (nI (e + 1))), (4, .int ((mkI f n e) ||| 0)), (0, .ref h), (1, .int (nI v)), (2, .int (-4)), (3, .int y)] dX7_byRejected_54 rfl 13 hnL rfl 5 rfl (ii_N e 1 rfl) rfl ?_
        refine V.goto C 6 dX7_byRejected_57 rfl ?_
        refine V.lvs [2, 3, 4, 5, 1, 0] (lv2 := [(0, .ref h), (1, .int (nI v)), (2, .int (-4)), (3, .int y), (4, .int (mkI f n (e + 1))), (5, .int (nI (e + 1)))]) (by rw [mkI_f h18]; rfl) ?_
        exact ih_L1 (by omega)
      · refine V.iconst (pc' := 44) C dX7_byRejected_43 rfl kci_1 ?_
        refine V.iload (pc' := 46) C 5 dX7_byRejected_44 rfl rfl ?_
        refine V.ishl (pc' := 47) C dX7_byRejected_46 rfl ?_
        refine V.goto C 51 dX7_byRejected_47 rfl ?_
        refine V.ior (pc' := 52) C dX7_byRejected_51 rfl ?_
        refine V.istore (pc' := 54) C [(4, .int ((mkI f n e) ||| (1 <<< (nI e &&& 31)))), (0, .ref h), (1, .int (nI v)), (2, .int (-4)), (3, .int y), (5, .int (nI e))] dX7_byRejected_52 rfl 13 hnL rfl rfl ?_
        refine V.iinc (pc' := 57) C (nI (e + 1)) [(5, .int (nI (e + 1))), (4, .int ((mkI f n e) ||| (1 <<< (nI e &&& 31)))), (0, .ref h), (1, .int (nI v)), (2, .int (-4)), (3, .int y)] dX7_byRejected_54 rfl 13 hnL rfl 5 rfl (ii_N e 1 rfl) rfl ?_
        refine V.goto C 6 dX7_byRejected_57 rfl ?_
        refine V.lvs [2, 3, 4, 5, 1, 0] (lv2 := [(0, .ref h), (1, .int (nI v)), (2, .int (-4)), (3, .int y), (4, .int (mkI f n (e + 1))), (5, .int (nI (e + 1)))]) (by rw [mkI_t h18]; rfl) ?_
        exact ih_L1 (by omega)
  refine V.lvs [2, 3, 4, 5, 1, 0] (lv2 := [(0, .ref h), (1, .int (nI v)), (2, .int (-4)), (3, .int y), (4, .int (mkI f n 0)), (5, .int (nI 0))]) rfl ?_
  exact L1 0 (by omega)
