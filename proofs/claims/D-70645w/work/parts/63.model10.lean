set_option maxRecDepth 100000
set_option maxHeartbeats 4000000 in
theorem ct_X7_best (l : Launch) (G : GG) (h : Nat) (ad : Nat → Nat) (i : Nat → Int32) (f : Nat → Int32) (N : Nat) (x : Int32) (y : Int32) (hN : i 1 = nI N) (hN5 : N ≤ 5) : Ct l G yX7_best (ws_ yX7_best cX7_best 4 (some .int)) ({ frames := 5, cells := 0, slots := 0, locals := 119 } : Room) [.ref h, .int x, .int y] [mO h ad i, (ad 0, .inl (G.2 0, 402, .inl f))] (fun u : (Nat → Int32) × (Nat → Int32) × Pos => some (.int (if bstOk x y then selB f N u.2.2 y else -1))) (fun u => Qf f u.1 ∧ Qi i u.2.1 ∧ (bstOk x y → IsB f N (rowOk f N (cn x)) u.2.2)) (fun u => [mO h ad u.2.1, (ad 0, .inl (G.2 0, 402, .inl u.1))]) := by
  refine Ct.of rfl rfl ?_
  intro M el eG hnL C T
  subst el
  subst eG
  have C : Cx M cX7_best "ClockWardModel" ({ frames := 5, cells := 0, slots := 0, locals := 119 } : Room) := C
  refine V.lvs [0, 1, 2] (lv2 := [(0, .ref h), (1, .int x), (2, .int y)]) rfl ?_
  refine V.iload_n (pc' := 1) C 1 dX7_best_0 rfl rfl ?_
  refine V.i2l (pc' := 2) C dX7_best_1 rfl ?_
  refine V.lconst (pc' := 3) C dX7_best_2 rfl kcl_0 ?_
  refine V.ldc2 (pc' := 6) C dX7_best_3 rfl q1124 ?_
  refine V.callS (pc' := 9) (wr := [mO h ad i, (ad 0, .inl (M.G.2 0, 402, .inl f))]) C (ct_X7_in M.l M.G x 0 2 ) dX7_best_6 rfl (lw_S q1032 q1033 q71 q1034) hys_X7_in rfl rfl [] [0, 1] [0, 1] rfl rfl rfl (fun _ => [mO h ad i, (ad 0, .inl (M.G.2 0, 402, .inl f))]) (fun _ => rfl) rfl 0 0 rfl rfl (fun _ => [.int (bI (inI x 0 2))]) (fun _ => rfl) (fun _ _ => ?_)
  refine V.if_eqB (pc' := 12) C 38 dX7_best_9 rfl rfl (fun h1 => ?_) (fun h1 => ?_)
  · refine V.iconst (pc' := 39) C dX7_best_38 rfl kci_m1 ?_
    exact V.iret C T dX7_best_39 (f, i, (0, 0, 0)) rfl rfl (if_neg (fun z => h1 z.1)).symm rfl ⟨Qf.rf _, ⟨rfl, rfl, rfl, rfl, rfl⟩, fun z => absurd z (fun z => h1 z.1)⟩ rfl rfl rfl
  · obtain ⟨m, hm, rfl⟩ := in_nat (m := 2) (by decide) h1
    refine V.iload_n (pc' := 13) C 2 dX7_best_12 rfl rfl ?_
    refine V.i2l (pc' := 14) C dX7_best_13 rfl ?_
    refine V.lconst (pc' := 15) C dX7_best_14 rfl kcl_0 ?_
    refine V.ldc2 (pc' := 18) C dX7_best_15 rfl q1124 ?_
    refine V.callS (pc' := 21) (wr := [mO h ad i, (ad 0, .inl (M.G.2 0, 402, .inl f))]) C (ct_X7_in M.l M.G y 0 2 ) dX7_best_18 rfl (lw_S q1032 q1033 q71 q1034) hys_X7_in rfl rfl [] [0, 1] [0, 1] rfl rfl rfl (fun _ => [mO h ad i, (ad 0, .inl (M.G.2 0, 402, .inl f))]) (fun _ => rfl) rfl 0 0 rfl rfl (fun _ => [.int (bI (inI y 0 2))]) (fun _ => rfl) (fun _ _ => ?_)
    refine V.if_neB (pc' := 24) C 40 dX7_best_21 rfl rfl (fun h2 => ?_) (fun h2 => ?_)
    · refine V.aload_n (pc' := 41) C 0 dX7_best_40 rfl rfl ?_
      refine V.iconst (pc' := 42) C dX7_best_41 rfl kci_m1 ?_
      refine V.put (pc' := 45) C [(h, .inr (7, [.ref (ad 0), .int (i 1), .ref (ad 2), .int (i 3), .int (i 4), .int (i 5), .ref (ad 6), .int (i 7), .int (i 8), .int (i 9), .int (i 10), .int (i 11), .int (i 12), .int (i 13), .int (i 14), .ref (ad 15), .ref (ad 16), .int (i 17), .int (i 18), .int (-1), .int (i 20), .int (i 21), .int (i 22), .int (i 23), .ref (ad 24), .int (i 25), .ref (ad 26), .ref (ad 27), .ref (ad 28), .ref (ad 29), .ref (ad 30), .int (i 31)])), (ad 0, .inl (M.G.2 0, 402, .inl f))] dX7_best_42 rfl 0 rfl rfl in_X7 tyX7_ok nmX7 19 rfl q948 rfl rfl rfl rfl rfl ?_
      refine V.aload_n (pc' := 46) C 0 dX7_best_45 rfl rfl ?_
      refine V.iconst (pc' := 47) C dX7_best_46 rfl kci_0 ?_
      refine V.sipush (pc' := 50) C dX7_best_47 rfl kcs_268 ?_
      refine V.callV (pc' := 53) (wr := []) C (ct_X7_copies M.l M.G h ad (upd i 19 (-1)) f 0 268 (by omega) (by omega) (by omega)) dX7_best_50 rfl (lw_V q1197 q1199 qs55 q71 q1200) hyv_X7_copies rfl rfl 0 rfl rfl [0, 1] [] [0, 1] rfl rfl rfl (fun _ => [(h, .inr (7, [.ref (ad 0), .int (i 1), .ref (ad 2), .int (i 3), .int (i 4), .int (i 5), .ref (ad 6), .int (i 7), .int (i 8), .int (i 9), .int (i 10), .int (i 11), .int (i 12), .int (i 13), .int (i 14), .ref (ad 15), .ref (ad 16), .int (i 17), .int (i 18), .int (-1), .int (i 20), .int (i 21), .int (i 22), .int (i 23), .ref (ad 24), .int (i 25), .ref (ad 26), .ref (ad 27), .ref (ad 28), .ref (ad 29), .ref (ad 30), .int (i 31)])), (ad 0, .inl (M.G.2 0, 402, .inl (va_cpy f f 0 268 67)))]) (fun _ => rfl) rfl 0 0 rfl rfl (fun _ => []) (fun _ => rfl) (fun _ _ => ?_)
      obtain ⟨F1, eF1⟩ : ∃ z, z = va_cpy f f 0 268 67 := ⟨_, rfl⟩
      have aF1 := cp_0 (Qf.rf f) (Q := 268) (by omega)
      rw [← eF1] at aF1
      refine V.weq (ws2 := [(h, .inr (7, [.ref (ad 0), .int (i 1), .ref (ad 2), .int (i 3), .int (i 4), .int (i 5), .ref (ad 6), .int (i 7), .int (i 8), .int (i 9), .int (i 10), .int (i 11), .int (i 12), .int (i 13), .int (i 14), .ref (ad 15), .ref (ad 16), .int (i 17), .int (i 18), .int (-1), .int (i 20), .int (i 21), .int (i 22), .int (i 23), .ref (ad 24), .int (i 25), .ref (ad 26), .ref (ad 27), .ref (ad 28), .ref (ad 29), .ref (ad 30), .int (i 31)])), (ad 0, .inl (M.G.2 0, 402, .inl F1))]) (by rw [← eF1]) ?_
      refine V.aload_n (pc' := 54) C 0 dX7_best_53 rfl rfl ?_
      refine V.iconst (pc' := 55) C dX7_best_54 rfl kci_0 ?_
      refine V.bipush (pc' := 57) C dX7_best_55 rfl kcb_m4 ?_
      refine V.bipush (pc' := 59) C dX7_best_57 rfl kcb_m4 ?_
      refine V.callV (pc' := 62) (wr := []) C (ct_X7_compares M.l M.G h ad (upd i 19 (-1)) F1 N 0 (-4) (-4) hN hN5) dX7_best_59 rfl (lw_V q1231 q1233 qs56 q71 q1234) hyv_X7_compares rfl rfl 0 rfl rfl [0, 1] [] [0, 1] rfl rfl rfl (fun _ => [mO h ad (cmpI F1 N (upd i 19 (-1)) 0 (-4) (-4)), (ad 0, .inl (M.G.2 0, 402, .inl F1))]) (fun _ => rfl) rfl 0 0 rfl rfl (fun _ => []) (fun _ => rfl) (fun _ _ => ?_)
      obtain ⟨j0, ej0⟩ : ∃ z, z = (cmpI F1 N (upd i 19 (-1)) 0 (-4) (-4)) := ⟨_, rfl⟩
      have jj0 := first_j (i := i) hN5 aF1.1 aF1.2
      rw [← ej0] at jj0
      refine V.weq (ws2 := [mO h ad j0, (ad 0, .inl (M.G.2 0, 402, .inl F1))]) (by rw [← ej0]) ?_
      refine V.iconst (pc' := 63) C dX7_best_62 rfl kci_1 ?_
      refine V.istore_n (pc' := 64) C [(3, .int 1), (0, .ref h), (1, .int (nI m)), (2, .int y)] dX7_best_63 rfl 4 hnL rfl rfl ?_
      have L3 : ∀ k : Nat, k ≤ m → ∀ (F : Nat → Int32), ∀ (j2 : Nat → Int32), ∀ (s2 : Pos), Qf f F → IsB f N (rowOk f N k) s2 → jOk f N i j2 s2 → V M 0 0 [mO h ad j2, (ad 0, .inl (M.G.2 0, 402, .inl F))] [(0, .ref h), (1, .int (nI m)), (2, .int y), (3, .int (nI (k + 1)))] [] 64 := by
        refine loopN _ m (fun k hk ih_L3 => ?_)
        intro F j2 s2 hF hB hJ
        refine V.iload_n (pc' := 65) C 3 dX7_best_64 rfl rfl ?_
        refine V.iload_n (pc' := 66) C 1 dX7_best_65 rfl rfl ?_
        refine V.icmp_gtN (pc' := 69) C (k + 1) m (by omega) (by omega) 80 dX7_best_66 rfl rfl (fun h4 => ?_) (fun h4 => ?_)
        · have hx5 : m = k := by omega
          subst hx5
          refine V.iload_n (pc' := 81) C 2 dX7_best_80 rfl rfl ?_
          refine V.if_ne (pc' := 84) C 91 dX7_best_81 rfl rfl (fun h6 => ?_) (fun h6 => ?_)
          · refine V.iload_n (pc' := 92) C 2 dX7_best_91 rfl rfl ?_
            refine V.iconst (pc' := 93) C dX7_best_92 rfl kci_1 ?_
            refine V.icmp_ne (pc' := 96) C 103 dX7_best_93 rfl rfl (fun h7 => ?_) (fun h7 => ?_)
            · refine V.iload_n (pc' := 104) C 2 dX7_best_103 rfl rfl ?_
              refine V.iconst (pc' := 105) C dX7_best_104 rfl kci_2 ?_
              refine V.icmp_ne (pc' := 108) C 115 dX7_best_105 rfl rfl (fun h8 => ?_) (fun h8 => ?_)
              · refine V.iload_n (pc' := 116) C 2 dX7_best_115 rfl rfl ?_
                refine V.bipush (pc' := 118) C dX7_best_116 rfl kcb_10 ?_
                refine V.icmp_ne (pc' := 121) C 128 dX7_best_118 rfl rfl (fun h9 => ?_) (fun h9 => ?_)
                · refine V.aload_n (pc' := 129) C 0 dX7_best_128 rfl rfl ?_
                  refine V.get (pc' := 132) C dX7_best_129 rfl 0 rfl rfl in_X7 22 rfl q951 rfl ?_
                  refine V.topI hJ.2.2.2.2.1 ?_
                  exact V.iret C T dX7_best_132 (F, j2, s2) rfl rfl (by rw [if_pos ⟨h1, Or.inl h2⟩]; unfold selB; rw [if_neg h6, if_neg h7, if_neg h8, if_neg h9]) rfl ⟨hF, hJ.1, fun _ => by rw [cn_nI (by omega)]; exact hB⟩ rfl rfl rfl
                · refine V.aload_n (pc' := 122) C 0 dX7_best_121 rfl rfl ?_
                  refine V.get (pc' := 125) C dX7_best_122 rfl 0 rfl rfl in_X7 21 rfl q950 rfl ?_
                  refine V.topI hJ.2.2.2.1 ?_
                  refine V.goto C 132 dX7_best_125 rfl ?_
                  exact V.iret C T dX7_best_132 (F, j2, s2) rfl rfl (by rw [if_pos ⟨h1, Or.inl h2⟩]; unfold selB; rw [if_neg h6, if_neg h7, if_neg h8, if_pos h9]) rfl ⟨hF, hJ.1, fun _ => by rw [cn_nI (by omega)]; exact hB⟩ rfl rfl rfl
              · refine V.aload_n (pc' := 109) C 0 dX7_best_108 rfl rfl ?_
                refine V.get (pc' := 112) C dX7_best_109 rfl 0 rfl rfl in_X7 20 rfl q949 rfl ?_
                refine V.topI hJ.2.2.1 ?_
                refine V.goto C 132 dX7_best_112 rfl ?_
                exact V.iret C T dX7_best_132 (F, j2, s2) rfl rfl (by rw [if_pos ⟨h1, Or.inl h2⟩]; unfold selB; rw [if_neg h6, if_neg h7, if_pos h8]) rfl ⟨hF, hJ.1, fun _ => by rw [cn_nI (by omega)]; exact hB⟩ rfl rfl rfl
            · refine V.aload_n (pc' := 97) C 0 dX7_best_96 rfl rfl ?_
              refine V.get (pc' := 100) C dX7_best_97 rfl 0 rfl rfl in_X7 23 rfl q952 rfl ?_
              refine V.topI hJ.2.2.2.2.2 ?_
              refine V.goto C 132 dX7_best_100 rfl ?_
              exact V.iret C T dX7_best_132 (F, j2, s2) rfl rfl (by rw [if_pos ⟨h1, Or.inl h2⟩]; unfold selB; rw [if_neg h6, if_pos h7]) rfl ⟨hF, hJ.1, fun _ => by rw [cn_nI (by omega)]; exact hB⟩ rfl rfl rfl
          · refine V.aload_n (pc' := 85) C 0 dX7_best_84 rfl rfl ?_
            refine V.get (pc' := 88) C dX7_best_85 rfl 0 rfl rfl in_X7 19 rfl q948 rfl ?_
            refine V.topI hJ.2.1 ?_
            refine V.goto C 132 dX7_best_88 rfl ?_
            exact V.iret C T dX7_best_132 (F, j2, s2) rfl rfl (by rw [if_pos ⟨h1, Or.inl h2⟩]; unfold selB; rw [if_pos h6]) rfl ⟨hF, hJ.1, fun _ => by rw [cn_nI (by omega)]; exact hB⟩ rfl rfl rfl
        · refine V.aload_n (pc' := 70) C 0 dX7_best_69 rfl rfl ?_
          refine V.iload_n (pc' := 71) C 3 dX7_best_70 rfl rfl ?_
          refine V.callV (pc' := 74) (wr := []) C (ct_X7_rowsOf M.l M.G h ad j2 F N (k + 1) f s2 i hN hN5 (by omega) hF hB hJ) dX7_best_71 rfl (lw_V q1235 q1237 qs57 q71 q1238) hyv_X7_rowsOf rfl rfl 0 rfl rfl [0, 1] [] [0, 1] rfl rfl rfl (fun u10 => [mO h ad u10.2.1, (ad 0, .inl (M.G.2 0, 402, .inl u10.1))]) (fun _ => rfl) rfl 0 0 rfl rfl (fun u10 => []) (fun _ => rfl) (fun u10 hu10 => ?_)
          refine V.iinc (pc' := 77) C (nI (k + 1 + 1)) [(3, .int (nI (k + 1 + 1))), (0, .ref h), (1, .int (nI m)), (2, .int y)] dX7_best_74 rfl 4 hnL rfl 3 rfl (ii_N (k + 1) 1 rfl) rfl ?_
          refine V.goto C 64 dX7_best_77 rfl ?_
          refine V.lvs [1, 2, 3, 0] (lv2 := [(0, .ref h), (1, .int (nI m)), (2, .int y), (3, .int (nI ((k + 1) + 1)))]) rfl ?_
          exact ih_L3 (by omega) u10.1 u10.2.1 u10.2.2 hu10.1 hu10.2.1 hu10.2.2
      refine V.lvs [1, 2, 3, 0] (lv2 := [(0, .ref h), (1, .int (nI m)), (2, .int y), (3, .int (nI (0 + 1)))]) rfl ?_
      exact L3 0 (by omega) F1 j0 (0, 0, 0) aF1.1 (first_B f N) jj0
    · refine V.iload_n (pc' := 25) C 2 dX7_best_24 rfl rfl ?_
      refine V.i2l (pc' := 26) C dX7_best_25 rfl ?_
      refine V.ldc2 (pc' := 29) C dX7_best_26 rfl q1229 ?_
      refine V.ldc2 (pc' := 32) C dX7_best_29 rfl q1230 ?_
      refine V.callS (pc' := 35) (wr := [mO h ad i, (ad 0, .inl (M.G.2 0, 402, .inl f))]) C (ct_X7_in M.l M.G y 10 11 ) dX7_best_32 rfl (lw_S q1032 q1033 q71 q1034) hys_X7_in rfl rfl [] [0, 1] [0, 1] rfl rfl rfl (fun _ => [mO h ad i, (ad 0, .inl (M.G.2 0, 402, .inl f))]) (fun _ => rfl) rfl 0 0 rfl rfl (fun _ => [.int (bI (inI y 10 11))]) (fun _ => rfl) (fun _ _ => ?_)
      refine V.if_neB (pc' := 38) C 40 dX7_best_35 rfl rfl (fun h11 => ?_) (fun h11 => ?_)
      · refine V.aload_n (pc' := 41) C 0 dX7_best_40 rfl rfl ?_
        refine V.iconst (pc' := 42) C dX7_best_41 rfl kci_m1 ?_
        refine V.put (pc' := 45) C [(h, .inr (7, [.ref (ad 0), .int (i 1), .ref (ad 2), .int (i 3), .int (i 4), .int (i 5), .ref (ad 6), .int (i 7), .int (i 8), .int (i 9), .int (i 10), .int (i 11), .int (i 12), .int (i 13), .int (i 14), .ref (ad 15), .ref (ad 16), .int (i 17), .int (i 18), .int (-1), .int (i 20), .int (i 21), .int (i 22), .int (i 23), .ref (ad 24), .int (i 25), .ref (ad 26), .ref (ad 27), .ref (ad 28), .ref (ad 29), .ref (ad 30), .int (i 31)])), (ad 0, .inl (M.G.2 0, 402, .inl f))] dX7_best_42 rfl 0 rfl rfl in_X7 tyX7_ok nmX7 19 rfl q948 rfl rfl rfl rfl rfl ?_
        refine V.aload_n (pc' := 46) C 0 dX7_best_45 rfl rfl ?_
        refine V.iconst (pc' := 47) C dX7_best_46 rfl kci_0 ?_
        refine V.sipush (pc' := 50) C dX7_best_47 rfl kcs_268 ?_
        refine V.callV (pc' := 53) (wr := []) C (ct_X7_copies M.l M.G h ad (upd i 19 (-1)) f 0 268 (by omega) (by omega) (by omega)) dX7_best_50 rfl (lw_V q1197 q1199 qs55 q71 q1200) hyv_X7_copies rfl rfl 0 rfl rfl [0, 1] [] [0, 1] rfl rfl rfl (fun _ => [(h, .inr (7, [.ref (ad 0), .int (i 1), .ref (ad 2), .int (i 3), .int (i 4), .int (i 5), .ref (ad 6), .int (i 7), .int (i 8), .int (i 9), .int (i 10), .int (i 11), .int (i 12), .int (i 13), .int (i 14), .ref (ad 15), .ref (ad 16), .int (i 17), .int (i 18), .int (-1), .int (i 20), .int (i 21), .int (i 22), .int (i 23), .ref (ad 24), .int (i 25), .ref (ad 26), .ref (ad 27), .ref (ad 28), .ref (ad 29), .ref (ad 30), .int (i 31)])), (ad 0, .inl (M.G.2 0, 402, .inl (va_cpy f f 0 268 67)))]) (fun _ => rfl) rfl 0 0 rfl rfl (fun _ => []) (fun _ => rfl) (fun _ _ => ?_)
        obtain ⟨F1, eF1⟩ : ∃ z, z = va_cpy f f 0 268 67 := ⟨_, rfl⟩
        have aF1 := cp_0 (Qf.rf f) (Q := 268) (by omega)
        rw [← eF1] at aF1
        refine V.weq (ws2 := [(h, .inr (7, [.ref (ad 0), .int (i 1), .ref (ad 2), .int (i 3), .int (i 4), .int (i 5), .ref (ad 6), .int (i 7), .int (i 8), .int (i 9), .int (i 10), .int (i 11), .int (i 12), .int (i 13), .int (i 14), .ref (ad 15), .ref (ad 16), .int (i 17), .int (i 18), .int (-1), .int (i 20), .int (i 21), .int (i 22), .int (i 23), .ref (ad 24), .int (i 25), .ref (ad 26), .ref (ad 27), .ref (ad 28), .ref (ad 29), .ref (ad 30), .int (i 31)])), (ad 0, .inl (M.G.2 0, 402, .inl F1))]) (by rw [← eF1]) ?_
        refine V.aload_n (pc' := 54) C 0 dX7_best_53 rfl rfl ?_
        refine V.iconst (pc' := 55) C dX7_best_54 rfl kci_0 ?_
        refine V.bipush (pc' := 57) C dX7_best_55 rfl kcb_m4 ?_
        refine V.bipush (pc' := 59) C dX7_best_57 rfl kcb_m4 ?_
        refine V.callV (pc' := 62) (wr := []) C (ct_X7_compares M.l M.G h ad (upd i 19 (-1)) F1 N 0 (-4) (-4) hN hN5) dX7_best_59 rfl (lw_V q1231 q1233 qs56 q71 q1234) hyv_X7_compares rfl rfl 0 rfl rfl [0, 1] [] [0, 1] rfl rfl rfl (fun _ => [mO h ad (cmpI F1 N (upd i 19 (-1)) 0 (-4) (-4)), (ad 0, .inl (M.G.2 0, 402, .inl F1))]) (fun _ => rfl) rfl 0 0 rfl rfl (fun _ => []) (fun _ => rfl) (fun _ _ => ?_)
        obtain ⟨j0, ej0⟩ : ∃ z, z = (cmpI F1 N (upd i 19 (-1)) 0 (-4) (-4)) := ⟨_, rfl⟩
        have jj0 := first_j (i := i) hN5 aF1.1 aF1.2
        rw [← ej0] at jj0
        refine V.weq (ws2 := [mO h ad j0, (ad 0, .inl (M.G.2 0, 402, .inl F1))]) (by rw [← ej0]) ?_
        refine V.iconst (pc' := 63) C dX7_best_62 rfl kci_1 ?_
        refine V.istore_n (pc' := 64) C [(3, .int 1), (0, .ref h), (1, .int (nI m)), (2, .int y)] dX7_best_63 rfl 4 hnL rfl rfl ?_
        have L12 : ∀ k : Nat, k ≤ m → ∀ (F : Nat → Int32), ∀ (j2 : Nat → Int32), ∀ (s2 : Pos), Qf f F → IsB f N (rowOk f N k) s2 → jOk f N i j2 s2 → V M 0 0 [mO h ad j2, (ad 0, .inl (M.G.2 0, 402, .inl F))] [(0, .ref h), (1, .int (nI m)), (2, .int y), (3, .int (nI (k + 1)))] [] 64 := by
          refine loopN _ m (fun k hk ih_L12 => ?_)
          intro F j2 s2 hF hB hJ
          refine V.iload_n (pc' := 65) C 3 dX7_best_64 rfl rfl ?_
          refine V.iload_n (pc' := 66) C 1 dX7_best_65 rfl rfl ?_
          refine V.icmp_gtN (pc' := 69) C (k + 1) m (by omega) (by omega) 80 dX7_best_66 rfl rfl (fun h13 => ?_) (fun h13 => ?_)
          · have hx14 : m = k := by omega
            subst hx14
            refine V.iload_n (pc' := 81) C 2 dX7_best_80 rfl rfl ?_
            refine V.if_ne (pc' := 84) C 91 dX7_best_81 rfl rfl (fun h15 => ?_) (fun h15 => ?_)
            · refine V.iload_n (pc' := 92) C 2 dX7_best_91 rfl rfl ?_
              refine V.iconst (pc' := 93) C dX7_best_92 rfl kci_1 ?_
              refine V.icmp_ne (pc' := 96) C 103 dX7_best_93 rfl rfl (fun h16 => ?_) (fun h16 => ?_)
              · refine V.iload_n (pc' := 104) C 2 dX7_best_103 rfl rfl ?_
                refine V.iconst (pc' := 105) C dX7_best_104 rfl kci_2 ?_
                refine V.icmp_ne (pc' := 108) C 115 dX7_best_105 rfl rfl (fun h17 => ?_) (fun h17 => ?_)
                · refine V.iload_n (pc' := 116) C 2 dX7_best_115 rfl rfl ?_
                  refine V.bipush (pc' := 118) C dX7_best_116 rfl kcb_10 ?_
                  refine V.icmp_ne (pc' := 121) C 128 dX7_best_118 rfl rfl (fun h18 => ?_) (fun h18 => ?_)
                  · refine V.aload_n (pc' := 129) C 0 dX7_best_128 rfl rfl ?_
                    refine V.get (pc' := 132) C dX7_best_129 rfl 0 rfl rfl in_X7 22 rfl q951 rfl ?_
                    refine V.topI hJ.2.2.2.2.1 ?_
                    exact V.iret C T dX7_best_132 (F, j2, s2) rfl rfl (by rw [if_pos ⟨h1, Or.inr h11⟩]; unfold selB; rw [if_neg h15, if_neg h16, if_neg h17, if_neg h18]) rfl ⟨hF, hJ.1, fun _ => by rw [cn_nI (by omega)]; exact hB⟩ rfl rfl rfl
                  · refine V.aload_n (pc' := 122) C 0 dX7_best_121 rfl rfl ?_
                    refine V.get (pc' := 125) C dX7_best_122 rfl 0 rfl rfl in_X7 21 rfl q950 rfl ?_
                    refine V.topI hJ.2.2.2.1 ?_
                    refine V.goto C 132 dX7_best_125 rfl ?_
                    exact V.iret C T dX7_best_132 (F, j2, s2) rfl rfl (by rw [if_pos ⟨h1, Or.inr h11⟩]; unfold selB; rw [if_neg h15, if_neg h16, if_neg h17, if_pos h18]) rfl ⟨hF, hJ.1, fun _ => by rw [cn_nI (by omega)]; exact hB⟩ rfl rfl rfl
                · refine V.aload_n (pc' := 109) C 0 dX7_best_108 rfl rfl ?_
                  refine V.get (pc' := 112) C dX7_best_109 rfl 0 rfl rfl in_X7 20 rfl q949 rfl ?_
                  refine V.topI hJ.2.2.1 ?_
                  refine V.goto C 132 dX7_best_112 rfl ?_
                  exact V.iret C T dX7_best_132 (F, j2, s2) rfl rfl (by rw [if_pos ⟨h1, Or.inr h11⟩]; unfold selB; rw [if_neg h15, if_neg h16, if_pos h17]) rfl ⟨hF, hJ.1, fun _ => by rw [cn_nI (by omega)]; exact hB⟩ rfl rfl rfl
              · refine V.aload_n (pc' := 97) C 0 dX7_best_96 rfl rfl ?_
                refine V.get (pc' := 100) C dX7_best_97 rfl 0 rfl rfl in_X7 23 rfl q952 rfl ?_
                refine V.topI hJ.2.2.2.2.2 ?_
                refine V.goto C 132 dX7_best_100 rfl ?_
                exact V.iret C T dX7_best_132 (F, j2, s2) rfl rfl (by rw [if_pos ⟨h1, Or.inr h11⟩]; unfold selB; rw [if_neg h15, if_pos h16]) rfl ⟨hF, hJ.1, fun _ => by rw [cn_nI (by omega)]; exact hB⟩ rfl rfl rfl
            · refine V.aload_n (pc' := 85) C 0 dX7_best_84 rfl rfl ?_
              refine V.get (pc' := 88) C dX7_best_85 rfl 0 rfl rfl in_X7 19 rfl q948 rfl ?_
              refine V.topI hJ.2.1 ?_
              refine V.goto C 132 dX7_best_88 rfl ?_
              exact V.iret C T dX7_best_132 (F, j2, s2) rfl rfl (by rw [if_pos ⟨h1, Or.inr h11⟩]; unfold selB; rw [if_pos h15]) rfl ⟨hF, hJ.1, fun _ => by rw [cn_nI (by omega)]; exact hB⟩ rfl rfl rfl
          · refine V.aload_n (pc' := 70) C 0 dX7_best_69 rfl rfl ?_
            refine V.iload_n (pc' := 71) C 3 dX7_best_70 rfl rfl ?_
            refine V.callV (pc' := 74) (wr := []) C (ct_X7_rowsOf M.l M.G h ad j2 F N (k + 1) f s2 i hN hN5 (by omega) hF hB hJ) dX7_best_71 rfl (lw_V q1235 q1237 qs57 q71 q1238) hyv_X7_rowsOf rfl rfl 0 rfl rfl [0, 1] [] [0, 1] rfl rfl rfl (fun u19 => [mO h ad u19.2.1, (ad 0, .inl (M.G.2 0, 402, .inl u19.1))]) (fun _ => rfl) rfl 0 0 rfl rfl (fun u19 => []) (fun _ => rfl) (fun u19 hu19 => ?_)
            refine V.iinc (pc' := 77) C (nI (k + 1 + 1)) [(3, .int (nI (k + 1 + 1))), (0, .ref h), (1, .int (nI m)), (2, .int y)] dX7_best_74 rfl 4 hnL rfl 3 rfl (ii_N (k + 1) 1 rfl) rfl ?_
            refine V.goto C 64 dX7_best_77 rfl ?_
            refine V.lvs [1, 2, 3, 0] (lv2 := [(0, .ref h), (1, .int (nI m)), (2, .int y), (3, .int (nI ((k + 1) + 1)))]) rfl ?_
            exact ih_L12 (by omega) u19.1 u19.2.1 u19.2.2 hu19.1 hu19.2.1 hu19.2.2
        refine V.lvs [1, 2, 3, 0] (lv2 := [(0, .ref h), (1, .int (nI m)), (2, .int y), (3, .int (nI (0 + 1)))]) rfl ?_
        exact L12 0 (by omega) F1 j0 (0, 0, 0) aF1.1 (first_B f N) jj0
      · refine V.iconst (pc' := 39) C dX7_best_38 rfl kci_m1 ?_
        exact V.iret C T dX7_best_39 (f, i, (0, 0, 0)) rfl rfl (if_neg (fun z => z.2.elim h2 h11)).symm rfl ⟨Qf.rf _, ⟨rfl, rfl, rfl, rfl, rfl⟩, fun z => absurd z (fun z => z.2.elim h2 h11)⟩ rfl rfl rfl
