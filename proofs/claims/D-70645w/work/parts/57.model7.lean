set_option maxRecDepth 100000
set_option maxHeartbeats 4000000 in
theorem ct_X7_read (l : Launch) (G : GG) (h : Nat) (ad : Nat → Nat) (i : Nat → Int32) (f : Nat → Int32) (la : Nat → Int32) (ln : Nat → Int32) (ce : Nat → Int32) (N : Nat) (x : Int32) (y : Int32) (p : Int32) (n : Int32) (hN : i 1 = nI N) (hN5 : N ≤ 5) (hL : okLn ln) : Ct l G yX7_read (ws_ yX7_read cX7_read 9 (some .int)) ({ frames := 4, cells := 0, slots := 0, locals := 93 } : Room) [.ref h, .int x, .int y, .int p, .int n] [mO h ad i, (ad 0, .inl (G.2 0, 402, .inl f)), (ad 28, .inl (G.2 0, 4, .inl la)), (ad 29, .inl (G.2 0, 4, .inl ln)), (ad 30, .inl (G.2 0, 160, .inl ce))] (fun u : Nat → Int32 => some (.int (a_read ce la ln f N x y p n))) (fun u => Qf (g_read ce la ln f N x y p n) u) (fun u => [mO h ad (upd i 31 (n_read ce la ln f N x y p n (i 31))), (ad 0, .inl (G.2 0, 402, .inl u)), (ad 28, .inl (G.2 0, 4, .inl la)), (ad 29, .inl (G.2 0, 4, .inl ln)), (ad 30, .inl (G.2 0, 160, .inl ce))]) := by
  refine Ct.of rfl rfl ?_
  intro M el eG hnL C T
  subst el
  subst eG
  have C : Cx M cX7_read "ClockWardModel" ({ frames := 4, cells := 0, slots := 0, locals := 93 } : Room) := C
  refine V.lvs [0, 1, 2, 3, 4] (lv2 := [(0, .ref h), (1, .int x), (2, .int y), (3, .int p), (4, .int n)]) rfl ?_
  refine V.iload_n (pc' := 1) C 1 dX7_read_0 rfl rfl ?_
  refine V.i2l (pc' := 2) C dX7_read_1 rfl ?_
  refine V.lconst (pc' := 3) C dX7_read_2 rfl kcl_0 ?_
  refine V.ldc2 (pc' := 6) C dX7_read_3 rfl q1129 ?_
  refine V.callS (pc' := 9) (wr := [mO h ad i, (ad 0, .inl (M.G.2 0, 402, .inl f)), (ad 28, .inl (M.G.2 0, 4, .inl la)), (ad 29, .inl (M.G.2 0, 4, .inl ln)), (ad 30, .inl (M.G.2 0, 160, .inl ce))]) C (ct_X7_in M.l M.G x 0 3 ) dX7_read_6 rfl (lw_S q1032 q1033 q71 q1034) hys_X7_in rfl rfl [] [0, 1, 2, 3, 4] [0, 1, 2, 3, 4] rfl rfl rfl (fun _ => [mO h ad i, (ad 0, .inl (M.G.2 0, 402, .inl f)), (ad 28, .inl (M.G.2 0, 4, .inl la)), (ad 29, .inl (M.G.2 0, 4, .inl ln)), (ad 30, .inl (M.G.2 0, 160, .inl ce))]) (fun _ => rfl) rfl 0 0 rfl rfl (fun _ => [.int (bI (inI x 0 3))]) (fun _ => rfl) (fun _ _ => ?_)
  refine V.if_eqB (pc' := 12) C 37 dX7_read_9 rfl rfl (fun h1 => ?_) (fun h1 => ?_)
  · refine V.iconst (pc' := 38) C dX7_read_37 rfl kci_m1 ?_
    exact V.iret C T dX7_read_38 f rfl rfl (by unfold a_read; rw [if_neg (fun z => h1 z.1)]) rfl (by unfold g_read; rw [if_neg (fun z => h1 z.1)]; exact Qf.rf _) (by unfold n_read; rw [if_neg (fun z => h1 z.1)]; rfl) rfl rfl
  · obtain ⟨k, hk, rfl⟩ := in_nat (m := 3) (by decide) h1
    refine V.iload_n (pc' := 13) C 2 dX7_read_12 rfl rfl ?_
    refine V.i2l (pc' := 14) C dX7_read_13 rfl ?_
    refine V.lconst (pc' := 15) C dX7_read_14 rfl kcl_0 ?_
    refine V.ldc2 (pc' := 18) C dX7_read_15 rfl q1124 ?_
    refine V.callS (pc' := 21) (wr := [mO h ad i, (ad 0, .inl (M.G.2 0, 402, .inl f)), (ad 28, .inl (M.G.2 0, 4, .inl la)), (ad 29, .inl (M.G.2 0, 4, .inl ln)), (ad 30, .inl (M.G.2 0, 160, .inl ce))]) C (ct_X7_in M.l M.G y 0 2 ) dX7_read_18 rfl (lw_S q1032 q1033 q71 q1034) hys_X7_in rfl rfl [] [0, 1, 2, 3, 4] [0, 1, 2, 3, 4] rfl rfl rfl (fun _ => [mO h ad i, (ad 0, .inl (M.G.2 0, 402, .inl f)), (ad 28, .inl (M.G.2 0, 4, .inl la)), (ad 29, .inl (M.G.2 0, 4, .inl ln)), (ad 30, .inl (M.G.2 0, 160, .inl ce))]) (fun _ => rfl) rfl 0 0 rfl rfl (fun _ => [.int (bI (inI y 0 2))]) (fun _ => rfl) (fun _ _ => ?_)
    refine V.if_eqB (pc' := 24) C 37 dX7_read_21 rfl rfl (fun h2 => ?_) (fun h2 => ?_)
    · refine V.iconst (pc' := 38) C dX7_read_37 rfl kci_m1 ?_
      exact V.iret C T dX7_read_38 f rfl rfl (by unfold a_read; rw [if_neg (fun z => h2 z.2.1)]) rfl (by unfold g_read; rw [if_neg (fun z => h2 z.2.1)]; exact Qf.rf _) (by unfold n_read; rw [if_neg (fun z => h2 z.2.1)]; rfl) rfl rfl
    · refine V.iload (pc' := 26) C 4 dX7_read_24 rfl rfl ?_
      refine V.i2l (pc' := 27) C dX7_read_26 rfl ?_
      refine V.lconst (pc' := 28) C dX7_read_27 rfl kcl_0 ?_
      refine V.ldc2 (pc' := 31) C dX7_read_28 rfl q1326 ?_
      refine V.callS (pc' := 34) (wr := [mO h ad i, (ad 0, .inl (M.G.2 0, 402, .inl f)), (ad 28, .inl (M.G.2 0, 4, .inl la)), (ad 29, .inl (M.G.2 0, 4, .inl ln)), (ad 30, .inl (M.G.2 0, 160, .inl ce))]) C (ct_X7_in M.l M.G n 0 13 ) dX7_read_31 rfl (lw_S q1032 q1033 q71 q1034) hys_X7_in rfl rfl [] [0, 1, 2, 3, 4] [0, 1, 2, 3, 4] rfl rfl rfl (fun _ => [mO h ad i, (ad 0, .inl (M.G.2 0, 402, .inl f)), (ad 28, .inl (M.G.2 0, 4, .inl la)), (ad 29, .inl (M.G.2 0, 4, .inl ln)), (ad 30, .inl (M.G.2 0, 160, .inl ce))]) (fun _ => rfl) rfl 0 0 rfl rfl (fun _ => [.int (bI (inI n 0 13))]) (fun _ => rfl) (fun _ _ => ?_)
      refine V.if_neB (pc' := 37) C 39 dX7_read_34 rfl rfl (fun h3 => ?_) (fun h3 => ?_)
      · obtain ⟨m, hm, rfl⟩ := in_nat (m := 13) (by decide) h3
        have hg : okRd (nI k) y (nI m) := ⟨h1, h2, h3⟩
        refine V.aload_n (pc' := 40) C 0 dX7_read_39 rfl rfl ?_
        refine V.iconst (pc' := 41) C dX7_read_40 rfl kci_0 ?_
        refine V.sipush (pc' := 44) C dX7_read_41 rfl kcs_201 ?_
        refine V.callV (pc' := 47) (wr := [(ad 28, .inl (M.G.2 0, 4, .inl la)), (ad 29, .inl (M.G.2 0, 4, .inl ln)), (ad 30, .inl (M.G.2 0, 160, .inl ce))]) C (ct_X7_copies M.l M.G h ad i f 0 201 (by omega) (by omega) (by omega)) dX7_read_44 rfl (lw_V q1197 q1199 qs55 q71 q1200) hyv_X7_copies rfl rfl 0 rfl rfl [0, 1] [2, 3, 4] [3, 4, 0, 1, 2] rfl rfl rfl (fun _ => [mO h ad i, (ad 0, .inl (M.G.2 0, 402, .inl (va_cpy f f 0 201 67))), (ad 28, .inl (M.G.2 0, 4, .inl la)), (ad 29, .inl (M.G.2 0, 4, .inl ln)), (ad 30, .inl (M.G.2 0, 160, .inl ce))]) (fun _ => rfl) rfl 0 0 rfl rfl (fun _ => []) (fun _ => rfl) (fun _ _ => ?_)
        obtain ⟨F, hF⟩ : ∃ F, F = (pp f 201 (cpP f 0 201)) := ⟨_, rfl⟩
        refine V.weq (ws2 := [mO h ad i, (ad 0, .inl (M.G.2 0, 402, .inl F)), (ad 28, .inl (M.G.2 0, 4, .inl la)), (ad 29, .inl (M.G.2 0, 4, .inl ln)), (ad 30, .inl (M.G.2 0, 160, .inl ce))]) (by rw [cpy_pp, ← hF]) ?_
        refine V.iconst (pc' := 48) C dX7_read_47 rfl kci_0 ?_
        refine V.istore (pc' := 50) C [(5, .int 0), (0, .ref h), (1, .int (nI k)), (2, .int y), (3, .int p), (4, .int (nI m))] dX7_read_48 rfl 9 hnL rfl rfl ?_
        refine V.iconst (pc' := 51) C dX7_read_50 rfl kci_0 ?_
        refine V.istore (pc' := 53) C [(6, .int 0), (5, .int 0), (0, .ref h), (1, .int (nI k)), (2, .int y), (3, .int p), (4, .int (nI m))] dX7_read_51 rfl 9 hnL rfl rfl ?_
        refine V.iconst (pc' := 54) C dX7_read_53 rfl kci_0 ?_
        refine V.istore (pc' := 56) C [(7, .int 0), (6, .int 0), (5, .int 0), (0, .ref h), (1, .int (nI k)), (2, .int y), (3, .int p), (4, .int (nI m))] dX7_read_54 rfl 9 hnL rfl rfl ?_
        have L4 : ∀ j : Nat, j ≤ 3 * m → ¬ (rdT ce la ln N k y p F j).1 = 4 → V M 0 0 [mO h ad i, (ad 0, .inl (M.G.2 0, 402, .inl ((rdT ce la ln N k y p F j).2.2))), (ad 28, .inl (M.G.2 0, 4, .inl la)), (ad 29, .inl (M.G.2 0, 4, .inl ln)), (ad 30, .inl (M.G.2 0, 160, .inl ce))] [(0, .ref h), (1, .int (nI k)), (2, .int y), (3, .int p), (4, .int (nI m)), (5, .int ((rdT ce la ln N k y p F j).1)), (6, .int (nI ((rdT ce la ln N k y p F j).2.1))), (7, .int (nI j))] [] 56 := by
          refine loopN _ (3 * m) (fun j hj ih_L4 => ?_)
          intro  h4
          refine V.iload (pc' := 58) C 7 dX7_read_56 rfl rfl ?_
          refine V.iconst (pc' := 59) C dX7_read_58 rfl kci_3 ?_
          refine V.iload (pc' := 61) C 4 dX7_read_59 rfl rfl ?_
          refine V.imulN (pc' := 62) C 3 m dX7_read_61 rfl ?_
          refine V.icmp_geN (pc' := 65) C j (3 * m) (by omega) (by omega) 207 dX7_read_62 rfl rfl (fun h5 => ?_) (fun h5 => ?_)
          · have hx6 : 3 * m = j := by omega
            subst hx6
            have h4x := h4
            refine V.aload_n (pc' := 208) C 0 dX7_read_207 rfl rfl ?_
            refine V.iload (pc' := 210) C 5 dX7_read_208 rfl rfl ?_
            refine V.put (pc' := 213) C [(h, .inr (7, [.ref (ad 0), .int (i 1), .ref (ad 2), .int (i 3), .int (i 4), .int (i 5), .ref (ad 6), .int (i 7), .int (i 8), .int (i 9), .int (i 10), .int (i 11), .int (i 12), .int (i 13), .int (i 14), .ref (ad 15), .ref (ad 16), .int (i 17), .int (i 18), .int (i 19), .int (i 20), .int (i 21), .int (i 22), .int (i 23), .ref (ad 24), .int (i 25), .ref (ad 26), .ref (ad 27), .ref (ad 28), .ref (ad 29), .ref (ad 30), .int ((rdT ce la ln N k y p F (3 * m)).1)])), (ad 0, .inl (M.G.2 0, 402, .inl ((rdT ce la ln N k y p F (3 * m)).2.2))), (ad 28, .inl (M.G.2 0, 4, .inl la)), (ad 29, .inl (M.G.2 0, 4, .inl ln)), (ad 30, .inl (M.G.2 0, 160, .inl ce))] dX7_read_210 rfl 0 rfl rfl in_X7 tyX7_ok nmX7 31 rfl q960 rfl rfl rfl rfl rfl ?_
            refine V.iload (pc' := 215) C 6 dX7_read_213 rfl rfl ?_
            have hgd := rd_good hN5 (by omega) (by omega) hF hg h4x
            exact V.iret C T dX7_read_215 ((rdT ce la ln N k y p F (3 * m)).2.2) rfl rfl hgd.1 rfl hgd.2.1 (by rw [hgd.2.2]; rfl) rfl rfl
          · refine V.iload (pc' := 67) C 5 dX7_read_65 rfl rfl ?_
            refine V.if_ne (pc' := 70) C 207 dX7_read_67 rfl rfl (fun h7 => ?_) (fun h7 => ?_)
            · have hse := rdT_se h7 (m := 3 * m) (by omega)
              have h4x : ¬ (rdT ce la ln N k y p F (3 * m)).1 = 4 := by rw [hse]; exact h4
              refine V.lvs [0, 1, 2, 3, 4, 5, 6, 7] (lv2 := [(0, .ref h), (1, .int (nI k)), (2, .int y), (3, .int p), (4, .int (nI m)), (5, .int ((rdT ce la ln N k y p F (3 * m)).1)), (6, .int (nI ((rdT ce la ln N k y p F (3 * m)).2.1))), (7, .int (nI j))]) (by rw [hse]; rfl) ?_
              refine V.weq (ws2 := [mO h ad i, (ad 0, .inl (M.G.2 0, 402, .inl ((rdT ce la ln N k y p F (3 * m)).2.2))), (ad 28, .inl (M.G.2 0, 4, .inl la)), (ad 29, .inl (M.G.2 0, 4, .inl ln)), (ad 30, .inl (M.G.2 0, 160, .inl ce))]) (by rw [hse]) ?_
              refine V.aload_n (pc' := 208) C 0 dX7_read_207 rfl rfl ?_
              refine V.iload (pc' := 210) C 5 dX7_read_208 rfl rfl ?_
              refine V.put (pc' := 213) C [(h, .inr (7, [.ref (ad 0), .int (i 1), .ref (ad 2), .int (i 3), .int (i 4), .int (i 5), .ref (ad 6), .int (i 7), .int (i 8), .int (i 9), .int (i 10), .int (i 11), .int (i 12), .int (i 13), .int (i 14), .ref (ad 15), .ref (ad 16), .int (i 17), .int (i 18), .int (i 19), .int (i 20), .int (i 21), .int (i 22), .int (i 23), .ref (ad 24), .int (i 25), .ref (ad 26), .ref (ad 27), .ref (ad 28), .ref (ad 29), .ref (ad 30), .int ((rdT ce la ln N k y p F (3 * m)).1)])), (ad 0, .inl (M.G.2 0, 402, .inl ((rdT ce la ln N k y p F (3 * m)).2.2))), (ad 28, .inl (M.G.2 0, 4, .inl la)), (ad 29, .inl (M.G.2 0, 4, .inl ln)), (ad 30, .inl (M.G.2 0, 160, .inl ce))] dX7_read_210 rfl 0 rfl rfl in_X7 tyX7_ok nmX7 31 rfl q960 rfl rfl rfl rfl rfl ?_
              refine V.iload (pc' := 215) C 6 dX7_read_213 rfl rfl ?_
              have hgd := rd_good hN5 (by omega) (by omega) hF hg h4x
              exact V.iret C T dX7_read_215 ((rdT ce la ln N k y p F (3 * m)).2.2) rfl rfl hgd.1 rfl hgd.2.1 (by rw [hgd.2.2]; rfl) rfl rfl
            · refine V.aload_n (pc' := 71) C 0 dX7_read_70 rfl rfl ?_
              refine V.get (pc' := 74) C dX7_read_71 rfl 0 rfl rfl in_X7 28 rfl q957 rfl ?_
              refine V.iload_n (pc' := 75) C 1 dX7_read_74 rfl rfl ?_
              refine V.iald (pc' := 76) C k dX7_read_75 rfl 2 rfl (by omega) rfl ?_
              refine V.bipush (pc' := 78) C dX7_read_76 rfl kcb_m4 ?_
              have J10 : ∀ (x9 : Int32), x9 = (if (la k) = (-4) then 1 else if (la k) = y then if 0 ≤ (p.toInt64 + ((nI j).toInt64)) ∧ (p.toInt64 + ((nI j).toInt64)) ≤ (((ln k) - 1).toInt64) then 0 else 2 else 3) → V M 0 0 [mO h ad i, (ad 0, .inl (M.G.2 0, 402, .inl ((rdT ce la ln N k y p F j).2.2))), (ad 28, .inl (M.G.2 0, 4, .inl la)), (ad 29, .inl (M.G.2 0, 4, .inl ln)), (ad 30, .inl (M.G.2 0, 160, .inl ce))] [(0, .ref h), (1, .int (nI k)), (2, .int y), (3, .int p), (4, .int (nI m)), (5, .int ((rdT ce la ln N k y p F j).1)), (6, .int (nI ((rdT ce la ln N k y p F j).2.1))), (7, .int (nI j))] [.int x9] 126 := by
                intro x9 ex9
                subst ex9
                refine V.topI (y := rdB la ln k y p j) rfl ?_
                refine V.istore (pc' := 128) C [(5, .int (rdB la ln k y p j)), (0, .ref h), (1, .int (nI k)), (2, .int y), (3, .int p), (4, .int (nI m)), (6, .int (nI ((rdT ce la ln N k y p F j).2.1))), (7, .int (nI j))] dX7_read_126 rfl 9 hnL rfl rfl ?_
                refine V.iload (pc' := 130) C 0 dX7_read_128 rfl rfl ?_
                refine V.if_ne (pc' := 133) C 201 dX7_read_130 rfl rfl (fun h11 => ?_) (fun h11 => ?_)
                · refine V.iinc (pc' := 204) C (nI (j + 1)) [(7, .int (nI (j + 1))), (5, .int (rdB la ln k y p j)), (0, .ref h), (1, .int (nI k)), (2, .int y), (3, .int p), (4, .int (nI m)), (6, .int (nI ((rdT ce la ln N k y p F j).2.1)))] dX7_read_201 rfl 9 hnL rfl 7 rfl (ii_N j 1 rfl) rfl ?_
                  refine V.goto C 56 dX7_read_204 rfl ?_
                  refine V.lvs [2, 3, 4, 5, 6, 1, 7, 0] (lv2 := [(0, .ref h), (1, .int (nI k)), (2, .int y), (3, .int p), (4, .int (nI m)), (5, .int ((rdT ce la ln N k y p F (j + 1)).1)), (6, .int (nI ((rdT ce la ln N k y p F (j + 1)).2.1))), (7, .int (nI (j + 1)))]) (by rw [rdT_n h7 (fun z => h11 z.1)]; rfl) ?_
                  refine V.weq (ws2 := [mO h ad i, (ad 0, .inl (M.G.2 0, 402, .inl ((rdT ce la ln N k y p F (j + 1)).2.2))), (ad 28, .inl (M.G.2 0, 4, .inl la)), (ad 29, .inl (M.G.2 0, 4, .inl ln)), (ad 30, .inl (M.G.2 0, 160, .inl ce))]) (by rw [rdT_n h7 (fun z => h11 z.1)]) ?_
                  exact ih_L4 (by omega) (by rw [rdT_n h7 (fun z => h11 z.1)]; exact rdB_4)
                · refine V.iload (pc' := 135) C 7 dX7_read_133 rfl rfl ?_
                  refine V.iconst (pc' := 136) C dX7_read_135 rfl kci_3 ?_
                  refine V.iremN (pc' := 137) C j 3 (by omega) (by omega) (by omega) dX7_read_136 rfl ?_
                  refine V.iconst (pc' := 138) C dX7_read_137 rfl kci_2 ?_
                  refine V.icmp_neN (pc' := 141) C (j % 3) 2 (by omega) (by omega) 201 dX7_read_138 rfl rfl (fun h12 => ?_) (fun h12 => ?_)
                  · refine V.iinc (pc' := 204) C (nI (j + 1)) [(7, .int (nI (j + 1))), (5, .int (rdB la ln k y p j)), (0, .ref h), (1, .int (nI k)), (2, .int y), (3, .int p), (4, .int (nI m)), (6, .int (nI ((rdT ce la ln N k y p F j).2.1)))] dX7_read_201 rfl 9 hnL rfl 7 rfl (ii_N j 1 rfl) rfl ?_
                    refine V.goto C 56 dX7_read_204 rfl ?_
                    refine V.lvs [2, 3, 4, 5, 6, 1, 7, 0] (lv2 := [(0, .ref h), (1, .int (nI k)), (2, .int y), (3, .int p), (4, .int (nI m)), (5, .int ((rdT ce la ln N k y p F (j + 1)).1)), (6, .int (nI ((rdT ce la ln N k y p F (j + 1)).2.1))), (7, .int (nI (j + 1)))]) (by rw [rdT_n h7 (fun z => h12 z.2)]; rfl) ?_
                    refine V.weq (ws2 := [mO h ad i, (ad 0, .inl (M.G.2 0, 402, .inl ((rdT ce la ln N k y p F (j + 1)).2.2))), (ad 28, .inl (M.G.2 0, 4, .inl la)), (ad 29, .inl (M.G.2 0, 4, .inl ln)), (ad 30, .inl (M.G.2 0, 160, .inl ce))]) (by rw [rdT_n h7 (fun z => h12 z.2)]) ?_
                    exact ih_L4 (by omega) (by rw [rdT_n h7 (fun z => h12 z.2)]; exact rdB_4)
                  · refine V.bipush (pc' := 143) C dX7_read_141 rfl kcb_40 ?_
                    refine V.iload_n (pc' := 144) C 2 dX7_read_143 rfl rfl ?_
                    refine V.imulN (pc' := 145) C 40 k dX7_read_144 rfl ?_
                    refine V.iload_n (pc' := 146) C 4 dX7_read_145 rfl rfl ?_
                    refine V.iadd (pc' := 147) C dX7_read_146 rfl ?_
                    refine V.iload (pc' := 149) C 7 dX7_read_147 rfl rfl ?_
                    refine V.iadd (pc' := 150) C dX7_read_149 rfl ?_
                    have hz := rdT_z h7
                    have q2 := rdB_le hL (by omega) (by omega) h11
                    have q0 := rdB_le hL (by omega) (by omega) (hz (j - 2) (by omega))
                    have hl40 := (hL k (by omega)).2
                    have hE : 2 ≤ rdE p j ∧ rdE p j < 40 := by show 2 ≤ (p.toInt + j).toNat ∧ (p.toInt + j).toNat < 40; omega
                    refine V.topI (y := nI (40 * k + rdE p j)) (rd_ix (hj := by omega) q2.1 (by omega)) ?_
                    refine V.istore (pc' := 152) C [(8, .int (nI (40 * k + rdE p j))), (5, .int (rdB la ln k y p j)), (0, .ref h), (1, .int (nI k)), (2, .int y), (3, .int p), (4, .int (nI m)), (6, .int (nI ((rdT ce la ln N k y p F j).2.1))), (7, .int (nI j))] dX7_read_150 rfl 9 hnL rfl rfl ?_
                    refine V.aload_n (pc' := 153) C 2 dX7_read_152 rfl rfl ?_
                    refine V.aload_n (pc' := 154) C 2 dX7_read_153 rfl rfl ?_
                    refine V.get (pc' := 157) C dX7_read_154 rfl 0 rfl rfl in_X7 30 rfl q959 rfl ?_
                    refine V.iload (pc' := 159) C 0 dX7_read_157 rfl rfl ?_
                    refine V.iconst (pc' := 160) C dX7_read_159 rfl kci_2 ?_
                    refine V.isubN (pc' := 161) C (40 * k + rdE p j) 2 (by omega) dX7_read_160 rfl ?_
                    refine V.iald (pc' := 162) C ((40 * k + rdE p j) - 2) dX7_read_161 rfl 4 rfl (by omega) rfl ?_
                    refine V.aload_n (pc' := 163) C 2 dX7_read_162 rfl rfl ?_
                    refine V.get (pc' := 166) C dX7_read_163 rfl 0 rfl rfl in_X7 30 rfl q959 rfl ?_
                    refine V.iload (pc' := 168) C 0 dX7_read_166 rfl rfl ?_
                    refine V.iconst (pc' := 169) C dX7_read_168 rfl kci_1 ?_
                    refine V.isubN (pc' := 170) C (40 * k + rdE p j) 1 (by omega) dX7_read_169 rfl ?_
                    refine V.iald (pc' := 171) C ((40 * k + rdE p j) - 1) dX7_read_170 rfl 4 rfl (by omega) rfl ?_
                    refine V.aload_n (pc' := 172) C 2 dX7_read_171 rfl rfl ?_
                    refine V.get (pc' := 175) C dX7_read_172 rfl 0 rfl rfl in_X7 30 rfl q959 rfl ?_
                    refine V.iload (pc' := 177) C 0 dX7_read_175 rfl rfl ?_
                    refine V.iald (pc' := 178) C (40 * k + rdE p j) dX7_read_177 rfl 4 rfl (by omega) rfl ?_
                    refine V.callV (pc' := 181) (wr := [(ad 28, .inl (M.G.2 0, 4, .inl la)), (ad 29, .inl (M.G.2 0, 4, .inl ln)), (ad 30, .inl (M.G.2 0, 160, .inl ce))]) C (ct_X7_gives M.l M.G h ad i ((rdT ce la ln N k y p F j).2.2) N (ce ((40 * k + rdE p j) - 2)) (ce ((40 * k + rdE p j) - 1)) (ce (40 * k + rdE p j)) hN hN5) dX7_read_178 rfl (lw_V q1172 q1174 qs51 q71 q1175) hyv_X7_gives rfl rfl 0 rfl rfl [0, 1] [2, 3, 4] [3, 4, 0, 1, 2] rfl rfl rfl (fun _ => [mO h ad i, (ad 0, .inl (M.G.2 0, 402, .inl (g_give ((rdT ce la ln N k y p F j).2.2) N (ce ((40 * k + rdE p j) - 2)) (ce ((40 * k + rdE p j) - 1)) (ce (40 * k + rdE p j))))), (ad 28, .inl (M.G.2 0, 4, .inl la)), (ad 29, .inl (M.G.2 0, 4, .inl ln)), (ad 30, .inl (M.G.2 0, 160, .inl ce))]) (fun _ => rfl) rfl 0 0 rfl rfl (fun _ => [.int (a_give ((rdT ce la ln N k y p F j).2.2) N (ce ((40 * k + rdE p j) - 2)) (ce ((40 * k + rdE p j) - 1)) (ce (40 * k + rdE p j)))]) (fun _ => rfl) (fun _ _ => ?_)
                    refine V.if_ge (pc' := 184) C 198 dX7_read_181 rfl rfl (fun h13 => ?_) (fun h13 => ?_)
                    · refine V.iinc (pc' := 201) C (nI ((rdT ce la ln N k y p F j).2.1 + 1)) [(6, .int (nI ((rdT ce la ln N k y p F j).2.1 + 1))), (8, .int (nI (40 * k + rdE p j))), (5, .int (rdB la ln k y p j)), (0, .ref h), (1, .int (nI k)), (2, .int y), (3, .int p), (4, .int (nI m)), (7, .int (nI j))] dX7_read_198 rfl 9 hnL rfl 7 rfl (ii_N ((rdT ce la ln N k y p F j).2.1) 1 rfl) rfl ?_
                      refine V.iinc (pc' := 204) C (nI (j + 1)) [(7, .int (nI (j + 1))), (6, .int (nI ((rdT ce la ln N k y p F j).2.1 + 1))), (8, .int (nI (40 * k + rdE p j))), (5, .int (rdB la ln k y p j)), (0, .ref h), (1, .int (nI k)), (2, .int y), (3, .int p), (4, .int (nI m))] dX7_read_201 rfl 9 hnL rfl 8 rfl (ii_N j 1 rfl) rfl ?_
                      refine V.goto C 56 dX7_read_204 rfl ?_
                      refine V.lvs [4, 5, 6, 7, 8, 3, 1, 0] (lv2 := [(0, .ref h), (1, .int (nI k)), (2, .int y), (3, .int p), (4, .int (nI m)), (5, .int ((rdT ce la ln N k y p F (j + 1)).1)), (6, .int (nI ((rdT ce la ln N k y p F (j + 1)).2.1))), (7, .int (nI (j + 1)))]) (by rw [rdT_g h7 h11 h12 h13, h11]; rfl) ?_
                      refine V.weq (ws2 := [mO h ad i, (ad 0, .inl (M.G.2 0, 402, .inl ((rdT ce la ln N k y p F (j + 1)).2.2))), (ad 28, .inl (M.G.2 0, 4, .inl la)), (ad 29, .inl (M.G.2 0, 4, .inl ln)), (ad 30, .inl (M.G.2 0, 160, .inl ce))]) (by rw [rdT_g h7 h11 h12 h13]) ?_
                      exact ih_L4 (by omega) (by rw [rdT_g h7 h11 h12 h13]; exact (by decide : ¬ (0 : Int32) = 4))
                    · have hrb := rdT_b h7 h11 h12 h13
                      refine V.aload_n (pc' := 185) C 2 dX7_read_184 rfl rfl ?_
                      refine V.sipush (pc' := 188) C dX7_read_185 rfl kcs_201 ?_
                      refine V.iconst (pc' := 189) C dX7_read_188 rfl kci_0 ?_
                      refine V.callV (pc' := 192) (wr := [(ad 28, .inl (M.G.2 0, 4, .inl la)), (ad 29, .inl (M.G.2 0, 4, .inl ln)), (ad 30, .inl (M.G.2 0, 160, .inl ce))]) C (ct_X7_copies M.l M.G h ad i (g_give ((rdT ce la ln N k y p F j).2.2) N (ce ((40 * k + rdE p j) - 2)) (ce ((40 * k + rdE p j) - 1)) (ce (40 * k + rdE p j))) 201 0 (by omega) (by omega) (by omega)) dX7_read_189 rfl (lw_V q1197 q1199 qs55 q71 q1200) hyv_X7_copies rfl rfl 0 rfl rfl [0, 1] [2, 3, 4] [3, 4, 0, 1, 2] rfl rfl rfl (fun _ => [mO h ad i, (ad 0, .inl (M.G.2 0, 402, .inl (va_cpy (g_give ((rdT ce la ln N k y p F j).2.2) N (ce ((40 * k + rdE p j) - 2)) (ce ((40 * k + rdE p j) - 1)) (ce (40 * k + rdE p j))) (g_give ((rdT ce la ln N k y p F j).2.2) N (ce ((40 * k + rdE p j) - 2)) (ce ((40 * k + rdE p j) - 1)) (ce (40 * k + rdE p j))) 201 0 67))), (ad 28, .inl (M.G.2 0, 4, .inl la)), (ad 29, .inl (M.G.2 0, 4, .inl ln)), (ad 30, .inl (M.G.2 0, 160, .inl ce))]) (fun _ => rfl) rfl 0 0 rfl rfl (fun _ => []) (fun _ => rfl) (fun _ _ => ?_)
                      refine V.bipush (pc' := 194) C dX7_read_192 rfl kcb_m20 ?_
                      refine V.iload (pc' := 196) C 7 dX7_read_194 rfl rfl ?_
                      refine V.isub (pc' := 197) C dX7_read_196 rfl ?_
                      have hbad := rd_bad (n := nI m) (c0 := 0) (c1 := 0) (c2 := 0) hN5 (by omega) (by omega) hF hg (by omega) hrb
                      exact V.iret C T dX7_read_197 (va_cpy (g_give ((rdT ce la ln N k y p F j).2.2) N (ce ((40 * k + rdE p j) - 2)) (ce ((40 * k + rdE p j) - 1)) (ce (40 * k + rdE p j))) (g_give ((rdT ce la ln N k y p F j).2.2) N (ce ((40 * k + rdE p j) - 2)) (ce ((40 * k + rdE p j) - 1)) (ce (40 * k + rdE p j))) 201 0 67) rfl rfl hbad.1.symm rfl (by rw [hbad.2.1]; exact rd_rest (fun q hq => by rw [← hF]; exact (g_give_hi hN5 hq).trans (rdT_hi hN5 hq _))) (by rw [hbad.2.2]; rfl) rfl rfl
              refine V.icmp_ne (pc' := 81) C 85 dX7_read_78 rfl rfl (fun h8 => ?_) (fun h8 => ?_)
              · refine V.aload_n (pc' := 86) C 0 dX7_read_85 rfl rfl ?_
                refine V.get (pc' := 89) C dX7_read_86 rfl 0 rfl rfl in_X7 28 rfl q957 rfl ?_
                refine V.iload_n (pc' := 90) C 1 dX7_read_89 rfl rfl ?_
                refine V.iald (pc' := 91) C k dX7_read_90 rfl 2 rfl (by omega) rfl ?_
                refine V.iload_n (pc' := 92) C 2 dX7_read_91 rfl rfl ?_
                refine V.icmp_eq (pc' := 95) C 99 dX7_read_92 rfl rfl (fun h9 => ?_) (fun h9 => ?_)
                · refine V.iload_n (pc' := 100) C 3 dX7_read_99 rfl rfl ?_
                  refine V.i2l (pc' := 101) C dX7_read_100 rfl ?_
                  refine V.iload (pc' := 103) C 7 dX7_read_101 rfl rfl ?_
                  refine V.i2l (pc' := 104) C dX7_read_103 rfl ?_
                  refine V.ladd (pc' := 105) C dX7_read_104 rfl ?_
                  refine V.lconst (pc' := 106) C dX7_read_105 rfl kcl_0 ?_
                  refine V.aload_n (pc' := 107) C 0 dX7_read_106 rfl rfl ?_
                  refine V.get (pc' := 110) C dX7_read_107 rfl 0 rfl rfl in_X7 29 rfl q958 rfl ?_
                  refine V.iload_n (pc' := 111) C 1 dX7_read_110 rfl rfl ?_
                  refine V.iald (pc' := 112) C k dX7_read_111 rfl 3 rfl (by omega) rfl ?_
                  refine V.iconst (pc' := 113) C dX7_read_112 rfl kci_1 ?_
                  refine V.isub (pc' := 114) C dX7_read_113 rfl ?_
                  refine V.i2l (pc' := 115) C dX7_read_114 rfl ?_
                  refine V.callS (pc' := 118) (wr := [mO h ad i, (ad 0, .inl (M.G.2 0, 402, .inl ((rdT ce la ln N k y p F j).2.2))), (ad 28, .inl (M.G.2 0, 4, .inl la)), (ad 29, .inl (M.G.2 0, 4, .inl ln)), (ad 30, .inl (M.G.2 0, 160, .inl ce))]) C (ct_X7_in64 M.l M.G (p.toInt64 + ((nI j).toInt64)) 0 (((ln k) - 1).toInt64) ) dX7_read_115 rfl (lw_S q1032 q1033 q71 q1034) hys_X7_in rfl rfl [] [0, 1, 2, 3, 4] [0, 1, 2, 3, 4] rfl rfl rfl (fun _ => [mO h ad i, (ad 0, .inl (M.G.2 0, 402, .inl ((rdT ce la ln N k y p F j).2.2))), (ad 28, .inl (M.G.2 0, 4, .inl la)), (ad 29, .inl (M.G.2 0, 4, .inl ln)), (ad 30, .inl (M.G.2 0, 160, .inl ce))]) (fun _ => rfl) rfl 0 0 rfl rfl (fun _ => [.int (bI (0 ≤ (p.toInt64 + ((nI j).toInt64)) ∧ (p.toInt64 + ((nI j).toInt64)) ≤ (((ln k) - 1).toInt64)))]) (fun _ => rfl) (fun _ _ => ?_)
                  refine V.if_neB (pc' := 121) C 125 dX7_read_118 rfl rfl (fun h10 => ?_) (fun h10 => ?_)
                  · refine V.iconst (pc' := 126) C dX7_read_125 rfl kci_0 ?_
                    exact J10 _ (by rw [if_neg h8, if_pos h9, if_pos h10])
                  · refine V.iconst (pc' := 122) C dX7_read_121 rfl kci_2 ?_
                    refine V.goto C 126 dX7_read_122 rfl ?_
                    exact J10 _ (by rw [if_neg h8, if_pos h9, if_neg h10])
                · refine V.iconst (pc' := 96) C dX7_read_95 rfl kci_3 ?_
                  refine V.goto C 126 dX7_read_96 rfl ?_
                  exact J10 _ (by rw [if_neg h8, if_neg h9])
              · refine V.iconst (pc' := 82) C dX7_read_81 rfl kci_1 ?_
                refine V.goto C 126 dX7_read_82 rfl ?_
                exact J10 _ (by rw [if_pos h8])
        refine V.lvs [3, 4, 5, 6, 7, 2, 1, 0] (lv2 := [(0, .ref h), (1, .int (nI k)), (2, .int y), (3, .int p), (4, .int (nI m)), (5, .int ((rdT ce la ln N k y p F 0).1)), (6, .int (nI ((rdT ce la ln N k y p F 0).2.1))), (7, .int (nI 0))]) rfl ?_
        refine V.weq (ws2 := [mO h ad i, (ad 0, .inl (M.G.2 0, 402, .inl ((rdT ce la ln N k y p F 0).2.2))), (ad 28, .inl (M.G.2 0, 4, .inl la)), (ad 29, .inl (M.G.2 0, 4, .inl ln)), (ad 30, .inl (M.G.2 0, 160, .inl ce))]) rfl ?_
        exact L4 0 (by omega) (by show ¬ (0 : Int32) = 4; decide)
      · refine V.iconst (pc' := 38) C dX7_read_37 rfl kci_m1 ?_
        exact V.iret C T dX7_read_38 f rfl rfl (by unfold a_read; rw [if_neg (fun z => h3 z.2.2)]) rfl (by unfold g_read; rw [if_neg (fun z => h3 z.2.2)]; exact Qf.rf _) (by unfold n_read; rw [if_neg (fun z => h3 z.2.2)]; rfl) rfl rfl
