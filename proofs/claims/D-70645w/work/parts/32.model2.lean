set_option maxRecDepth 100000
set_option maxHeartbeats 4000000 in
theorem ct_X7_planGoes (l : Launch) (G : GG) (h : Nat) (ad : Nat → Nat) (i : Nat → Int32) (f : Nat → Int32) (x : Int32) (n : Nat) (hpl : okPl f n) : Ct l G yX7_planGoes (ws_ yX7_planGoes cX7_planGoes 4 none) ({ frames := 3, cells := 0, slots := 0, locals := 70 } : Room) [.ref h, .int x] [mO h ad i, (ad 0, .inl (G.2 0, 402, .inl f))] (fun _ : Unit => none) (fun _ => True) (fun _ => [mO h ad (upd (upd i 17 (goC f (cpP f 0 268) x n)) 18 (goF f (cpP f 0 268) x n)), (ad 0, .inl (G.2 0, 402, .inl (pp f 268 (goG f (cpP f 0 268) x n))))]) := by
  refine Ct.of rfl rfl ?_
  intro M el eG hnL C T
  subst el
  subst eG
  have C : Cx M cX7_planGoes "ClockWardModel" ({ frames := 3, cells := 0, slots := 0, locals := 70 } : Room) := C
  have hn6 := hpl.2.1
  refine V.lvs [0, 1] (lv2 := [(0, .ref h), (1, .int x)]) rfl ?_
  refine V.aload_n (pc' := 1) C 0 dX7_planGoes_0 rfl rfl ?_
  refine V.iconst (pc' := 2) C dX7_planGoes_1 rfl kci_0 ?_
  refine V.sipush (pc' := 5) C dX7_planGoes_2 rfl kcs_268 ?_
  refine V.callV (pc' := 8) (wr := []) C (ct_X7_copies M.l M.G h ad i f 0 268 (by omega) (by omega) (by omega)) dX7_planGoes_5 rfl (lw_V q1197 q1199 qs55 q71 q1200) hyv_X7_copies rfl rfl 0 rfl rfl [0, 1] [] [0, 1] rfl rfl rfl (fun _ => [mO h ad i, (ad 0, .inl (M.G.2 0, 402, .inl (va_cpy f f 0 268 67)))]) (fun _ => rfl) rfl 0 0 rfl rfl (fun _ => []) (fun _ => rfl) (fun _ _ => ?_)
  refine V.weq (ws2 := [mO h ad i, (ad 0, .inl (M.G.2 0, 402, .inl (pp f 268 (cpP f 0 268))))]) (by rw [cpy_pp]) ?_
  refine V.aload_n (pc' := 9) C 0 dX7_planGoes_8 rfl rfl ?_
  refine V.iconst (pc' := 10) C dX7_planGoes_9 rfl kci_0 ?_
  refine V.put (pc' := 13) C [(h, .inr (7, [.ref (ad 0), .int (i 1), .ref (ad 2), .int (i 3), .int (i 4), .int (i 5), .ref (ad 6), .int (i 7), .int (i 8), .int (i 9), .int (i 10), .int (i 11), .int (i 12), .int (i 13), .int (i 14), .ref (ad 15), .ref (ad 16), .int 0, .int (i 18), .int (i 19), .int (i 20), .int (i 21), .int (i 22), .int (i 23), .ref (ad 24), .int (i 25), .ref (ad 26), .ref (ad 27), .ref (ad 28), .ref (ad 29), .ref (ad 30), .int (i 31)])), (ad 0, .inl (M.G.2 0, 402, .inl (pp f 268 (cpP f 0 268))))] dX7_planGoes_10 rfl 0 rfl rfl in_X7 tyX7_ok nmX7 17 rfl q946 rfl rfl rfl rfl rfl ?_
  refine V.aload_n (pc' := 14) C 0 dX7_planGoes_13 rfl rfl ?_
  refine V.bipush (pc' := 16) C dX7_planGoes_14 rfl kcb_m4 ?_
  refine V.put (pc' := 19) C [(h, .inr (7, [.ref (ad 0), .int (i 1), .ref (ad 2), .int (i 3), .int (i 4), .int (i 5), .ref (ad 6), .int (i 7), .int (i 8), .int (i 9), .int (i 10), .int (i 11), .int (i 12), .int (i 13), .int (i 14), .ref (ad 15), .ref (ad 16), .int 0, .int (-4), .int (i 19), .int (i 20), .int (i 21), .int (i 22), .int (i 23), .ref (ad 24), .int (i 25), .ref (ad 26), .ref (ad 27), .ref (ad 28), .ref (ad 29), .ref (ad 30), .int (i 31)])), (ad 0, .inl (M.G.2 0, 402, .inl (pp f 268 (cpP f 0 268))))] dX7_planGoes_16 rfl 0 rfl rfl in_X7 tyX7_ok nmX7 18 rfl q947 rfl rfl rfl rfl rfl ?_
  refine V.iconst (pc' := 20) C dX7_planGoes_19 rfl kci_0 ?_
  refine V.istore_n (pc' := 21) C [(2, .int 0), (0, .ref h), (1, .int x)] dX7_planGoes_20 rfl 4 hnL rfl rfl ?_
  have L1 : ∀ i2 : Nat, i2 ≤ n → V M 0 0 [(h, .inr (7, [.ref (ad 0), .int (i 1), .ref (ad 2), .int (i 3), .int (i 4), .int (i 5), .ref (ad 6), .int (i 7), .int (i 8), .int (i 9), .int (i 10), .int (i 11), .int (i 12), .int (i 13), .int (i 14), .ref (ad 15), .ref (ad 16), .int (goC f (cpP f 0 268) x i2), .int (goF f (cpP f 0 268) x i2), .int (i 19), .int (i 20), .int (i 21), .int (i 22), .int (i 23), .ref (ad 24), .int (i 25), .ref (ad 26), .ref (ad 27), .ref (ad 28), .ref (ad 29), .ref (ad 30), .int (i 31)])), (ad 0, .inl (M.G.2 0, 402, .inl (pp f 268 (goG f (cpP f 0 268) x i2))))] [(0, .ref h), (1, .int x), (2, .int (nI i2))] [] 21 := by
    refine loopN _ n (fun i2 hi2 ih_L1 => ?_)
    refine V.iload_n (pc' := 22) C 2 dX7_planGoes_21 rfl rfl ?_
    refine V.aload_n (pc' := 23) C 0 dX7_planGoes_22 rfl rfl ?_
    refine V.get (pc' := 26) C dX7_planGoes_23 rfl 0 rfl rfl in_X7 0 rfl q929 rfl ?_
    refine V.bipush (pc' := 28) C dX7_planGoes_26 rfl kcb_66 ?_
    refine V.iald (pc' := 29) C 66 dX7_planGoes_28 rfl 1 rfl (by omega) rfl ?_
    refine V.topI (pp_lo (by omega)) ?_
    refine V.topI hpl.1 ?_
    refine V.icmp_geN (pc' := 32) C i2 n (by omega) (by omega) 148 dX7_planGoes_29 rfl rfl (fun h2 => ?_) (fun h2 => ?_)
    · have hx3 : n = i2 := by omega
      subst hx3
      exact V.vret C T dX7_planGoes_148 () rfl trivial rfl rfl rfl
    · refine V.bipush (pc' := 34) C dX7_planGoes_32 rfl kcb_48 ?_
      refine V.iconst (pc' := 35) C dX7_planGoes_34 rfl kci_3 ?_
      refine V.iload_n (pc' := 36) C 2 dX7_planGoes_35 rfl rfl ?_
      refine V.imulN (pc' := 37) C 3 i2 dX7_planGoes_36 rfl ?_
      refine V.iaddN (pc' := 38) C 48 (3 * i2) dX7_planGoes_37 rfl ?_
      refine V.istore_n (pc' := 39) C [(3, .int (nI (48 + 3 * i2))), (0, .ref h), (1, .int x), (2, .int (nI i2))] dX7_planGoes_38 rfl 4 hnL rfl rfl ?_
      refine V.iload_n (pc' := 40) C 2 dX7_planGoes_39 rfl rfl ?_
      refine V.iload_n (pc' := 41) C 3 dX7_planGoes_40 rfl rfl ?_
      refine V.ishr (pc' := 42) C dX7_planGoes_41 rfl ?_
      refine V.iconst (pc' := 43) C dX7_planGoes_42 rfl kci_1 ?_
      refine V.iand (pc' := 44) C dX7_planGoes_43 rfl ?_
      refine V.if_ne (pc' := 47) C 142 dX7_planGoes_44 rfl rfl (fun h4 => ?_) (fun h4 => ?_)
      · refine V.iinc (pc' := 145) C (nI (i2 + 1)) [(2, .int (nI (i2 + 1))), (3, .int (nI (48 + 3 * i2))), (0, .ref h), (1, .int x)] dX7_planGoes_142 rfl 4 hnL rfl 3 rfl (ii_N i2 1 rfl) rfl ?_
        refine V.goto C 21 dX7_planGoes_145 rfl ?_
        refine V.lvs [2, 3, 0] (lv2 := [(0, .ref h), (1, .int x), (2, .int (nI (i2 + 1)))]) rfl ?_
        refine V.weq (ws2 := [(h, .inr (7, [.ref (ad 0), .int (i 1), .ref (ad 2), .int (i 3), .int (i 4), .int (i 5), .ref (ad 6), .int (i 7), .int (i 8), .int (i 9), .int (i 10), .int (i 11), .int (i 12), .int (i 13), .int (i 14), .ref (ad 15), .ref (ad 16), .int (goC f (cpP f 0 268) x (i2 + 1)), .int (goF f (cpP f 0 268) x (i2 + 1)), .int (i 19), .int (i 20), .int (i 21), .int (i 22), .int (i 23), .ref (ad 24), .int (i 25), .ref (ad 26), .ref (ad 27), .ref (ad 28), .ref (ad 29), .ref (ad 30), .int (i 31)])), (ad 0, .inl (M.G.2 0, 402, .inl (pp f 268 (goG f (cpP f 0 268) x (i2 + 1)))))]) (by rw [goG_f (fun z => h4 z.1), goC_f (fun z => h4 z.1), goF_f (fun z => h4 z.1)]) ?_
        exact ih_L1 (by omega)
      · obtain ⟨⟨e1, l1⟩, ⟨e2, l2⟩⟩ := hpl.2.2 i2 (by omega)
        refine V.aload_n (pc' := 48) C 1 dX7_planGoes_47 rfl rfl ?_
        refine V.sipush (pc' := 51) C dX7_planGoes_48 rfl kcs_268 ?_
        refine V.aload_n (pc' := 52) C 1 dX7_planGoes_51 rfl rfl ?_
        refine V.get (pc' := 55) C dX7_planGoes_52 rfl 0 rfl rfl in_X7 0 rfl q929 rfl ?_
        refine V.iload_n (pc' := 56) C 0 dX7_planGoes_55 rfl rfl ?_
        refine V.iald (pc' := 57) C (48 + 3 * i2) dX7_planGoes_56 rfl 1 rfl (by omega) rfl ?_
        refine V.topI (pp_lo (by omega)) ?_
        refine V.topI e1 ?_
        refine V.aload_n (pc' := 58) C 1 dX7_planGoes_57 rfl rfl ?_
        refine V.get (pc' := 61) C dX7_planGoes_58 rfl 0 rfl rfl in_X7 0 rfl q929 rfl ?_
        refine V.iload_n (pc' := 62) C 0 dX7_planGoes_61 rfl rfl ?_
        refine V.iconst (pc' := 63) C dX7_planGoes_62 rfl kci_1 ?_
        refine V.iaddN (pc' := 64) C (48 + 3 * i2) 1 dX7_planGoes_63 rfl ?_
        refine V.iald (pc' := 65) C (48 + 3 * i2 + 1) dX7_planGoes_64 rfl 1 rfl (by omega) rfl ?_
        refine V.topI (pp_lo (by omega)) ?_
        refine V.topI e2 ?_
        refine V.aload_n (pc' := 66) C 1 dX7_planGoes_65 rfl rfl ?_
        refine V.get (pc' := 69) C dX7_planGoes_66 rfl 0 rfl rfl in_X7 0 rfl q929 rfl ?_
        refine V.iload_n (pc' := 70) C 0 dX7_planGoes_69 rfl rfl ?_
        refine V.iconst (pc' := 71) C dX7_planGoes_70 rfl kci_2 ?_
        refine V.iaddN (pc' := 72) C (48 + 3 * i2) 2 dX7_planGoes_71 rfl ?_
        refine V.iald (pc' := 73) C (48 + 3 * i2 + 2) dX7_planGoes_72 rfl 1 rfl (by omega) rfl ?_
        refine V.topI (pp_lo (by omega)) ?_
        refine V.callV (pc' := 76) (wr := []) C (ct_X7_mayBe M.l M.G h ad (upd (upd i 17 (goC f (cpP f 0 268) x i2)) 18 (goF f (cpP f 0 268) x i2)) (pp f 268 (goG f (cpP f 0 268) x i2)) 268 (pN f (48 + 3 * i2)) (pN f (48 + 3 * i2 + 1)) (f (48 + 3 * i2 + 2)) (by omega) (by omega) (by omega)) dX7_planGoes_73 rfl (lw_V q1156 q1158 qs48 q71 q1159) hyv_X7_mayBe rfl rfl 0 rfl rfl [0, 1] [] [0, 1] rfl rfl rfl (fun _ => [(h, .inr (7, [.ref (ad 0), .int (i 1), .ref (ad 2), .int (i 3), .int (i 4), .int (i 5), .ref (ad 6), .int (i 7), .int (i 8), .int (i 9), .int (i 10), .int (i 11), .int (i 12), .int (i 13), .int (i 14), .ref (ad 15), .ref (ad 16), .int (goC f (cpP f 0 268) x i2), .int (goF f (cpP f 0 268) x i2), .int (i 19), .int (i 20), .int (i 21), .int (i 22), .int (i 23), .ref (ad 24), .int (i 25), .ref (ad 26), .ref (ad 27), .ref (ad 28), .ref (ad 29), .ref (ad 30), .int (i 31)])), (ad 0, .inl (M.G.2 0, 402, .inl (pp f 268 (goG f (cpP f 0 268) x i2))))]) (fun _ => rfl) rfl 0 0 rfl rfl (fun _ => [.int (bI (may2 (pp f 268 (goG f (cpP f 0 268) x i2)) (pg (pp f 268 (goG f (cpP f 0 268) x i2)) 268) (pN f (48 + 3 * i2)) (pN f (48 + 3 * i2 + 1)) (f (48 + 3 * i2 + 2))))]) (fun _ => rfl) (fun _ _ => ?_)
        refine V.topI (y := bI (may2 f (goG f (cpP f 0 268) x i2) (pN f (48 + 3 * i2)) (pN f (48 + 3 * i2 + 1)) (f (48 + 3 * i2 + 2)))) (bI_iff (may_pp (by omega) l1 l2)) ?_
        refine V.if_eqB (pc' := 79) C 121 dX7_planGoes_76 rfl rfl (fun h5 => ?_) (fun h5 => ?_)
        · refine V.aload_n (pc' := 122) C 1 dX7_planGoes_121 rfl rfl ?_
          refine V.aload_n (pc' := 123) C 1 dX7_planGoes_122 rfl rfl ?_
          refine V.get (pc' := 126) C dX7_planGoes_123 rfl 0 rfl rfl in_X7 18 rfl q947 rfl ?_
          refine V.bipush (pc' := 128) C dX7_planGoes_126 rfl kcb_m4 ?_
          refine V.icmp_ne (pc' := 131) C 135 dX7_planGoes_128 rfl rfl (fun h6 => ?_) (fun h6 => ?_)
          · refine V.aload_n (pc' := 136) C 1 dX7_planGoes_135 rfl rfl ?_
            refine V.get (pc' := 139) C dX7_planGoes_136 rfl 0 rfl rfl in_X7 18 rfl q947 rfl ?_
            refine V.put (pc' := 142) C [(h, .inr (7, [.ref (ad 0), .int (i 1), .ref (ad 2), .int (i 3), .int (i 4), .int (i 5), .ref (ad 6), .int (i 7), .int (i 8), .int (i 9), .int (i 10), .int (i 11), .int (i 12), .int (i 13), .int (i 14), .ref (ad 15), .ref (ad 16), .int (goC f (cpP f 0 268) x i2), .int (goF f (cpP f 0 268) x i2), .int (i 19), .int (i 20), .int (i 21), .int (i 22), .int (i 23), .ref (ad 24), .int (i 25), .ref (ad 26), .ref (ad 27), .ref (ad 28), .ref (ad 29), .ref (ad 30), .int (i 31)])), (ad 0, .inl (M.G.2 0, 402, .inl (pp f 268 (goG f (cpP f 0 268) x i2))))] dX7_planGoes_139 rfl 0 rfl rfl in_X7 tyX7_ok nmX7 18 rfl q947 rfl rfl rfl rfl rfl ?_
            refine V.iinc (pc' := 145) C (nI (i2 + 1)) [(2, .int (nI (i2 + 1))), (3, .int (nI (48 + 3 * i2))), (0, .ref h), (1, .int x)] dX7_planGoes_142 rfl 4 hnL rfl 3 rfl (ii_N i2 1 rfl) rfl ?_
            refine V.goto C 21 dX7_planGoes_145 rfl ?_
            refine V.lvs [2, 3, 0] (lv2 := [(0, .ref h), (1, .int x), (2, .int (nI (i2 + 1)))]) rfl ?_
            refine V.weq (ws2 := [(h, .inr (7, [.ref (ad 0), .int (i 1), .ref (ad 2), .int (i 3), .int (i 4), .int (i 5), .ref (ad 6), .int (i 7), .int (i 8), .int (i 9), .int (i 10), .int (i 11), .int (i 12), .int (i 13), .int (i 14), .ref (ad 15), .ref (ad 16), .int (goC f (cpP f 0 268) x (i2 + 1)), .int (goF f (cpP f 0 268) x (i2 + 1)), .int (i 19), .int (i 20), .int (i 21), .int (i 22), .int (i 23), .ref (ad 24), .int (i 25), .ref (ad 26), .ref (ad 27), .ref (ad 28), .ref (ad 29), .ref (ad 30), .int (i 31)])), (ad 0, .inl (M.G.2 0, 402, .inl (pp f 268 (goG f (cpP f 0 268) x (i2 + 1)))))]) (by rw [goG_f (fun z => h5 z.2), goC_f (fun z => h5 z.2), goF_t ⟨h4, h5⟩, if_neg h6]) ?_
            exact ih_L1 (by omega)
          · refine V.iload_n (pc' := 132) C 3 dX7_planGoes_131 rfl rfl ?_
            refine V.goto C 139 dX7_planGoes_132 rfl ?_
            refine V.put (pc' := 142) C [(h, .inr (7, [.ref (ad 0), .int (i 1), .ref (ad 2), .int (i 3), .int (i 4), .int (i 5), .ref (ad 6), .int (i 7), .int (i 8), .int (i 9), .int (i 10), .int (i 11), .int (i 12), .int (i 13), .int (i 14), .ref (ad 15), .ref (ad 16), .int (goC f (cpP f 0 268) x i2), .int (nI i2), .int (i 19), .int (i 20), .int (i 21), .int (i 22), .int (i 23), .ref (ad 24), .int (i 25), .ref (ad 26), .ref (ad 27), .ref (ad 28), .ref (ad 29), .ref (ad 30), .int (i 31)])), (ad 0, .inl (M.G.2 0, 402, .inl (pp f 268 (goG f (cpP f 0 268) x i2))))] dX7_planGoes_139 rfl 0 rfl rfl in_X7 tyX7_ok nmX7 18 rfl q947 rfl rfl rfl rfl rfl ?_
            refine V.iinc (pc' := 145) C (nI (i2 + 1)) [(2, .int (nI (i2 + 1))), (3, .int (nI (48 + 3 * i2))), (0, .ref h), (1, .int x)] dX7_planGoes_142 rfl 4 hnL rfl 3 rfl (ii_N i2 1 rfl) rfl ?_
            refine V.goto C 21 dX7_planGoes_145 rfl ?_
            refine V.lvs [2, 3, 0] (lv2 := [(0, .ref h), (1, .int x), (2, .int (nI (i2 + 1)))]) rfl ?_
            refine V.weq (ws2 := [(h, .inr (7, [.ref (ad 0), .int (i 1), .ref (ad 2), .int (i 3), .int (i 4), .int (i 5), .ref (ad 6), .int (i 7), .int (i 8), .int (i 9), .int (i 10), .int (i 11), .int (i 12), .int (i 13), .int (i 14), .ref (ad 15), .ref (ad 16), .int (goC f (cpP f 0 268) x (i2 + 1)), .int (goF f (cpP f 0 268) x (i2 + 1)), .int (i 19), .int (i 20), .int (i 21), .int (i 22), .int (i 23), .ref (ad 24), .int (i 25), .ref (ad 26), .ref (ad 27), .ref (ad 28), .ref (ad 29), .ref (ad 30), .int (i 31)])), (ad 0, .inl (M.G.2 0, 402, .inl (pp f 268 (goG f (cpP f 0 268) x (i2 + 1)))))]) (by rw [goG_f (fun z => h5 z.2), goC_f (fun z => h5 z.2), goF_t ⟨h4, h5⟩, if_pos h6]) ?_
            exact ih_L1 (by omega)
        · refine V.aload_n (pc' := 80) C 1 dX7_planGoes_79 rfl rfl ?_
          refine V.sipush (pc' := 83) C dX7_planGoes_80 rfl kcs_268 ?_
          refine V.aload_n (pc' := 84) C 1 dX7_planGoes_83 rfl rfl ?_
          refine V.get (pc' := 87) C dX7_planGoes_84 rfl 0 rfl rfl in_X7 0 rfl q929 rfl ?_
          refine V.iload_n (pc' := 88) C 0 dX7_planGoes_87 rfl rfl ?_
          refine V.iald (pc' := 89) C (48 + 3 * i2) dX7_planGoes_88 rfl 1 rfl (by omega) rfl ?_
          refine V.topI (pp_lo (by omega)) ?_
          refine V.topI e1 ?_
          refine V.aload_n (pc' := 90) C 1 dX7_planGoes_89 rfl rfl ?_
          refine V.get (pc' := 93) C dX7_planGoes_90 rfl 0 rfl rfl in_X7 0 rfl q929 rfl ?_
          refine V.iload_n (pc' := 94) C 0 dX7_planGoes_93 rfl rfl ?_
          refine V.iconst (pc' := 95) C dX7_planGoes_94 rfl kci_1 ?_
          refine V.iaddN (pc' := 96) C (48 + 3 * i2) 1 dX7_planGoes_95 rfl ?_
          refine V.iald (pc' := 97) C (48 + 3 * i2 + 1) dX7_planGoes_96 rfl 1 rfl (by omega) rfl ?_
          refine V.topI (pp_lo (by omega)) ?_
          refine V.topI e2 ?_
          refine V.aload_n (pc' := 98) C 1 dX7_planGoes_97 rfl rfl ?_
          refine V.get (pc' := 101) C dX7_planGoes_98 rfl 0 rfl rfl in_X7 0 rfl q929 rfl ?_
          refine V.iload_n (pc' := 102) C 0 dX7_planGoes_101 rfl rfl ?_
          refine V.iconst (pc' := 103) C dX7_planGoes_102 rfl kci_2 ?_
          refine V.iaddN (pc' := 104) C (48 + 3 * i2) 2 dX7_planGoes_103 rfl ?_
          refine V.iald (pc' := 105) C (48 + 3 * i2 + 2) dX7_planGoes_104 rfl 1 rfl (by omega) rfl ?_
          refine V.topI (pp_lo (by omega)) ?_
          refine V.callV (pc' := 108) (wr := []) C (ct_X7_givesOn M.l M.G h ad (upd (upd i 17 (goC f (cpP f 0 268) x i2)) 18 (goF f (cpP f 0 268) x i2)) (pp f 268 (goG f (cpP f 0 268) x i2)) 268 (pN f (48 + 3 * i2)) (pN f (48 + 3 * i2 + 1)) (f (48 + 3 * i2 + 2)) (by omega) (by omega) (by omega)) dX7_planGoes_105 rfl (lw_V q1176 q1178 qs52 q71 q1179) hyv_X7_givesOn rfl rfl 0 rfl rfl [0, 1] [] [0, 1] rfl rfl rfl (fun _ => [(h, .inr (7, [.ref (ad 0), .int (i 1), .ref (ad 2), .int (i 3), .int (i 4), .int (i 5), .ref (ad 6), .int (i 7), .int (i 8), .int (i 9), .int (i 10), .int (i 11), .int (i 12), .int (i 13), .int (i 14), .ref (ad 15), .ref (ad 16), .int (goC f (cpP f 0 268) x i2), .int (goF f (cpP f 0 268) x i2), .int (i 19), .int (i 20), .int (i 21), .int (i 22), .int (i 23), .ref (ad 24), .int (i 25), .ref (ad 26), .ref (ad 27), .ref (ad 28), .ref (ad 29), .ref (ad 30), .int (i 31)])), (ad 0, .inl (M.G.2 0, 402, .inl (pp (pp f 268 (goG f (cpP f 0 268) x i2)) 268 (give2 (pp f 268 (goG f (cpP f 0 268) x i2)) (pg (pp f 268 (goG f (cpP f 0 268) x i2)) 268) (pN f (48 + 3 * i2)) (pN f (48 + 3 * i2 + 1)) (f (48 + 3 * i2 + 2))))))]) (fun _ => rfl) rfl 0 0 rfl rfl (fun _ => []) (fun _ => rfl) (fun _ _ => ?_)
          refine V.weq (ws2 := [(h, .inr (7, [.ref (ad 0), .int (i 1), .ref (ad 2), .int (i 3), .int (i 4), .int (i 5), .ref (ad 6), .int (i 7), .int (i 8), .int (i 9), .int (i 10), .int (i 11), .int (i 12), .int (i 13), .int (i 14), .ref (ad 15), .ref (ad 16), .int (goC f (cpP f 0 268) x i2), .int (goF f (cpP f 0 268) x i2), .int (i 19), .int (i 20), .int (i 21), .int (i 22), .int (i 23), .ref (ad 24), .int (i 25), .ref (ad 26), .ref (ad 27), .ref (ad 28), .ref (ad 29), .ref (ad 30), .int (i 31)])), (ad 0, .inl (M.G.2 0, 402, .inl (pp f 268 (give2 f (goG f (cpP f 0 268) x i2) (pN f (48 + 3 * i2)) (pN f (48 + 3 * i2 + 1)) (f (48 + 3 * i2 + 2))))))]) (by rw [give_pp (by omega) l1 l2]) ?_
          refine V.aload_n (pc' := 109) C 1 dX7_planGoes_108 rfl rfl ?_
          refine V.dup (pc' := 110) C rfl dX7_planGoes_109 rfl ?_
          refine V.get (pc' := 113) C dX7_planGoes_110 rfl 0 rfl rfl in_X7 17 rfl q946 rfl ?_
          refine V.iconst (pc' := 114) C dX7_planGoes_113 rfl kci_1 ?_
          refine V.iadd (pc' := 115) C dX7_planGoes_114 rfl ?_
          refine V.put (pc' := 118) C [(h, .inr (7, [.ref (ad 0), .int (i 1), .ref (ad 2), .int (i 3), .int (i 4), .int (i 5), .ref (ad 6), .int (i 7), .int (i 8), .int (i 9), .int (i 10), .int (i 11), .int (i 12), .int (i 13), .int (i 14), .ref (ad 15), .ref (ad 16), .int ((goC f (cpP f 0 268) x i2) + 1), .int (goF f (cpP f 0 268) x i2), .int (i 19), .int (i 20), .int (i 21), .int (i 22), .int (i 23), .ref (ad 24), .int (i 25), .ref (ad 26), .ref (ad 27), .ref (ad 28), .ref (ad 29), .ref (ad 30), .int (i 31)])), (ad 0, .inl (M.G.2 0, 402, .inl (pp f 268 (give2 f (goG f (cpP f 0 268) x i2) (pN f (48 + 3 * i2)) (pN f (48 + 3 * i2 + 1)) (f (48 + 3 * i2 + 2))))))] dX7_planGoes_115 rfl 0 rfl rfl in_X7 tyX7_ok nmX7 17 rfl q946 rfl rfl rfl rfl rfl ?_
          refine V.goto C 142 dX7_planGoes_118 rfl ?_
          refine V.iinc (pc' := 145) C (nI (i2 + 1)) [(2, .int (nI (i2 + 1))), (3, .int (nI (48 + 3 * i2))), (0, .ref h), (1, .int x)] dX7_planGoes_142 rfl 4 hnL rfl 3 rfl (ii_N i2 1 rfl) rfl ?_
          refine V.goto C 21 dX7_planGoes_145 rfl ?_
          refine V.lvs [2, 3, 0] (lv2 := [(0, .ref h), (1, .int x), (2, .int (nI (i2 + 1)))]) rfl ?_
          refine V.weq (ws2 := [(h, .inr (7, [.ref (ad 0), .int (i 1), .ref (ad 2), .int (i 3), .int (i 4), .int (i 5), .ref (ad 6), .int (i 7), .int (i 8), .int (i 9), .int (i 10), .int (i 11), .int (i 12), .int (i 13), .int (i 14), .ref (ad 15), .ref (ad 16), .int (goC f (cpP f 0 268) x (i2 + 1)), .int (goF f (cpP f 0 268) x (i2 + 1)), .int (i 19), .int (i 20), .int (i 21), .int (i 22), .int (i 23), .ref (ad 24), .int (i 25), .ref (ad 26), .ref (ad 27), .ref (ad 28), .ref (ad 29), .ref (ad 30), .int (i 31)])), (ad 0, .inl (M.G.2 0, 402, .inl (pp f 268 (goG f (cpP f 0 268) x (i2 + 1)))))]) (by rw [goG_t ⟨h4, h5⟩, goC_t ⟨h4, h5⟩, goF_f (fun z => z.2 h5)]) ?_
          exact ih_L1 (by omega)
  refine V.lvs [1, 2, 0] (lv2 := [(0, .ref h), (1, .int x), (2, .int (nI 0))]) rfl ?_
  refine V.weq (ws2 := [(h, .inr (7, [.ref (ad 0), .int (i 1), .ref (ad 2), .int (i 3), .int (i 4), .int (i 5), .ref (ad 6), .int (i 7), .int (i 8), .int (i 9), .int (i 10), .int (i 11), .int (i 12), .int (i 13), .int (i 14), .ref (ad 15), .ref (ad 16), .int (goC f (cpP f 0 268) x 0), .int (goF f (cpP f 0 268) x 0), .int (i 19), .int (i 20), .int (i 21), .int (i 22), .int (i 23), .ref (ad 24), .int (i 25), .ref (ad 26), .ref (ad 27), .ref (ad 28), .ref (ad 29), .ref (ad 30), .int (i 31)])), (ad 0, .inl (M.G.2 0, 402, .inl (pp f 268 (goG f (cpP f 0 268) x 0))))]) rfl ?_
  exact L1 0 (by omega)
set_option maxHeartbeats 4000000 in
theorem ct_X7_runs (l : Launch) (G : GG) (h : Nat) (ad : Nat → Nat) (i : Nat → Int32) (f : Nat → Int32) (N : Nat) (x : Int32) (n : Nat) (hN : i 1 = nI N) (hN5 : N ≤ 5) (hpl : okPl f n) : Ct l G yX7_runs (ws_ yX7_runs cX7_runs 2 (some .int)) ({ frames := 4, cells := 0, slots := 0, locals := 93 } : Room) [.ref h, .int x] [mO h ad i, (ad 0, .inl (G.2 0, 402, .inl f))] (fun u : (Nat → Int32) × (Nat → Int32) => some (.int (a_runs f N n x))) (fun u => Qf f u.1 ∧ Qi i u.2) (fun u => [mO h ad u.2, (ad 0, .inl (G.2 0, 402, .inl u.1))]) := by
  refine Ct.of rfl rfl ?_
  intro M el eG hnL C T
  subst el
  subst eG
  have C : Cx M cX7_runs "ClockWardModel" ({ frames := 4, cells := 0, slots := 0, locals := 93 } : Room) := C
  refine V.lvs [0, 1] (lv2 := [(0, .ref h), (1, .int x)]) rfl ?_
  refine V.iload_n (pc' := 1) C 1 dX7_runs_0 rfl rfl ?_
  refine V.i2l (pc' := 2) C dX7_runs_1 rfl ?_
  refine V.lconst (pc' := 3) C dX7_runs_2 rfl kcl_0 ?_
  refine V.ldc2 (pc' := 6) C dX7_runs_3 rfl q1129 ?_
  refine V.callS (pc' := 9) (wr := [mO h ad i, (ad 0, .inl (M.G.2 0, 402, .inl f))]) C (ct_X7_in M.l M.G x 0 3 ) dX7_runs_6 rfl (lw_S q1032 q1033 q71 q1034) hys_X7_in rfl rfl [] [0, 1] [0, 1] rfl rfl rfl (fun _ => [mO h ad i, (ad 0, .inl (M.G.2 0, 402, .inl f))]) (fun _ => rfl) rfl 0 0 rfl rfl (fun _ => [.int (bI (inI x 0 3))]) (fun _ => rfl) (fun _ _ => ?_)
  refine V.if_neB (pc' := 12) C 14 dX7_runs_9 rfl rfl (fun h1 => ?_) (fun h1 => ?_)
  · refine V.aload_n (pc' := 15) C 0 dX7_runs_14 rfl rfl ?_
    refine V.iconst (pc' := 16) C dX7_runs_15 rfl kci_0 ?_
    refine V.callV (pc' := 19) (wr := []) C (ct_X7_planGoes M.l M.G h ad i f 0 n hpl) dX7_runs_16 rfl (lw_V q1193 q1195 qs54 q71 q1196) hyv_X7_planGoes rfl rfl 0 rfl rfl [0, 1] [] [0, 1] rfl rfl rfl (fun _ => [(h, .inr (7, [.ref (ad 0), .int (i 1), .ref (ad 2), .int (i 3), .int (i 4), .int (i 5), .ref (ad 6), .int (i 7), .int (i 8), .int (i 9), .int (i 10), .int (i 11), .int (i 12), .int (i 13), .int (i 14), .ref (ad 15), .ref (ad 16), .int (goC f (cpP f 0 268) 0 n), .int (goF f (cpP f 0 268) 0 n), .int (i 19), .int (i 20), .int (i 21), .int (i 22), .int (i 23), .ref (ad 24), .int (i 25), .ref (ad 26), .ref (ad 27), .ref (ad 28), .ref (ad 29), .ref (ad 30), .int (i 31)])), (ad 0, .inl (M.G.2 0, 402, .inl (pp f 268 (goG f (cpP f 0 268) 0 n))))]) (fun _ => rfl) rfl 0 0 rfl rfl (fun _ => []) (fun _ => rfl) (fun _ _ => ?_)
    refine V.iload_n (pc' := 20) C 1 dX7_runs_19 rfl rfl ?_
    refine V.if_ne (pc' := 23) C 33 dX7_runs_20 rfl rfl (fun h2 => ?_) (fun h2 => ?_)
    · refine V.iload_n (pc' := 34) C 1 dX7_runs_33 rfl rfl ?_
      refine V.iconst (pc' := 35) C dX7_runs_34 rfl kci_1 ?_
      refine V.icmp_ne (pc' := 38) C 45 dX7_runs_35 rfl rfl (fun h3 => ?_) (fun h3 => ?_)
      · refine V.iload_n (pc' := 46) C 1 dX7_runs_45 rfl rfl ?_
        refine V.iconst (pc' := 47) C dX7_runs_46 rfl kci_2 ?_
        refine V.icmp_ne (pc' := 50) C 57 dX7_runs_47 rfl rfl (fun h4 => ?_) (fun h4 => ?_)
        · refine V.aload_n (pc' := 58) C 0 dX7_runs_57 rfl rfl ?_
          refine V.get (pc' := 61) C dX7_runs_58 rfl 0 rfl rfl in_X7 0 rfl q929 rfl ?_
          refine V.sipush (pc' := 64) C dX7_runs_61 rfl kcs_290 ?_
          refine V.topN (a := 290) (b := 268 + 22) (by omega) ?_
          refine V.iald (pc' := 65) C (268 + 22) dX7_runs_64 rfl 1 rfl (by omega) rfl ?_
          refine V.topI (pp_at _ _ _ _) ?_
          refine V.aload_n (pc' := 66) C 0 dX7_runs_65 rfl rfl ?_
          refine V.get (pc' := 69) C dX7_runs_66 rfl 0 rfl rfl in_X7 0 rfl q929 rfl ?_
          refine V.bipush (pc' := 71) C dX7_runs_69 rfl kcb_22 ?_
          refine V.iald (pc' := 72) C 22 dX7_runs_71 rfl 1 rfl (by omega) rfl ?_
          refine V.topI (pp_lo (by omega)) ?_
          refine V.isub (pc' := 73) C dX7_runs_72 rfl ?_
          exact V.iret C T dX7_runs_73 (pp f 268 (goG f (cpP f 0 268) 0 n), upd (upd i 17 (goC f (cpP f 0 268) 0 n)) 18 (goF f (cpP f 0 268) 0 n)) rfl rfl (Eq.trans (by rw [(goG_ag (ag_cp f 268) 0 hpl n (Nat.le_refl n)) 22 (by omega), if_neg h2, if_neg h3, if_neg h4]) (if_pos h1).symm) rfl ⟨(Qf.pp (by omega)), rfl, rfl, rfl, rfl, rfl⟩ rfl rfl rfl
        · refine V.aload_n (pc' := 51) C 0 dX7_runs_50 rfl rfl ?_
          refine V.get (pc' := 54) C dX7_runs_51 rfl 0 rfl rfl in_X7 18 rfl q947 rfl ?_
          refine V.goto C 73 dX7_runs_54 rfl ?_
          exact V.iret C T dX7_runs_73 (pp f 268 (goG f (cpP f 0 268) 0 n), upd (upd i 17 (goC f (cpP f 0 268) 0 n)) 18 (goF f (cpP f 0 268) 0 n)) rfl rfl (Eq.trans (by rw [goF_ag (ag_cp f 268) 0 hpl n (Nat.le_refl n), if_neg h2, if_neg h3, if_pos h4]) (if_pos h1).symm) rfl ⟨(Qf.pp (by omega)), rfl, rfl, rfl, rfl, rfl⟩ rfl rfl rfl
      · refine V.aload_n (pc' := 39) C 0 dX7_runs_38 rfl rfl ?_
        refine V.get (pc' := 42) C dX7_runs_39 rfl 0 rfl rfl in_X7 17 rfl q946 rfl ?_
        refine V.goto C 73 dX7_runs_42 rfl ?_
        exact V.iret C T dX7_runs_73 (pp f 268 (goG f (cpP f 0 268) 0 n), upd (upd i 17 (goC f (cpP f 0 268) 0 n)) 18 (goF f (cpP f 0 268) 0 n)) rfl rfl (Eq.trans (by rw [goC_ag (ag_cp f 268) 0 hpl n (Nat.le_refl n), if_neg h2, if_pos h3]) (if_pos h1).symm) rfl ⟨(Qf.pp (by omega)), rfl, rfl, rfl, rfl, rfl⟩ rfl rfl rfl
    · refine V.aload_n (pc' := 24) C 0 dX7_runs_23 rfl rfl ?_
      refine V.sipush (pc' := 27) C dX7_runs_24 rfl kcs_268 ?_
      refine V.callV (pc' := 30) (wr := []) C (ct_X7_rightOn M.l M.G h ad (upd (upd i 17 (goC f (cpP f 0 268) 0 n)) 18 (goF f (cpP f 0 268) 0 n)) (pp f 268 (goG f (cpP f 0 268) 0 n)) N 268 hN hN5 (by omega)) dX7_runs_27 rfl (lw_V q1092 q1094 qs42 q71 q1095) hyv_X7_rightOn rfl rfl 0 rfl rfl [0, 1] [] [0, 1] rfl rfl rfl (fun _ => [(h, .inr (7, [.ref (ad 0), .int (i 1), .ref (ad 2), .int (i 3), .int (i 4), .int (i 5), .ref (ad 6), .int (i 7), .int (i 8), .int (i 9), .int (i 10), .int (i 11), .int (i 12), .int (i 13), .int (i 14), .ref (ad 15), .ref (ad 16), .int (goC f (cpP f 0 268) 0 n), .int (goF f (cpP f 0 268) 0 n), .int (i 19), .int (i 20), .int (i 21), .int (i 22), .int (i 23), .ref (ad 24), .int (i 25), .ref (ad 26), .ref (ad 27), .ref (ad 28), .ref (ad 29), .ref (ad 30), .int (i 31)])), (ad 0, .inl (M.G.2 0, 402, .inl (pp f 268 (goG f (cpP f 0 268) 0 n))))]) (fun _ => rfl) rfl 0 0 rfl rfl (fun _ => [.int (rightTo (pg (pp f 268 (goG f (cpP f 0 268) 0 n)) 268) N)]) (fun _ => rfl) (fun _ _ => ?_)
      refine V.topI (y := rightTo (goG f (cpP f 0 268) 0 n) N) (by rw [pg_pp]) ?_
      refine V.goto C 73 dX7_runs_30 rfl ?_
      exact V.iret C T dX7_runs_73 (pp f 268 (goG f (cpP f 0 268) 0 n), upd (upd i 17 (goC f (cpP f 0 268) 0 n)) 18 (goF f (cpP f 0 268) 0 n)) rfl rfl (Eq.trans (by rw [rightTo_ag (goG_ag (ag_cp f 268) 0 hpl n (Nat.le_refl n)) N hN5, if_pos h2]) (if_pos h1).symm) rfl ⟨(Qf.pp (by omega)), rfl, rfl, rfl, rfl, rfl⟩ rfl rfl rfl
  · refine V.iconst (pc' := 13) C dX7_runs_12 rfl kci_m1 ?_
    exact V.iret C T dX7_runs_13 (f, i) rfl rfl (if_neg (fun z => h1 z)).symm rfl ⟨(Qf.rf _), rfl, rfl, rfl, rfl, rfl⟩ rfl rfl rfl
set_option maxHeartbeats 4000000 in
theorem ct_X7_ahead (l : Launch) (G : GG) (h : Nat) (ad : Nat → Nat) (i : Nat → Int32) (f : Nat → Int32) (N : Nat) (x : Int32) (n : Nat) (hN : i 1 = nI N) (hN5 : N ≤ 5) (hpl : okPl f n) : Ct l G yX7_ahead (ws_ yX7_ahead cX7_ahead 2 (some .int)) ({ frames := 4, cells := 0, slots := 0, locals := 93 } : Room) [.ref h, .int x] [mO h ad i, (ad 0, .inl (G.2 0, 402, .inl f))] (fun u : (Nat → Int32) × (Nat → Int32) => some (.int (a_ahead f N n x))) (fun u => Qf f u.1 ∧ Qi i u.2) (fun u => [mO h ad u.2, (ad 0, .inl (G.2 0, 402, .inl u.1))]) := by
  refine Ct.of rfl rfl ?_
  intro M el eG hnL C T
  subst el
  subst eG
  have C : Cx M cX7_ahead "ClockWardModel" ({ frames := 4, cells := 0, slots := 0, locals := 93 } : Room) := C
  refine V.lvs [0, 1] (lv2 := [(0, .ref h), (1, .int x)]) rfl ?_
  refine V.aload_n (pc' := 1) C 0 dX7_ahead_0 rfl rfl ?_
  refine V.iload_n (pc' := 2) C 1 dX7_ahead_1 rfl rfl ?_
  refine V.callV (pc' := 5) (wr := [(ad 0, .inl (M.G.2 0, 402, .inl f))]) C (ct_X7_isClock M.l M.G h ad i N x hN hN5) dX7_ahead_2 rfl (lw_V q1100 q1102 qs43 q71 q1103) hyv_X7_isClock rfl rfl 0 rfl rfl [0] [1] [1, 0] rfl rfl rfl (fun _ => [mO h ad i, (ad 0, .inl (M.G.2 0, 402, .inl f))]) (fun _ => rfl) rfl 0 0 rfl rfl (fun _ => [.int (bI (isC N x))]) (fun _ => rfl) (fun _ _ => ?_)
  refine V.if_neB (pc' := 8) C 10 dX7_ahead_5 rfl rfl (fun h1 => ?_) (fun h1 => ?_)
  · obtain ⟨c, hc, rfl⟩ := isC_nat hN5 h1
    refine V.aload_n (pc' := 11) C 0 dX7_ahead_10 rfl rfl ?_
    refine V.iconst (pc' := 12) C dX7_ahead_11 rfl kci_0 ?_
    refine V.callV (pc' := 15) (wr := []) C (ct_X7_planGoes M.l M.G h ad i f 0 n hpl) dX7_ahead_12 rfl (lw_V q1193 q1195 qs54 q71 q1196) hyv_X7_planGoes rfl rfl 0 rfl rfl [0, 1] [] [0, 1] rfl rfl rfl (fun _ => [(h, .inr (7, [.ref (ad 0), .int (i 1), .ref (ad 2), .int (i 3), .int (i 4), .int (i 5), .ref (ad 6), .int (i 7), .int (i 8), .int (i 9), .int (i 10), .int (i 11), .int (i 12), .int (i 13), .int (i 14), .ref (ad 15), .ref (ad 16), .int (goC f (cpP f 0 268) 0 n), .int (goF f (cpP f 0 268) 0 n), .int (i 19), .int (i 20), .int (i 21), .int (i 22), .int (i 23), .ref (ad 24), .int (i 25), .ref (ad 26), .ref (ad 27), .ref (ad 28), .ref (ad 29), .ref (ad 30), .int (i 31)])), (ad 0, .inl (M.G.2 0, 402, .inl (pp f 268 (goG f (cpP f 0 268) 0 n))))]) (fun _ => rfl) rfl 0 0 rfl rfl (fun _ => []) (fun _ => rfl) (fun _ _ => ?_)
    refine V.aload_n (pc' := 16) C 0 dX7_ahead_15 rfl rfl ?_
    refine V.get (pc' := 19) C dX7_ahead_16 rfl 0 rfl rfl in_X7 0 rfl q929 rfl ?_
    refine V.sipush (pc' := 22) C dX7_ahead_19 rfl kcs_283 ?_
    refine V.iload_n (pc' := 23) C 1 dX7_ahead_22 rfl rfl ?_
    refine V.iaddN (pc' := 24) C 283 c dX7_ahead_23 rfl ?_
    refine V.topN (a := 283 + c) (b := 268 + (15 + c)) (by omega) ?_
    refine V.iald (pc' := 25) C (268 + (15 + c)) dX7_ahead_24 rfl 1 rfl (by omega) rfl ?_
    refine V.topI (pp_at _ _ _ _) ?_
    exact V.iret C T dX7_ahead_25 (pp f 268 (goG f (cpP f 0 268) 0 n), upd (upd i 17 (goC f (cpP f 0 268) 0 n)) 18 (goF f (cpP f 0 268) 0 n)) rfl rfl (Eq.trans (by rw [cn_nI (by omega)]; exact (goG_ag (ag_cp f 268) 0 hpl n (Nat.le_refl n)) (15 + c) (by omega)) (if_pos h1).symm) rfl ⟨(Qf.pp (by omega)), rfl, rfl, rfl, rfl, rfl⟩ rfl rfl rfl
  · refine V.iconst (pc' := 9) C dX7_ahead_8 rfl kci_m1 ?_
    exact V.iret C T dX7_ahead_9 (f, i) rfl rfl (if_neg (fun z => h1 z)).symm rfl ⟨(Qf.rf _), rfl, rfl, rfl, rfl, rfl⟩ rfl rfl rfl
set_option maxHeartbeats 4000000 in
theorem ct_X7_later (l : Launch) (G : GG) (h : Nat) (ad : Nat → Nat) (i : Nat → Int32) (f : Nat → Int32) (N : Nat) (x : Int32) (y : Int32) (hN : i 1 = nI N) (hN5 : N ≤ 5) : Ct l G yX7_later (ws_ yX7_later cX7_later 4 (some .int)) ({ frames := 3, cells := 0, slots := 0, locals := 67 } : Room) [.ref h, .int x, .int y] [mO h ad i, (ad 0, .inl (G.2 0, 402, .inl f))] (fun u : (Nat → Int32) × (Nat → Int32) => some (.int (a_later f N x y))) (fun u => Qf f u.1 ∧ Qi i u.2) (fun u => [mO h ad u.2, (ad 0, .inl (G.2 0, 402, .inl u.1))]) := by
  refine Ct.of rfl rfl ?_
  intro M el eG hnL C T
  subst el
  subst eG
  have C : Cx M cX7_later "ClockWardModel" ({ frames := 3, cells := 0, slots := 0, locals := 67 } : Room) := C
  refine V.lvs [0, 1, 2] (lv2 := [(0, .ref h), (1, .int x), (2, .int y)]) rfl ?_
  refine V.aload_n (pc' := 1) C 0 dX7_later_0 rfl rfl ?_
  refine V.iload_n (pc' := 2) C 1 dX7_later_1 rfl rfl ?_
  refine V.callV (pc' := 5) (wr := [(ad 0, .inl (M.G.2 0, 402, .inl f))]) C (ct_X7_isClock M.l M.G h ad i N x hN hN5) dX7_later_2 rfl (lw_V q1100 q1102 qs43 q71 q1103) hyv_X7_isClock rfl rfl 0 rfl rfl [0] [1] [1, 0] rfl rfl rfl (fun _ => [mO h ad i, (ad 0, .inl (M.G.2 0, 402, .inl f))]) (fun _ => rfl) rfl 0 0 rfl rfl (fun _ => [.int (bI (isC N x))]) (fun _ => rfl) (fun _ _ => ?_)
  refine V.if_eqB (pc' := 8) C 20 dX7_later_5 rfl rfl (fun h1 => ?_) (fun h1 => ?_)
  · refine V.iconst (pc' := 21) C dX7_later_20 rfl kci_m1 ?_
    exact V.iret C T dX7_later_21 (f, i) rfl rfl (if_neg (fun z => h1 z.1)).symm rfl ⟨(Qf.rf _), rfl, rfl, rfl, rfl, rfl⟩ rfl rfl rfl
  · obtain ⟨c, hc, rfl⟩ := isC_nat hN5 h1
    refine V.iload_n (pc' := 9) C 2 dX7_later_8 rfl rfl ?_
    refine V.i2l (pc' := 10) C dX7_later_9 rfl ?_
    refine V.lconst (pc' := 11) C dX7_later_10 rfl kcl_0 ?_
    refine V.ldc2 (pc' := 14) C dX7_later_11 rfl q1209 ?_
    refine V.callS (pc' := 17) (wr := [mO h ad i, (ad 0, .inl (M.G.2 0, 402, .inl f))]) C (ct_X7_in M.l M.G y 0 60 ) dX7_later_14 rfl (lw_S q1032 q1033 q71 q1034) hys_X7_in rfl rfl [] [0, 1] [0, 1] rfl rfl rfl (fun _ => [mO h ad i, (ad 0, .inl (M.G.2 0, 402, .inl f))]) (fun _ => rfl) rfl 0 0 rfl rfl (fun _ => [.int (bI (inI y 0 60))]) (fun _ => rfl) (fun _ _ => ?_)
    refine V.if_neB (pc' := 20) C 22 dX7_later_17 rfl rfl (fun h2 => ?_) (fun h2 => ?_)
    · obtain ⟨m, hm, rfl⟩ := in_nat (m := 60) (by decide) h2
      refine V.aload_n (pc' := 23) C 0 dX7_later_22 rfl rfl ?_
      refine V.iconst (pc' := 24) C dX7_later_23 rfl kci_0 ?_
      refine V.sipush (pc' := 27) C dX7_later_24 rfl kcs_268 ?_
      refine V.callV (pc' := 30) (wr := []) C (ct_X7_copies M.l M.G h ad i f 0 268 (by omega) (by omega) (by omega)) dX7_later_27 rfl (lw_V q1197 q1199 qs55 q71 q1200) hyv_X7_copies rfl rfl 0 rfl rfl [0, 1] [] [0, 1] rfl rfl rfl (fun _ => [mO h ad i, (ad 0, .inl (M.G.2 0, 402, .inl (va_cpy f f 0 268 67)))]) (fun _ => rfl) rfl 0 0 rfl rfl (fun _ => []) (fun _ => rfl) (fun _ _ => ?_)
      refine V.weq (ws2 := [mO h ad i, (ad 0, .inl (M.G.2 0, 402, .inl (pp f 268 (cpP f 0 268))))]) (by rw [cpy_pp]) ?_
      refine V.iconst (pc' := 31) C dX7_later_30 rfl kci_0 ?_
      refine V.istore_n (pc' := 32) C [(3, .int 0), (0, .ref h), (1, .int (nI c)), (2, .int (nI m))] dX7_later_31 rfl 4 hnL rfl rfl ?_
      have L3 : ∀ k : Nat, k ≤ m → V M 0 0 [mO h ad i, (ad 0, .inl (M.G.2 0, 402, .inl (pp f 268 (nightsTo (cpP f 0 268) N k))))] [(0, .ref h), (1, .int (nI c)), (2, .int (nI m)), (3, .int (nI k))] [] 32 := by
        refine loopN _ m (fun k hk ih_L3 => ?_)
        refine V.iload_n (pc' := 33) C 3 dX7_later_32 rfl rfl ?_
        refine V.iload_n (pc' := 34) C 2 dX7_later_33 rfl rfl ?_
        refine V.icmp_geN (pc' := 37) C k m (by omega) (by omega) 50 dX7_later_34 rfl rfl (fun h4 => ?_) (fun h4 => ?_)
        · have hx5 : m = k := by omega
          subst hx5
          refine V.aload_n (pc' := 51) C 0 dX7_later_50 rfl rfl ?_
          refine V.get (pc' := 54) C dX7_later_51 rfl 0 rfl rfl in_X7 0 rfl q929 rfl ?_
          refine V.sipush (pc' := 57) C dX7_later_54 rfl kcs_283 ?_
          refine V.iload_n (pc' := 58) C 1 dX7_later_57 rfl rfl ?_
          refine V.iaddN (pc' := 59) C 283 c dX7_later_58 rfl ?_
          refine V.topN (a := 283 + c) (b := 268 + (15 + c)) (by omega) ?_
          refine V.iald (pc' := 60) C (268 + (15 + c)) dX7_later_59 rfl 1 rfl (by omega) rfl ?_
          refine V.topI (pp_at _ _ _ _) ?_
          exact V.iret C T dX7_later_60 (pp f 268 (nightsTo (cpP f 0 268) N m), i) rfl rfl (Eq.trans (by rw [cn_nI (by omega), cn_nI (by omega)]; exact (nightsTo_ag (ag_cp f 268) hN5 m) (15 + c) (by omega)) (if_pos ⟨h1, h2⟩).symm) rfl ⟨(Qf.pp (by omega)), rfl, rfl, rfl, rfl, rfl⟩ rfl rfl rfl
        · refine V.aload_n (pc' := 38) C 0 dX7_later_37 rfl rfl ?_
          refine V.sipush (pc' := 41) C dX7_later_38 rfl kcs_268 ?_
          refine V.callV (pc' := 44) (wr := []) C (ct_X7_nightOn M.l M.G h ad i (pp f 268 (nightsTo (cpP f 0 268) N k)) N 268 hN hN5 (by omega)) dX7_later_41 rfl (lw_V q1185 q1187 qs53 q71 q1188) hyv_X7_nightOn rfl rfl 0 rfl rfl [0, 1] [] [0, 1] rfl rfl rfl (fun _ => [mO h ad i, (ad 0, .inl (M.G.2 0, 402, .inl (pp (pp f 268 (nightsTo (cpP f 0 268) N k)) 268 (night (pg (pp f 268 (nightsTo (cpP f 0 268) N k)) 268) N))))]) (fun _ => rfl) rfl 0 0 rfl rfl (fun _ => []) (fun _ => rfl) (fun _ _ => ?_)
          refine V.weq (ws2 := [mO h ad i, (ad 0, .inl (M.G.2 0, 402, .inl (pp f 268 (night (nightsTo (cpP f 0 268) N k) N))))]) (by rw [pg_pp, pp_pp]) ?_
          refine V.iinc (pc' := 47) C (nI (k + 1)) [(3, .int (nI (k + 1))), (0, .ref h), (1, .int (nI c)), (2, .int (nI m))] dX7_later_44 rfl 4 hnL rfl 3 rfl (ii_N k 1 rfl) rfl ?_
          refine V.goto C 32 dX7_later_47 rfl ?_
          refine V.lvs [1, 2, 3, 0] (lv2 := [(0, .ref h), (1, .int (nI c)), (2, .int (nI m)), (3, .int (nI (k + 1)))]) rfl ?_
          refine V.weq (ws2 := [mO h ad i, (ad 0, .inl (M.G.2 0, 402, .inl (pp f 268 (nightsTo (cpP f 0 268) N (k + 1)))))]) rfl ?_
          exact ih_L3 (by omega)
      refine V.lvs [1, 2, 3, 0] (lv2 := [(0, .ref h), (1, .int (nI c)), (2, .int (nI m)), (3, .int (nI 0))]) rfl ?_
      refine V.weq (ws2 := [mO h ad i, (ad 0, .inl (M.G.2 0, 402, .inl (pp f 268 (nightsTo (cpP f 0 268) N 0))))]) rfl ?_
      exact L3 0 (by omega)
    · refine V.iconst (pc' := 21) C dX7_later_20 rfl kci_m1 ?_
      exact V.iret C T dX7_later_21 (f, i) rfl rfl (if_neg (fun z => h2 z.2)).symm rfl ⟨(Qf.rf _), rfl, rfl, rfl, rfl, rfl⟩ rfl rfl rfl
set_option maxHeartbeats 4000000 in
theorem ct_X7_when (l : Launch) (G : GG) (h : Nat) (ad : Nat → Nat) (i : Nat → Int32) (f : Nat → Int32) (N : Nat) (x : Int32) (hN : i 1 = nI N) (hN5 : N ≤ 5) : Ct l G yX7_when (ws_ yX7_when cX7_when 3 (some .int)) ({ frames := 3, cells := 0, slots := 0, locals := 67 } : Room) [.ref h, .int x] [mO h ad i, (ad 0, .inl (G.2 0, 402, .inl f))] (fun u : (Nat → Int32) × (Nat → Int32) => some (.int (a_when f N x))) (fun u => Qf f u.1 ∧ Qi i u.2) (fun u => [mO h ad u.2, (ad 0, .inl (G.2 0, 402, .inl u.1))]) := by
  refine Ct.of rfl rfl ?_
  intro M el eG hnL C T
  subst el
  subst eG
  have C : Cx M cX7_when "ClockWardModel" ({ frames := 3, cells := 0, slots := 0, locals := 67 } : Room) := C
  refine V.lvs [0, 1] (lv2 := [(0, .ref h), (1, .int x)]) rfl ?_
  refine V.aload_n (pc' := 1) C 0 dX7_when_0 rfl rfl ?_
  refine V.iload_n (pc' := 2) C 1 dX7_when_1 rfl rfl ?_
  refine V.callV (pc' := 5) (wr := [(ad 0, .inl (M.G.2 0, 402, .inl f))]) C (ct_X7_isClock M.l M.G h ad i N x hN hN5) dX7_when_2 rfl (lw_V q1100 q1102 qs43 q71 q1103) hyv_X7_isClock rfl rfl 0 rfl rfl [0] [1] [1, 0] rfl rfl rfl (fun _ => [mO h ad i, (ad 0, .inl (M.G.2 0, 402, .inl f))]) (fun _ => rfl) rfl 0 0 rfl rfl (fun _ => [.int (bI (isC N x))]) (fun _ => rfl) (fun _ _ => ?_)
  refine V.if_neB (pc' := 8) C 10 dX7_when_5 rfl rfl (fun h1 => ?_) (fun h1 => ?_)
  · obtain ⟨c, hc, rfl⟩ := isC_nat hN5 h1
    refine V.aload_n (pc' := 11) C 0 dX7_when_10 rfl rfl ?_
    refine V.iconst (pc' := 12) C dX7_when_11 rfl kci_0 ?_
    refine V.sipush (pc' := 15) C dX7_when_12 rfl kcs_268 ?_
    refine V.callV (pc' := 18) (wr := []) C (ct_X7_copies M.l M.G h ad i f 0 268 (by omega) (by omega) (by omega)) dX7_when_15 rfl (lw_V q1197 q1199 qs55 q71 q1200) hyv_X7_copies rfl rfl 0 rfl rfl [0, 1] [] [0, 1] rfl rfl rfl (fun _ => [mO h ad i, (ad 0, .inl (M.G.2 0, 402, .inl (va_cpy f f 0 268 67)))]) (fun _ => rfl) rfl 0 0 rfl rfl (fun _ => []) (fun _ => rfl) (fun _ _ => ?_)
    refine V.weq (ws2 := [mO h ad i, (ad 0, .inl (M.G.2 0, 402, .inl (pp f 268 (cpP f 0 268))))]) (by rw [cpy_pp]) ?_
    refine V.iconst (pc' := 19) C dX7_when_18 rfl kci_0 ?_
    refine V.istore_n (pc' := 20) C [(2, .int 0), (0, .ref h), (1, .int (nI c))] dX7_when_19 rfl 3 hnL rfl rfl ?_
    have L2 : ∀ k : Nat, k ≤ 61 → whenAt f N c 0 = whenAt f N c k → V M 0 0 [mO h ad i, (ad 0, .inl (M.G.2 0, 402, .inl (pp f 268 (nightsTo (cpP f 0 268) N k))))] [(0, .ref h), (1, .int (nI c)), (2, .int (nI k))] [] 20 := by
      refine loopN _ 61 (fun k hk ih_L2 => ?_)
      intro  hw0
      refine V.iload_n (pc' := 21) C 2 dX7_when_20 rfl rfl ?_
      refine V.bipush (pc' := 23) C dX7_when_21 rfl kcb_60 ?_
      refine V.icmp_gtN (pc' := 26) C k 60 (by omega) (by omega) 56 dX7_when_23 rfl rfl (fun h3 => ?_) (fun h3 => ?_)
      · have hx4 : 61 = k := by omega
        subst hx4
        refine V.bipush (pc' := 58) C dX7_when_56 rfl kcb_m4 ?_
        exact V.iret C T dX7_when_58 (pp f 268 (nightsTo (cpP f 0 268) N 61), i) rfl rfl (Eq.trans (by rw [cn_nI (by omega), hw0]; rfl) (if_pos h1).symm) rfl ⟨(Qf.pp (by omega)), rfl, rfl, rfl, rfl, rfl⟩ rfl rfl rfl
      · refine V.aload_n (pc' := 27) C 0 dX7_when_26 rfl rfl ?_
        refine V.get (pc' := 30) C dX7_when_27 rfl 0 rfl rfl in_X7 0 rfl q929 rfl ?_
        refine V.sipush (pc' := 33) C dX7_when_30 rfl kcs_283 ?_
        refine V.iload_n (pc' := 34) C 1 dX7_when_33 rfl rfl ?_
        refine V.iaddN (pc' := 35) C 283 c dX7_when_34 rfl ?_
        refine V.topN (a := 283 + c) (b := 268 + (15 + c)) (by omega) ?_
        refine V.iald (pc' := 36) C (268 + (15 + c)) dX7_when_35 rfl 1 rfl (by omega) rfl ?_
        refine V.topI (pp_at _ _ _ _) ?_
        refine V.topI (y := nightsTo f N k (15 + c)) ((nightsTo_ag (ag_cp f 268) hN5 k) (15 + c) (by omega)) ?_
        refine V.bipush (pc' := 38) C dX7_when_36 rfl kcb_50 ?_
        refine V.icmp_ne (pc' := 41) C 43 dX7_when_38 rfl rfl (fun h5 => ?_) (fun h5 => ?_)
        · refine V.aload_n (pc' := 44) C 0 dX7_when_43 rfl rfl ?_
          refine V.sipush (pc' := 47) C dX7_when_44 rfl kcs_268 ?_
          refine V.callV (pc' := 50) (wr := []) C (ct_X7_nightOn M.l M.G h ad i (pp f 268 (nightsTo (cpP f 0 268) N k)) N 268 hN hN5 (by omega)) dX7_when_47 rfl (lw_V q1185 q1187 qs53 q71 q1188) hyv_X7_nightOn rfl rfl 0 rfl rfl [0, 1] [] [0, 1] rfl rfl rfl (fun _ => [mO h ad i, (ad 0, .inl (M.G.2 0, 402, .inl (pp (pp f 268 (nightsTo (cpP f 0 268) N k)) 268 (night (pg (pp f 268 (nightsTo (cpP f 0 268) N k)) 268) N))))]) (fun _ => rfl) rfl 0 0 rfl rfl (fun _ => []) (fun _ => rfl) (fun _ _ => ?_)
          refine V.weq (ws2 := [mO h ad i, (ad 0, .inl (M.G.2 0, 402, .inl (pp f 268 (night (nightsTo (cpP f 0 268) N k) N))))]) (by rw [pg_pp, pp_pp]) ?_
          refine V.iinc (pc' := 53) C (nI (k + 1)) [(2, .int (nI (k + 1))), (0, .ref h), (1, .int (nI c))] dX7_when_50 rfl 3 hnL rfl 2 rfl (ii_N k 1 rfl) rfl ?_
          refine V.goto C 20 dX7_when_53 rfl ?_
          refine V.lvs [1, 2, 0] (lv2 := [(0, .ref h), (1, .int (nI c)), (2, .int (nI (k + 1)))]) rfl ?_
          refine V.weq (ws2 := [mO h ad i, (ad 0, .inl (M.G.2 0, 402, .inl (pp f 268 (nightsTo (cpP f 0 268) N (k + 1)))))]) rfl ?_
          exact ih_L2 (by omega) (hw0.trans (whenAt_s (by omega) h5))
        · refine V.iload_n (pc' := 42) C 2 dX7_when_41 rfl rfl ?_
          exact V.iret C T dX7_when_42 (pp f 268 (nightsTo (cpP f 0 268) N k), i) rfl rfl (Eq.trans (by rw [cn_nI (by omega), hw0, whenAt_f (by omega) h5]) (if_pos h1).symm) rfl ⟨(Qf.pp (by omega)), rfl, rfl, rfl, rfl, rfl⟩ rfl rfl rfl
    refine V.lvs [1, 2, 0] (lv2 := [(0, .ref h), (1, .int (nI c)), (2, .int (nI 0))]) rfl ?_
    refine V.weq (ws2 := [mO h ad i, (ad 0, .inl (M.G.2 0, 402, .inl (pp f 268 (nightsTo (cpP f 0 268) N 0))))]) rfl ?_
    exact L2 0 (by omega) rfl
  · refine V.iconst (pc' := 9) C dX7_when_8 rfl kci_m1 ?_
    exact V.iret C T dX7_when_9 (f, i) rfl rfl (if_neg (fun z => h1 z)).symm rfl ⟨(Qf.rf _), rfl, rfl, rfl, rfl, rfl⟩ rfl rfl rfl
set_option maxHeartbeats 4000000 in
theorem ct_X7_together (l : Launch) (G : GG) (h : Nat) (ad : Nat → Nat) (i : Nat → Int32) (f : Nat → Int32) (N : Nat) (x : Int32) (hN : i 1 = nI N) (hN5 : N ≤ 5) : Ct l G yX7_together (ws_ yX7_together cX7_together 6 (some .int)) ({ frames := 3, cells := 0, slots := 0, locals := 67 } : Room) [.ref h, .int x] [mO h ad i, (ad 0, .inl (G.2 0, 402, .inl f))] (fun u : (Nat → Int32) × (Nat → Int32) => some (.int (a_tog f N x))) (fun u => Qf f u.1 ∧ Qi i u.2) (fun u => [mO h ad u.2, (ad 0, .inl (G.2 0, 402, .inl u.1))]) := by
  refine Ct.of rfl rfl ?_
  intro M el eG hnL C T
  subst el
  subst eG
  have C : Cx M cX7_together "ClockWardModel" ({ frames := 3, cells := 0, slots := 0, locals := 67 } : Room) := C
  refine V.lvs [0, 1] (lv2 := [(0, .ref h), (1, .int x)]) rfl ?_
  refine V.iload_n (pc' := 1) C 1 dX7_together_0 rfl rfl ?_
  refine V.i2l (pc' := 2) C dX7_together_1 rfl ?_
  refine V.lconst (pc' := 3) C dX7_together_2 rfl kcl_0 ?_
  refine V.lconst (pc' := 4) C dX7_together_3 rfl kcl_1 ?_
  refine V.callS (pc' := 7) (wr := [mO h ad i, (ad 0, .inl (M.G.2 0, 402, .inl f))]) C (ct_X7_in M.l M.G x 0 1 ) dX7_together_4 rfl (lw_S q1032 q1033 q71 q1034) hys_X7_in rfl rfl [] [0, 1] [0, 1] rfl rfl rfl (fun _ => [mO h ad i, (ad 0, .inl (M.G.2 0, 402, .inl f))]) (fun _ => rfl) rfl 0 0 rfl rfl (fun _ => [.int (bI (inI x 0 1))]) (fun _ => rfl) (fun _ _ => ?_)
  refine V.if_neB (pc' := 10) C 12 dX7_together_7 rfl rfl (fun h1 => ?_) (fun h1 => ?_)
  · refine V.aload_n (pc' := 13) C 0 dX7_together_12 rfl rfl ?_
    refine V.iconst (pc' := 14) C dX7_together_13 rfl kci_0 ?_
    refine V.sipush (pc' := 17) C dX7_together_14 rfl kcs_268 ?_
    refine V.callV (pc' := 20) (wr := []) C (ct_X7_copies M.l M.G h ad i f 0 268 (by omega) (by omega) (by omega)) dX7_together_17 rfl (lw_V q1197 q1199 qs55 q71 q1200) hyv_X7_copies rfl rfl 0 rfl rfl [0, 1] [] [0, 1] rfl rfl rfl (fun _ => [mO h ad i, (ad 0, .inl (M.G.2 0, 402, .inl (va_cpy f f 0 268 67)))]) (fun _ => rfl) rfl 0 0 rfl rfl (fun _ => []) (fun _ => rfl) (fun _ _ => ?_)
    refine V.weq (ws2 := [mO h ad i, (ad 0, .inl (M.G.2 0, 402, .inl (pp f 268 (cpP f 0 268))))]) (by rw [cpy_pp]) ?_
    refine V.iconst (pc' := 21) C dX7_together_20 rfl kci_m1 ?_
    refine V.istore_n (pc' := 22) C [(2, .int (-1)), (0, .ref h), (1, .int x)] dX7_together_21 rfl 6 hnL rfl rfl ?_
    refine V.iconst (pc' := 23) C dX7_together_22 rfl kci_0 ?_
    refine V.istore_n (pc' := 24) C [(3, .int 0), (2, .int (-1)), (0, .ref h), (1, .int x)] dX7_together_23 rfl 6 hnL rfl rfl ?_
    refine V.iconst (pc' := 25) C dX7_together_24 rfl kci_0 ?_
    refine V.istore (pc' := 27) C [(4, .int 0), (3, .int 0), (2, .int (-1)), (0, .ref h), (1, .int x)] dX7_together_25 rfl 6 hnL rfl rfl ?_
    have L2 : ∀ k : Nat, k ≤ 61 → V M 0 0 [mO h ad i, (ad 0, .inl (M.G.2 0, 402, .inl (pp f 268 (nightsTo (cpP f 0 268) N k))))] [(0, .ref h), (1, .int x), (2, .int (togM f N k)), (3, .int (togW f N k)), (4, .int (nI k))] [] 27 := by
      refine loopN _ 61 (fun k hk ih_L2 => ?_)
      refine V.iload (pc' := 29) C 4 dX7_together_27 rfl rfl ?_
      refine V.bipush (pc' := 31) C dX7_together_29 rfl kcb_60 ?_
      refine V.icmp_gtN (pc' := 34) C k 60 (by omega) (by omega) 85 dX7_together_31 rfl rfl (fun h3 => ?_) (fun h3 => ?_)
      · have hx4 : 61 = k := by omega
        subst hx4
        refine V.iload_n (pc' := 86) C 1 dX7_together_85 rfl rfl ?_
        refine V.if_ne (pc' := 89) C 93 dX7_together_86 rfl rfl (fun h5 => ?_) (fun h5 => ?_)
        · refine V.iload_n (pc' := 94) C 2 dX7_together_93 rfl rfl ?_
          exact V.iret C T dX7_together_94 (pp f 268 (nightsTo (cpP f 0 268) N 61), i) rfl rfl (Eq.trans (by rw [if_neg h5]) (if_pos h1).symm) rfl ⟨(Qf.pp (by omega)), rfl, rfl, rfl, rfl, rfl⟩ rfl rfl rfl
        · refine V.iload_n (pc' := 90) C 3 dX7_together_89 rfl rfl ?_
          refine V.goto C 94 dX7_together_90 rfl ?_
          exact V.iret C T dX7_together_94 (pp f 268 (nightsTo (cpP f 0 268) N 61), i) rfl rfl (Eq.trans (by rw [if_pos h5]) (if_pos h1).symm) rfl ⟨(Qf.pp (by omega)), rfl, rfl, rfl, rfl, rfl⟩ rfl rfl rfl
      · refine V.aload_n (pc' := 35) C 0 dX7_together_34 rfl rfl ?_
        refine V.sipush (pc' := 38) C dX7_together_35 rfl kcs_268 ?_
        refine V.callV (pc' := 41) (wr := []) C (ct_X7_rightOn M.l M.G h ad i (pp f 268 (nightsTo (cpP f 0 268) N k)) N 268 hN hN5 (by omega)) dX7_together_38 rfl (lw_V q1092 q1094 qs42 q71 q1095) hyv_X7_rightOn rfl rfl 0 rfl rfl [0, 1] [] [0, 1] rfl rfl rfl (fun _ => [mO h ad i, (ad 0, .inl (M.G.2 0, 402, .inl (pp f 268 (nightsTo (cpP f 0 268) N k))))]) (fun _ => rfl) rfl 0 0 rfl rfl (fun _ => [.int (rightTo (pg (pp f 268 (nightsTo (cpP f 0 268) N k)) 268) N)]) (fun _ => rfl) (fun _ _ => ?_)
        refine V.topI (y := rightTo (nightsTo f N k) N) (by rw [pg_pp]; exact rightTo_ag (nightsTo_ag (ag_cp f 268) hN5 k) N hN5) ?_
        refine V.callS (pc' := 44) (wr := [mO h ad i, (ad 0, .inl (M.G.2 0, 402, .inl (pp f 268 (nightsTo (cpP f 0 268) N k))))]) C (ct_X7_bitsOf M.l M.G (rightTo (nightsTo f N k) N) ) dX7_together_41 rfl (lw_S q1218 q1219 q71 q1220) hys_X7_bitsOf rfl rfl [] [0, 1] [0, 1] rfl rfl rfl (fun _ => [mO h ad i, (ad 0, .inl (M.G.2 0, 402, .inl (pp f 268 (nightsTo (cpP f 0 268) N k))))]) (fun _ => rfl) rfl 0 0 rfl rfl (fun _ => [.int (bitsTo (rightTo (nightsTo f N k) N) 7)]) (fun _ => rfl) (fun _ _ => ?_)
        refine V.istore (pc' := 46) C [(5, .int (bitsTo (rightTo (nightsTo f N k) N) 7)), (0, .ref h), (1, .int x), (2, .int (togM f N k)), (3, .int (togW f N k)), (4, .int (nI k))] dX7_together_44 rfl 6 hnL rfl rfl ?_
        refine V.iload (pc' := 48) C 0 dX7_together_46 rfl rfl ?_
        refine V.iload_n (pc' := 49) C 3 dX7_together_48 rfl rfl ?_
        have J8 : ∀ (x7 : Int32), x7 = (if (bitsTo (rightTo (nightsTo f N k) N) 7) ≤ (togM f N k) then togW f N k else nI k) → V M 0 0 [mO h ad i, (ad 0, .inl (M.G.2 0, 402, .inl (pp f 268 (nightsTo (cpP f 0 268) N k))))] [(5, .int (bitsTo (rightTo (nightsTo f N k) N) 7)), (0, .ref h), (1, .int x), (2, .int (togM f N k)), (3, .int (togW f N k)), (4, .int (nI k))] [.int x7] 58 := by
          intro x7 ex7
          subst ex7
          refine V.istore_n (pc' := 59) C [(3, .int (if (bitsTo (rightTo (nightsTo f N k) N) 7) ≤ (togM f N k) then togW f N k else nI k)), (5, .int (bitsTo (rightTo (nightsTo f N k) N) 7)), (0, .ref h), (1, .int x), (2, .int (togM f N k)), (4, .int (nI k))] dX7_together_58 rfl 6 hnL rfl rfl ?_
          refine V.iload (pc' := 61) C 1 dX7_together_59 rfl rfl ?_
          refine V.iload_n (pc' := 62) C 4 dX7_together_61 rfl rfl ?_
          have J11 : ∀ (x10 : Int32), x10 = (if (bitsTo (rightTo (nightsTo f N k) N) 7) ≤ (togM f N k) then togM f N k else bitsTo (rightTo (nightsTo f N k) N) 7) → V M 0 0 [mO h ad i, (ad 0, .inl (M.G.2 0, 402, .inl (pp f 268 (nightsTo (cpP f 0 268) N k))))] [(3, .int (if (bitsTo (rightTo (nightsTo f N k) N) 7) ≤ (togM f N k) then togW f N k else nI k)), (5, .int (bitsTo (rightTo (nightsTo f N k) N) 7)), (0, .ref h), (1, .int x), (2, .int (togM f N k)), (4, .int (nI k))] [.int x10] 71 := by
            intro x10 ex10
            subst ex10
            refine V.istore_n (pc' := 72) C [(2, .int (if (bitsTo (rightTo (nightsTo f N k) N) 7) ≤ (togM f N k) then togM f N k else bitsTo (rightTo (nightsTo f N k) N) 7)), (3, .int (if (bitsTo (rightTo (nightsTo f N k) N) 7) ≤ (togM f N k) then togW f N k else nI k)), (5, .int (bitsTo (rightTo (nightsTo f N k) N) 7)), (0, .ref h), (1, .int x), (4, .int (nI k))] dX7_together_71 rfl 6 hnL rfl rfl ?_
            refine V.aload_n (pc' := 73) C 3 dX7_together_72 rfl rfl ?_
            refine V.sipush (pc' := 76) C dX7_together_73 rfl kcs_268 ?_
            refine V.callV (pc' := 79) (wr := []) C (ct_X7_nightOn M.l M.G h ad i (pp f 268 (nightsTo (cpP f 0 268) N k)) N 268 hN hN5 (by omega)) dX7_together_76 rfl (lw_V q1185 q1187 qs53 q71 q1188) hyv_X7_nightOn rfl rfl 0 rfl rfl [0, 1] [] [0, 1] rfl rfl rfl (fun _ => [mO h ad i, (ad 0, .inl (M.G.2 0, 402, .inl (pp (pp f 268 (nightsTo (cpP f 0 268) N k)) 268 (night (pg (pp f 268 (nightsTo (cpP f 0 268) N k)) 268) N))))]) (fun _ => rfl) rfl 0 0 rfl rfl (fun _ => []) (fun _ => rfl) (fun _ _ => ?_)
            refine V.weq (ws2 := [mO h ad i, (ad 0, .inl (M.G.2 0, 402, .inl (pp f 268 (night (nightsTo (cpP f 0 268) N k) N))))]) (by rw [pg_pp, pp_pp]) ?_
            refine V.iinc (pc' := 82) C (nI (k + 1)) [(4, .int (nI (k + 1))), (2, .int (if (bitsTo (rightTo (nightsTo f N k) N) 7) ≤ (togM f N k) then togM f N k else bitsTo (rightTo (nightsTo f N k) N) 7)), (3, .int (if (bitsTo (rightTo (nightsTo f N k) N) 7) ≤ (togM f N k) then togW f N k else nI k)), (5, .int (bitsTo (rightTo (nightsTo f N k) N) 7)), (0, .ref h), (1, .int x)] dX7_together_79 rfl 6 hnL rfl 5 rfl (ii_N k 1 rfl) rfl ?_
            refine V.goto C 27 dX7_together_82 rfl ?_
            refine V.lvs [4, 5, 1, 2, 0] (lv2 := [(0, .ref h), (1, .int x), (2, .int (togM f N (k + 1))), (3, .int (togW f N (k + 1))), (4, .int (nI (k + 1)))]) rfl ?_
            refine V.weq (ws2 := [mO h ad i, (ad 0, .inl (M.G.2 0, 402, .inl (pp f 268 (nightsTo (cpP f 0 268) N (k + 1)))))]) rfl ?_
            exact ih_L2 (by omega)
          refine V.icmp_le (pc' := 65) C 70 dX7_together_62 rfl rfl (fun h9 => ?_) (fun h9 => ?_)
          · refine V.iload_n (pc' := 71) C 4 dX7_together_70 rfl rfl ?_
            exact J11 _ (by rw [if_pos h9])
          · refine V.iload (pc' := 67) C 1 dX7_together_65 rfl rfl ?_
            refine V.goto C 71 dX7_together_67 rfl ?_
            exact J11 _ (by rw [if_neg h9])
        refine V.icmp_le (pc' := 52) C 57 dX7_together_49 rfl rfl (fun h6 => ?_) (fun h6 => ?_)
        · refine V.iload_n (pc' := 58) C 4 dX7_together_57 rfl rfl ?_
          exact J8 _ (by rw [if_pos h6])
        · refine V.iload (pc' := 54) C 5 dX7_together_52 rfl rfl ?_
          refine V.goto C 58 dX7_together_54 rfl ?_
          exact J8 _ (by rw [if_neg h6])
    refine V.lvs [3, 4, 2, 1, 0] (lv2 := [(0, .ref h), (1, .int x), (2, .int (togM f N 0)), (3, .int (togW f N 0)), (4, .int (nI 0))]) rfl ?_
    refine V.weq (ws2 := [mO h ad i, (ad 0, .inl (M.G.2 0, 402, .inl (pp f 268 (nightsTo (cpP f 0 268) N 0))))]) rfl ?_
    exact L2 0 (by omega)
  · refine V.iconst (pc' := 11) C dX7_together_10 rfl kci_m1 ?_
    exact V.iret C T dX7_together_11 (f, i) rfl rfl (if_neg (fun z => h1 z)).symm rfl ⟨(Qf.rf _), rfl, rfl, rfl, rfl, rfl⟩ rfl rfl rfl
set_option maxHeartbeats 4000000 in
theorem ct_X7_donor (l : Launch) (G : GG) (h : Nat) (ad : Nat → Nat) (i : Nat → Int32) (f : Nat → Int32) (N : Nat) (x : Int32) (y : Int32) (hN : i 1 = nI N) (hN5 : N ≤ 5) : Ct l G yX7_donor (ws_ yX7_donor cX7_donor 7 (some .int)) ({ frames := 4, cells := 0, slots := 0, locals := 94 } : Room) [.ref h, .int x, .int y] [mO h ad i, (ad 0, .inl (G.2 0, 402, .inl f))] (fun _ : Unit => some (.int (a_donor f N x y))) (fun _ => True) (fun _ => [mO h ad i, (ad 0, .inl (G.2 0, 402, .inl f))]) := by
  refine Ct.of rfl rfl ?_
  intro M el eG hnL C T
  subst el
  subst eG
  have C : Cx M cX7_donor "ClockWardModel" ({ frames := 4, cells := 0, slots := 0, locals := 94 } : Room) := C
  refine V.lvs [0, 1, 2] (lv2 := [(0, .ref h), (1, .int x), (2, .int y)]) rfl ?_
  refine V.aload_n (pc' := 1) C 0 dX7_donor_0 rfl rfl ?_
  refine V.iload_n (pc' := 2) C 1 dX7_donor_1 rfl rfl ?_
  refine V.callV (pc' := 5) (wr := [(ad 0, .inl (M.G.2 0, 402, .inl f))]) C (ct_X7_isClock M.l M.G h ad i N x hN hN5) dX7_donor_2 rfl (lw_V q1100 q1102 qs43 q71 q1103) hyv_X7_isClock rfl rfl 0 rfl rfl [0] [1] [1, 0] rfl rfl rfl (fun _ => [mO h ad i, (ad 0, .inl (M.G.2 0, 402, .inl f))]) (fun _ => rfl) rfl 0 0 rfl rfl (fun _ => [.int (bI (isC N x))]) (fun _ => rfl) (fun _ _ => ?_)
  refine V.if_eqB (pc' := 8) C 18 dX7_donor_5 rfl rfl (fun h1 => ?_) (fun h1 => ?_)
  · refine V.iconst (pc' := 19) C dX7_donor_18 rfl kci_m1 ?_
    exact V.iret C T dX7_donor_19 () rfl rfl (if_neg (fun z => h1 z.1)).symm rfl trivial rfl rfl rfl
  · obtain ⟨c, hc, rfl⟩ := isC_nat hN5 h1
    refine V.iload_n (pc' := 9) C 2 dX7_donor_8 rfl rfl ?_
    refine V.i2l (pc' := 10) C dX7_donor_9 rfl ?_
    refine V.lconst (pc' := 11) C dX7_donor_10 rfl kcl_0 ?_
    refine V.lconst (pc' := 12) C dX7_donor_11 rfl kcl_1 ?_
    refine V.callS (pc' := 15) (wr := [mO h ad i, (ad 0, .inl (M.G.2 0, 402, .inl f))]) C (ct_X7_in M.l M.G y 0 1 ) dX7_donor_12 rfl (lw_S q1032 q1033 q71 q1034) hys_X7_in rfl rfl [] [0, 1] [0, 1] rfl rfl rfl (fun _ => [mO h ad i, (ad 0, .inl (M.G.2 0, 402, .inl f))]) (fun _ => rfl) rfl 0 0 rfl rfl (fun _ => [.int (bI (inI y 0 1))]) (fun _ => rfl) (fun _ _ => ?_)
    refine V.if_neB (pc' := 18) C 20 dX7_donor_15 rfl rfl (fun h2 => ?_) (fun h2 => ?_)
    · refine V.iconst (pc' := 21) C dX7_donor_20 rfl kci_0 ?_
      refine V.istore_n (pc' := 22) C [(3, .int 0), (0, .ref h), (1, .int (nI c)), (2, .int y)] dX7_donor_21 rfl 7 hnL rfl rfl ?_
      refine V.bipush (pc' := 24) C dX7_donor_22 rfl kcb_m4 ?_
      refine V.istore (pc' := 26) C [(4, .int (-4)), (3, .int 0), (0, .ref h), (1, .int (nI c)), (2, .int y)] dX7_donor_24 rfl 7 hnL rfl rfl ?_
      refine V.iconst (pc' := 27) C dX7_donor_26 rfl kci_0 ?_
      refine V.istore (pc' := 29) C [(5, .int 0), (4, .int (-4)), (3, .int 0), (0, .ref h), (1, .int (nI c)), (2, .int y)] dX7_donor_27 rfl 7 hnL rfl rfl ?_
      have L3 : ∀ a : Nat, a ≤ N → V M 0 0 [mO h ad i, (ad 0, .inl (M.G.2 0, 402, .inl f))] [(0, .ref h), (1, .int (nI c)), (2, .int y), (3, .int (donM f c a)), (4, .int (donW f c a)), (5, .int (nI a))] [] 29 := by
        refine loopN _ N (fun a ha ih_L3 => ?_)
        refine V.iload (pc' := 31) C 5 dX7_donor_29 rfl rfl ?_
        refine V.aload_n (pc' := 32) C 0 dX7_donor_31 rfl rfl ?_
        refine V.get (pc' := 35) C dX7_donor_32 rfl 0 rfl rfl in_X7 1 rfl q930 rfl ?_
        refine V.topI hN ?_
        refine V.icmp_geN (pc' := 38) C a N (by omega) (by omega) 98 dX7_donor_35 rfl rfl (fun h4 => ?_) (fun h4 => ?_)
        · have hx5 : N = a := by omega
          subst hx5
          refine V.iload (pc' := 100) C 4 dX7_donor_98 rfl rfl ?_
          refine V.bipush (pc' := 102) C dX7_donor_100 rfl kcb_m4 ?_
          refine V.icmp_eq (pc' := 105) C 109 dX7_donor_102 rfl rfl (fun h6 => ?_) (fun h6 => ?_)
          · refine V.iload (pc' := 111) C 4 dX7_donor_109 rfl rfl ?_
            refine V.goto C 115 dX7_donor_111 rfl ?_
            exact V.iret C T dX7_donor_115 () rfl rfl (Eq.trans (by rw [cn_nI (by omega), if_pos (Or.inl h6)]) (if_pos ⟨h1, h2⟩).symm) rfl trivial rfl rfl rfl
          · refine V.iload_n (pc' := 106) C 2 dX7_donor_105 rfl rfl ?_
            refine V.if_ne (pc' := 109) C 114 dX7_donor_106 rfl rfl (fun h7 => ?_) (fun h7 => ?_)
            · refine V.iload_n (pc' := 115) C 3 dX7_donor_114 rfl rfl ?_
              exact V.iret C T dX7_donor_115 () rfl rfl (Eq.trans (by rw [cn_nI (by omega), if_neg (fun z => z.elim h6 h7)]) (if_pos ⟨h1, h2⟩).symm) rfl trivial rfl rfl rfl
            · refine V.iload (pc' := 111) C 4 dX7_donor_109 rfl rfl ?_
              refine V.goto C 115 dX7_donor_111 rfl ?_
              exact V.iret C T dX7_donor_115 () rfl rfl (Eq.trans (by rw [cn_nI (by omega), if_pos (Or.inr h7)]) (if_pos ⟨h1, h2⟩).symm) rfl trivial rfl rfl rfl
        · refine V.iload (pc' := 40) C 5 dX7_donor_38 rfl rfl ?_
          refine V.iload_n (pc' := 41) C 1 dX7_donor_40 rfl rfl ?_
          have J10 : ∀ (x9 : Int32), x9 = (if a = c then 0 else gets2 f a c (mostTo f a c 9)) → V M 0 0 [mO h ad i, (ad 0, .inl (M.G.2 0, 402, .inl f))] [(0, .ref h), (1, .int (nI c)), (2, .int y), (3, .int (donM f c a)), (4, .int (donW f c a)), (5, .int (nI a))] [.int x9] 62 := by
            intro x9 ex9
            subst ex9
            refine V.istore (pc' := 64) C [(6, .int (if a = c then 0 else gets2 f a c (mostTo f a c 9))), (0, .ref h), (1, .int (nI c)), (2, .int y), (3, .int (donM f c a)), (4, .int (donW f c a)), (5, .int (nI a))] dX7_donor_62 rfl 7 hnL rfl rfl ?_
            refine V.iload (pc' := 66) C 0 dX7_donor_64 rfl rfl ?_
            refine V.iload_n (pc' := 67) C 4 dX7_donor_66 rfl rfl ?_
            have J13 : ∀ (x12 : Int32), x12 = (if (if a = c then 0 else gets2 f a c (mostTo f a c 9)) ≤ (donM f c a) then donW f c a else nI a) → V M 0 0 [mO h ad i, (ad 0, .inl (M.G.2 0, 402, .inl f))] [(6, .int (if a = c then 0 else gets2 f a c (mostTo f a c 9))), (0, .ref h), (1, .int (nI c)), (2, .int y), (3, .int (donM f c a)), (4, .int (donW f c a)), (5, .int (nI a))] [.int x12] 77 := by
              intro x12 ex12
              subst ex12
              refine V.istore (pc' := 79) C [(4, .int (if (if a = c then 0 else gets2 f a c (mostTo f a c 9)) ≤ (donM f c a) then donW f c a else nI a)), (6, .int (if a = c then 0 else gets2 f a c (mostTo f a c 9))), (0, .ref h), (1, .int (nI c)), (2, .int y), (3, .int (donM f c a)), (5, .int (nI a))] dX7_donor_77 rfl 7 hnL rfl rfl ?_
              refine V.iload (pc' := 81) C 1 dX7_donor_79 rfl rfl ?_
              refine V.iload_n (pc' := 82) C 5 dX7_donor_81 rfl rfl ?_
              have J16 : ∀ (x15 : Int32), x15 = (if (if a = c then 0 else gets2 f a c (mostTo f a c 9)) ≤ (donM f c a) then donM f c a else if a = c then 0 else gets2 f a c (mostTo f a c 9)) → V M 0 0 [mO h ad i, (ad 0, .inl (M.G.2 0, 402, .inl f))] [(4, .int (if (if a = c then 0 else gets2 f a c (mostTo f a c 9)) ≤ (donM f c a) then donW f c a else nI a)), (6, .int (if a = c then 0 else gets2 f a c (mostTo f a c 9))), (0, .ref h), (1, .int (nI c)), (2, .int y), (3, .int (donM f c a)), (5, .int (nI a))] [.int x15] 91 := by
                intro x15 ex15
                subst ex15
                refine V.istore_n (pc' := 92) C [(3, .int (if (if a = c then 0 else gets2 f a c (mostTo f a c 9)) ≤ (donM f c a) then donM f c a else if a = c then 0 else gets2 f a c (mostTo f a c 9))), (4, .int (if (if a = c then 0 else gets2 f a c (mostTo f a c 9)) ≤ (donM f c a) then donW f c a else nI a)), (6, .int (if a = c then 0 else gets2 f a c (mostTo f a c 9))), (0, .ref h), (1, .int (nI c)), (2, .int y), (5, .int (nI a))] dX7_donor_91 rfl 7 hnL rfl rfl ?_
                refine V.iinc (pc' := 95) C (nI (a + 1)) [(5, .int (nI (a + 1))), (3, .int (if (if a = c then 0 else gets2 f a c (mostTo f a c 9)) ≤ (donM f c a) then donM f c a else if a = c then 0 else gets2 f a c (mostTo f a c 9))), (4, .int (if (if a = c then 0 else gets2 f a c (mostTo f a c 9)) ≤ (donM f c a) then donW f c a else nI a)), (6, .int (if a = c then 0 else gets2 f a c (mostTo f a c 9))), (0, .ref h), (1, .int (nI c)), (2, .int y)] dX7_donor_92 rfl 7 hnL rfl 6 rfl (ii_N a 1 rfl) rfl ?_
                refine V.goto C 29 dX7_donor_95 rfl ?_
                refine V.lvs [4, 5, 6, 1, 2, 0] (lv2 := [(0, .ref h), (1, .int (nI c)), (2, .int y), (3, .int (donM f c (a + 1))), (4, .int (donW f c (a + 1))), (5, .int (nI (a + 1)))]) rfl ?_
                exact ih_L3 (by omega)
              refine V.icmp_le (pc' := 85) C 90 dX7_donor_82 rfl rfl (fun h14 => ?_) (fun h14 => ?_)
              · refine V.iload_n (pc' := 91) C 5 dX7_donor_90 rfl rfl ?_
                exact J16 _ (by rw [if_pos h14])
              · refine V.iload (pc' := 87) C 1 dX7_donor_85 rfl rfl ?_
                refine V.goto C 91 dX7_donor_87 rfl ?_
                exact J16 _ (by rw [if_neg h14])
            refine V.icmp_le (pc' := 70) C 75 dX7_donor_67 rfl rfl (fun h11 => ?_) (fun h11 => ?_)
            · refine V.iload (pc' := 77) C 5 dX7_donor_75 rfl rfl ?_
              exact J13 _ (by rw [if_pos h11])
            · refine V.iload (pc' := 72) C 6 dX7_donor_70 rfl rfl ?_
              refine V.goto C 77 dX7_donor_72 rfl ?_
              exact J13 _ (by rw [if_neg h11])
          refine V.icmp_neN (pc' := 44) C a c (by omega) (by omega) 48 dX7_donor_41 rfl rfl (fun h8 => ?_) (fun h8 => ?_)
          · refine V.aload_n (pc' := 49) C 0 dX7_donor_48 rfl rfl ?_
            refine V.iload (pc' := 51) C 5 dX7_donor_49 rfl rfl ?_
            refine V.iload_n (pc' := 52) C 1 dX7_donor_51 rfl rfl ?_
            refine V.aload_n (pc' := 53) C 0 dX7_donor_52 rfl rfl ?_
            refine V.iload (pc' := 55) C 5 dX7_donor_53 rfl rfl ?_
            refine V.iload_n (pc' := 56) C 1 dX7_donor_55 rfl rfl ?_
            refine V.callV (pc' := 59) (wr := []) C (ct_X7_mostOf M.l M.G h ad i f a c (by omega) (by omega)) dX7_donor_56 rfl (lw_V q1152 q1154 qs47 q71 q1155) hyv_X7_mostOf rfl rfl 0 rfl rfl [0, 1] [] [0, 1] rfl rfl rfl (fun _ => [mO h ad i, (ad 0, .inl (M.G.2 0, 402, .inl f))]) (fun _ => rfl) rfl 0 0 rfl rfl (fun _ => [.int (mostTo f a c 9), .int (nI c), .int (nI a), .ref h]) (fun _ => rfl) (fun _ _ => ?_)
            refine V.callV (pc' := 62) (wr := []) C (ct_X7_getsBy M.l M.G h ad i f a c (mostTo f a c 9) (by omega) (by omega)) dX7_donor_59 rfl (lw_V q1164 q1166 qs50 q71 q1167) hyv_X7_getsBy rfl rfl 0 rfl rfl [0, 1] [] [0, 1] rfl rfl rfl (fun _ => [mO h ad i, (ad 0, .inl (M.G.2 0, 402, .inl f))]) (fun _ => rfl) rfl 0 0 rfl rfl (fun _ => [.int (gets2 f a c (mostTo f a c 9))]) (fun _ => rfl) (fun _ _ => ?_)
            exact J10 _ (by rw [if_neg h8])
          · refine V.iconst (pc' := 45) C dX7_donor_44 rfl kci_0 ?_
            refine V.goto C 62 dX7_donor_45 rfl ?_
            exact J10 _ (by rw [if_pos h8])
      refine V.lvs [3, 4, 5, 2, 1, 0] (lv2 := [(0, .ref h), (1, .int (nI c)), (2, .int y), (3, .int (donM f c 0)), (4, .int (donW f c 0)), (5, .int (nI 0))]) rfl ?_
      exact L3 0 (by omega)
    · refine V.iconst (pc' := 19) C dX7_donor_18 rfl kci_m1 ?_
      exact V.iret C T dX7_donor_19 () rfl rfl (if_neg (fun z => h2 z.2)).symm rfl trivial rfl rfl rfl
