set_option maxRecDepth 100000
set_option maxHeartbeats 4000000 in
theorem ct_X7_isAsSeen (l : Launch) (G : GG) (h : Nat) (ad : Nat → Nat) (i : Nat → Int32) (f : Nat → Int32) (se : Nat → Int32) (tb : Nat → Int32) (N : Nat) (c : Nat) (row : Nat) (sm : Nat) (hN : i 1 = nI N) (hN5 : N ≤ 5) (hs : i 25 = nI sm) (hok : okS se N sm) (hc : c < 5) (hrow : row ≤ 6) : Ct l G yX7_isAsSeen (ws_ yX7_isAsSeen cX7_isAsSeen 6 (some .boolean)) ({ frames := 3, cells := 0, slots := 0, locals := 67 } : Room) [.ref h, .int (nI c), .int (nI row)] [mO h ad i, (ad 0, .inl (G.2 0, 402, .inl f)), (ad 24, .inl (G.2 0, 18, .inl se)), (ad 26, .inl (G.2 0, 147, .inl tb))] (fun _ : Unit => some (.int (bI (seenOk f se N sm)))) (fun _ => True) (fun _ => [mO h ad i, (ad 0, .inl (G.2 0, 402, .inl (pp f 268 (nightsTo (cpP f 0 268) N 21)))), (ad 24, .inl (G.2 0, 18, .inl se)), (ad 26, .inl (G.2 0, 147, .inl (tbRow tb (cpP f 0 268) N c row 21)))]) := by
  refine Ct.of rfl rfl ?_
  intro M el eG hnL C T
  subst el
  subst eG
  have C : Cx M cX7_isAsSeen "ClockWardModel" ({ frames := 3, cells := 0, slots := 0, locals := 67 } : Room) := C
  have hs6 := hok.1
  refine V.lvs [0, 1, 2] (lv2 := [(0, .ref h), (1, .int (nI c)), (2, .int (nI row))]) rfl ?_
  refine V.aload_n (pc' := 1) C 0 dX7_isAsSeen_0 rfl rfl ?_
  refine V.iconst (pc' := 2) C dX7_isAsSeen_1 rfl kci_0 ?_
  refine V.sipush (pc' := 5) C dX7_isAsSeen_2 rfl kcs_268 ?_
  refine V.callV (pc' := 8) (wr := [(ad 24, .inl (M.G.2 0, 18, .inl se)), (ad 26, .inl (M.G.2 0, 147, .inl tb))]) C (ct_X7_copies M.l M.G h ad i f 0 268 (by omega) (by omega) (by omega)) dX7_isAsSeen_5 rfl (lw_V q1197 q1199 qs55 q71 q1200) hyv_X7_copies rfl rfl 0 rfl rfl [0, 1] [2, 3] [2, 3, 0, 1] rfl rfl rfl (fun _ => [mO h ad i, (ad 0, .inl (M.G.2 0, 402, .inl (va_cpy f f 0 268 67))), (ad 24, .inl (M.G.2 0, 18, .inl se)), (ad 26, .inl (M.G.2 0, 147, .inl tb))]) (fun _ => rfl) rfl 0 0 rfl rfl (fun _ => []) (fun _ => rfl) (fun _ _ => ?_)
  refine V.weq (ws2 := [mO h ad i, (ad 0, .inl (M.G.2 0, 402, .inl (pp f 268 (cpP f 0 268)))), (ad 24, .inl (M.G.2 0, 18, .inl se)), (ad 26, .inl (M.G.2 0, 147, .inl tb))]) (by rw [cpy_pp]) ?_
  refine V.iconst (pc' := 9) C dX7_isAsSeen_8 rfl kci_1 ?_
  refine V.istore_n (pc' := 10) C [(3, .int 1), (0, .ref h), (1, .int (nI c)), (2, .int (nI row))] dX7_isAsSeen_9 rfl 6 hnL rfl rfl ?_
  refine V.iconst (pc' := 11) C dX7_isAsSeen_10 rfl kci_0 ?_
  refine V.istore (pc' := 13) C [(4, .int 0), (3, .int 1), (0, .ref h), (1, .int (nI c)), (2, .int (nI row))] dX7_isAsSeen_11 rfl 6 hnL rfl rfl ?_
  have L1 : ∀ k : Nat, k ≤ 21 → V M 0 0 [mO h ad i, (ad 0, .inl (M.G.2 0, 402, .inl (pp f 268 (nightsTo (cpP f 0 268) N k)))), (ad 24, .inl (M.G.2 0, 18, .inl se)), (ad 26, .inl (M.G.2 0, 147, .inl (tbRow tb (cpP f 0 268) N c row k)))] [(0, .ref h), (1, .int (nI c)), (2, .int (nI row)), (3, .int (bI (seenK (cpP f 0 268) se N sm k 0))), (4, .int (nI k))] [] 13 := by
    refine loopN _ 21 (fun k hk ih_L1 => ?_)
    refine V.iload (pc' := 15) C 4 dX7_isAsSeen_13 rfl rfl ?_
    refine V.bipush (pc' := 17) C dX7_isAsSeen_15 rfl kcb_20 ?_
    refine V.icmp_gtN (pc' := 20) C k 20 (by omega) (by omega) 131 dX7_isAsSeen_17 rfl rfl (fun h2 => ?_) (fun h2 => ?_)
    · have hx3 : 21 = k := by omega
      subst hx3
      refine V.iload_n (pc' := 132) C 3 dX7_isAsSeen_131 rfl rfl ?_
      exact V.iret C T dX7_isAsSeen_132 () rfl rfl (bI_iff ((seenK_e hok).trans (seenOk_ag (ag_cp f 268) hN5 hok))) bI_nar trivial rfl rfl rfl
    · refine V.aload_n (pc' := 21) C 0 dX7_isAsSeen_20 rfl rfl ?_
      refine V.get (pc' := 24) C dX7_isAsSeen_21 rfl 0 rfl rfl in_X7 26 rfl q955 rfl ?_
      refine V.bipush (pc' := 26) C dX7_isAsSeen_24 rfl kcb_21 ?_
      refine V.iload_n (pc' := 27) C 2 dX7_isAsSeen_26 rfl rfl ?_
      refine V.imulN (pc' := 28) C 21 row dX7_isAsSeen_27 rfl ?_
      refine V.iload (pc' := 30) C 4 dX7_isAsSeen_28 rfl rfl ?_
      refine V.iaddN (pc' := 31) C (21 * row) k dX7_isAsSeen_30 rfl ?_
      refine V.aload_n (pc' := 32) C 0 dX7_isAsSeen_31 rfl rfl ?_
      refine V.get (pc' := 35) C dX7_isAsSeen_32 rfl 0 rfl rfl in_X7 0 rfl q929 rfl ?_
      refine V.sipush (pc' := 38) C dX7_isAsSeen_35 rfl kcs_283 ?_
      refine V.iload_n (pc' := 39) C 1 dX7_isAsSeen_38 rfl rfl ?_
      refine V.iaddN (pc' := 40) C 283 c dX7_isAsSeen_39 rfl ?_
      refine V.topN (a := 283 + c) (b := 268 + (15 + c)) (by omega) ?_
      refine V.iald (pc' := 41) C (268 + (15 + c)) dX7_isAsSeen_40 rfl 1 rfl (by omega) rfl ?_
      refine V.topI (pp_at _ _ _ _) ?_
      refine V.iast (pc' := 42) C (21 * row + k) [mO h ad i, (ad 0, .inl (M.G.2 0, 402, .inl (pp f 268 (nightsTo (cpP f 0 268) N k)))), (ad 24, .inl (M.G.2 0, 18, .inl se)), (ad 26, .inl (M.G.2 0, 147, .inl (upd (tbRow tb (cpP f 0 268) N c row k) (21 * row + k) ((nightsTo (cpP f 0 268) N k) (15 + c)))))] dX7_isAsSeen_41 rfl 3 rfl (by omega) rfl ((nightsTo (cpP f 0 268) N k) (15 + c)) rfl rfl ?_
      refine V.weq (ws2 := [mO h ad i, (ad 0, .inl (M.G.2 0, 402, .inl (pp f 268 (nightsTo (cpP f 0 268) N k)))), (ad 24, .inl (M.G.2 0, 18, .inl se)), (ad 26, .inl (M.G.2 0, 147, .inl (tbRow tb (cpP f 0 268) N c row (k + 1))))]) (by rw [tbRow_s]) ?_
      refine V.iconst (pc' := 43) C dX7_isAsSeen_42 rfl kci_0 ?_
      refine V.istore (pc' := 45) C [(5, .int 0), (0, .ref h), (1, .int (nI c)), (2, .int (nI row)), (3, .int (bI (seenK (cpP f 0 268) se N sm k 0))), (4, .int (nI k))] dX7_isAsSeen_43 rfl 6 hnL rfl rfl ?_
      have L4 : ∀ e : Nat, e ≤ sm → V M 0 0 [mO h ad i, (ad 0, .inl (M.G.2 0, 402, .inl (pp f 268 (nightsTo (cpP f 0 268) N k)))), (ad 24, .inl (M.G.2 0, 18, .inl se)), (ad 26, .inl (M.G.2 0, 147, .inl (tbRow tb (cpP f 0 268) N c row (k + 1))))] [(0, .ref h), (1, .int (nI c)), (2, .int (nI row)), (3, .int (bI (seenK (cpP f 0 268) se N sm k e))), (4, .int (nI k)), (5, .int (nI e))] [] 45 := by
        refine loopN _ sm (fun e he ih_L4 => ?_)
        refine V.iload (pc' := 47) C 5 dX7_isAsSeen_45 rfl rfl ?_
        refine V.aload_n (pc' := 48) C 0 dX7_isAsSeen_47 rfl rfl ?_
        refine V.get (pc' := 51) C dX7_isAsSeen_48 rfl 0 rfl rfl in_X7 25 rfl q954 rfl ?_
        refine V.topI hs ?_
        refine V.icmp_geN (pc' := 54) C e sm (by omega) (by omega) 118 dX7_isAsSeen_51 rfl rfl (fun h5 => ?_) (fun h5 => ?_)
        · have hx6 : sm = e := by omega
          subst hx6
          refine V.aload_n (pc' := 119) C 0 dX7_isAsSeen_118 rfl rfl ?_
          refine V.sipush (pc' := 122) C dX7_isAsSeen_119 rfl kcs_268 ?_
          refine V.callV (pc' := 125) (wr := [(ad 24, .inl (M.G.2 0, 18, .inl se)), (ad 26, .inl (M.G.2 0, 147, .inl (tbRow tb (cpP f 0 268) N c row (k + 1))))]) C (ct_X7_nightOn M.l M.G h ad i (pp f 268 (nightsTo (cpP f 0 268) N k)) N 268 hN hN5 (by omega)) dX7_isAsSeen_122 rfl (lw_V q1185 q1187 qs53 q71 q1188) hyv_X7_nightOn rfl rfl 0 rfl rfl [0, 1] [2, 3] [2, 3, 0, 1] rfl rfl rfl (fun _ => [mO h ad i, (ad 0, .inl (M.G.2 0, 402, .inl (pp (pp f 268 (nightsTo (cpP f 0 268) N k)) 268 (night (pg (pp f 268 (nightsTo (cpP f 0 268) N k)) 268) N)))), (ad 24, .inl (M.G.2 0, 18, .inl se)), (ad 26, .inl (M.G.2 0, 147, .inl (tbRow tb (cpP f 0 268) N c row (k + 1))))]) (fun _ => rfl) rfl 0 0 rfl rfl (fun _ => []) (fun _ => rfl) (fun _ _ => ?_)
          refine V.weq (ws2 := [mO h ad i, (ad 0, .inl (M.G.2 0, 402, .inl (pp f 268 (night (nightsTo (cpP f 0 268) N k) N)))), (ad 24, .inl (M.G.2 0, 18, .inl se)), (ad 26, .inl (M.G.2 0, 147, .inl (tbRow tb (cpP f 0 268) N c row (k + 1))))]) (by rw [pg_pp, pp_pp]) ?_
          refine V.iinc (pc' := 128) C (nI (k + 1)) [(4, .int (nI (k + 1))), (0, .ref h), (1, .int (nI c)), (2, .int (nI row)), (3, .int (bI (seenK (cpP f 0 268) se N sm k sm))), (5, .int (nI sm))] dX7_isAsSeen_125 rfl 6 hnL rfl 4 rfl (ii_N k 1 rfl) rfl ?_
          refine V.goto C 13 dX7_isAsSeen_128 rfl ?_
          refine V.lvs [1, 2, 3, 4, 0] (lv2 := [(0, .ref h), (1, .int (nI c)), (2, .int (nI row)), (3, .int (bI (seenK (cpP f 0 268) se N sm (k + 1) 0))), (4, .int (nI (k + 1)))]) (by rw [bI_iff (seenK_n (g := (cpP f 0 268)) (k := k))]; rfl) ?_
          refine V.weq (ws2 := [mO h ad i, (ad 0, .inl (M.G.2 0, 402, .inl (pp f 268 (nightsTo (cpP f 0 268) N (k + 1))))), (ad 24, .inl (M.G.2 0, 18, .inl se)), (ad 26, .inl (M.G.2 0, 147, .inl (tbRow tb (cpP f 0 268) N c row (k + 1))))]) rfl ?_
          exact ih_L1 (by omega)
        · obtain ⟨⟨e1, l1⟩, -⟩ := hok.2 e (by omega)
          refine V.iload_n (pc' := 55) C 3 dX7_isAsSeen_54 rfl rfl ?_
          have J9 : ∀ (x8 : Int32), x8 = (if seenK (cpP f 0 268) se N sm k e then if (se (3 * e + 1)) = (nI k) then if ((nightsTo (cpP f 0 268) N k) (15 + pN se (3 * e))) = (se (3 * e + 2)) then 1 else 0 else 1 else 0) → V M 0 0 [mO h ad i, (ad 0, .inl (M.G.2 0, 402, .inl (pp f 268 (nightsTo (cpP f 0 268) N k)))), (ad 24, .inl (M.G.2 0, 18, .inl se)), (ad 26, .inl (M.G.2 0, 147, .inl (tbRow tb (cpP f 0 268) N c row (k + 1))))] [(0, .ref h), (1, .int (nI c)), (2, .int (nI row)), (3, .int (bI (seenK (cpP f 0 268) se N sm k e))), (4, .int (nI k)), (5, .int (nI e))] [.int x8] 111 := by
            intro x8 ex8
            have ex8 : x8 = bI ((seenK (cpP f 0 268) se N sm k e) ∧ (¬ ((se (3 * e + 1)) = (nI k)) ∨ (((nightsTo (cpP f 0 268) N k) (15 + pN se (3 * e))) = (se (3 * e + 2))))) := ex8.trans (it_a (it_o it_10))
            subst ex8
            refine V.istore_n (pc' := 112) C [(3, .int (bI ((seenK (cpP f 0 268) se N sm k e) ∧ (¬ ((se (3 * e + 1)) = (nI k)) ∨ (((nightsTo (cpP f 0 268) N k) (15 + pN se (3 * e))) = (se (3 * e + 2))))))), (0, .ref h), (1, .int (nI c)), (2, .int (nI row)), (4, .int (nI k)), (5, .int (nI e))] dX7_isAsSeen_111 rfl 6 hnL rfl rfl ?_
            refine V.iinc (pc' := 115) C (nI (e + 1)) [(5, .int (nI (e + 1))), (3, .int (bI ((seenK (cpP f 0 268) se N sm k e) ∧ (¬ ((se (3 * e + 1)) = (nI k)) ∨ (((nightsTo (cpP f 0 268) N k) (15 + pN se (3 * e))) = (se (3 * e + 2))))))), (0, .ref h), (1, .int (nI c)), (2, .int (nI row)), (4, .int (nI k))] dX7_isAsSeen_112 rfl 6 hnL rfl 5 rfl (ii_N e 1 rfl) rfl ?_
            refine V.goto C 45 dX7_isAsSeen_115 rfl ?_
            refine V.lvs [2, 3, 4, 1, 5, 0] (lv2 := [(0, .ref h), (1, .int (nI c)), (2, .int (nI row)), (3, .int (bI (seenK (cpP f 0 268) se N sm k (e + 1)))), (4, .int (nI k)), (5, .int (nI (e + 1)))]) (by rw [bI_iff (seenK_s (g := (cpP f 0 268)) (k := k) hok (by omega) (by omega))]; rfl) ?_
            exact ih_L4 (by omega)
          refine V.if_eqB (pc' := 58) C 110 dX7_isAsSeen_55 rfl rfl (fun h7 => ?_) (fun h7 => ?_)
          · refine V.iconst (pc' := 111) C dX7_isAsSeen_110 rfl kci_0 ?_
            exact J9 _ (by rw [if_neg h7])
          · refine V.aload_n (pc' := 59) C 0 dX7_isAsSeen_58 rfl rfl ?_
            refine V.get (pc' := 62) C dX7_isAsSeen_59 rfl 0 rfl rfl in_X7 24 rfl q953 rfl ?_
            refine V.iconst (pc' := 63) C dX7_isAsSeen_62 rfl kci_3 ?_
            refine V.iload (pc' := 65) C 5 dX7_isAsSeen_63 rfl rfl ?_
            refine V.imulN (pc' := 66) C 3 e dX7_isAsSeen_65 rfl ?_
            refine V.iconst (pc' := 67) C dX7_isAsSeen_66 rfl kci_1 ?_
            refine V.iaddN (pc' := 68) C (3 * e) 1 dX7_isAsSeen_67 rfl ?_
            refine V.iald (pc' := 69) C (3 * e + 1) dX7_isAsSeen_68 rfl 2 rfl (by omega) rfl ?_
            refine V.iload (pc' := 71) C 4 dX7_isAsSeen_69 rfl rfl ?_
            refine V.icmp_ne (pc' := 74) C 106 dX7_isAsSeen_71 rfl rfl (fun h8 => ?_) (fun h8 => ?_)
            · refine V.iconst (pc' := 107) C dX7_isAsSeen_106 rfl kci_1 ?_
              refine V.goto C 111 dX7_isAsSeen_107 rfl ?_
              exact J9 _ (by rw [if_pos h7, if_neg h8])
            · refine V.aload_n (pc' := 75) C 0 dX7_isAsSeen_74 rfl rfl ?_
              refine V.get (pc' := 78) C dX7_isAsSeen_75 rfl 0 rfl rfl in_X7 0 rfl q929 rfl ?_
              refine V.sipush (pc' := 81) C dX7_isAsSeen_78 rfl kcs_283 ?_
              refine V.aload_n (pc' := 82) C 0 dX7_isAsSeen_81 rfl rfl ?_
              refine V.get (pc' := 85) C dX7_isAsSeen_82 rfl 0 rfl rfl in_X7 24 rfl q953 rfl ?_
              refine V.iconst (pc' := 86) C dX7_isAsSeen_85 rfl kci_3 ?_
              refine V.iload (pc' := 88) C 5 dX7_isAsSeen_86 rfl rfl ?_
              refine V.imulN (pc' := 89) C 3 e dX7_isAsSeen_88 rfl ?_
              refine V.iald (pc' := 90) C (3 * e) dX7_isAsSeen_89 rfl 2 rfl (by omega) rfl ?_
              refine V.topI e1 ?_
              refine V.iaddN (pc' := 91) C 283 (pN se (3 * e)) dX7_isAsSeen_90 rfl ?_
              refine V.topN (a := 283 + pN se (3 * e)) (b := 268 + (15 + pN se (3 * e))) (by omega) ?_
              refine V.iald (pc' := 92) C (268 + (15 + pN se (3 * e))) dX7_isAsSeen_91 rfl 1 rfl (by omega) rfl ?_
              refine V.topI (pp_at _ _ _ _) ?_
              refine V.aload_n (pc' := 93) C 0 dX7_isAsSeen_92 rfl rfl ?_
              refine V.get (pc' := 96) C dX7_isAsSeen_93 rfl 0 rfl rfl in_X7 24 rfl q953 rfl ?_
              refine V.iconst (pc' := 97) C dX7_isAsSeen_96 rfl kci_3 ?_
              refine V.iload (pc' := 99) C 5 dX7_isAsSeen_97 rfl rfl ?_
              refine V.imulN (pc' := 100) C 3 e dX7_isAsSeen_99 rfl ?_
              refine V.iconst (pc' := 101) C dX7_isAsSeen_100 rfl kci_2 ?_
              refine V.iaddN (pc' := 102) C (3 * e) 2 dX7_isAsSeen_101 rfl ?_
              refine V.iald (pc' := 103) C (3 * e + 2) dX7_isAsSeen_102 rfl 2 rfl (by omega) rfl ?_
              refine V.icmp_ne (pc' := 106) C 110 dX7_isAsSeen_103 rfl rfl (fun h9 => ?_) (fun h9 => ?_)
              · refine V.iconst (pc' := 111) C dX7_isAsSeen_110 rfl kci_0 ?_
                exact J9 _ (by rw [if_pos h7, if_pos h8, if_neg h9])
              · refine V.iconst (pc' := 107) C dX7_isAsSeen_106 rfl kci_1 ?_
                refine V.goto C 111 dX7_isAsSeen_107 rfl ?_
                exact J9 _ (by rw [if_pos h7, if_pos h8, if_pos h9])
      refine V.lvs [1, 2, 3, 4, 5, 0] (lv2 := [(0, .ref h), (1, .int (nI c)), (2, .int (nI row)), (3, .int (bI (seenK (cpP f 0 268) se N sm k 0))), (4, .int (nI k)), (5, .int (nI 0))]) rfl ?_
      exact L4 0 (by omega)
  refine V.lvs [2, 3, 4, 1, 0] (lv2 := [(0, .ref h), (1, .int (nI c)), (2, .int (nI row)), (3, .int (bI (seenK (cpP f 0 268) se N sm 0 0))), (4, .int (nI 0))]) (by rw [bI_t seenK_0]; rfl) ?_
  refine V.weq (ws2 := [mO h ad i, (ad 0, .inl (M.G.2 0, 402, .inl (pp f 268 (nightsTo (cpP f 0 268) N 0)))), (ad 24, .inl (M.G.2 0, 18, .inl se)), (ad 26, .inl (M.G.2 0, 147, .inl (tbRow tb (cpP f 0 268) N c row 0)))]) (by rw [tbRow_0]; rfl) ?_
  exact L1 0 (by omega)
set_option maxHeartbeats 4000000 in
theorem ct_X7_kinds (l : Launch) (G : GG) (h : Nat) (ad : Nat → Nat) (i : Nat → Int32) (f : Nat → Int32) (se : Nat → Int32) (tb : Nat → Int32) (N : Nat) (x : Int32) (sm : Nat) (hN : i 1 = nI N) (hN5 : N ≤ 5) (hs : i 25 = nI sm) (hok : okS se N sm) : Ct l G yX7_kinds (ws_ yX7_kinds cX7_kinds 5 (some .int)) ({ frames := 4, cells := 0, slots := 0, locals := 92 } : Room) [.ref h, .int x] [mO h ad i, (ad 0, .inl (G.2 0, 402, .inl f)), (ad 24, .inl (G.2 0, 18, .inl se)), (ad 26, .inl (G.2 0, 147, .inl tb))] (fun u : (Nat → Int32) × (Nat → Int32) => some (.int (a_kinds f se N sm x))) (fun u => Qf f u.1) (fun u => [mO h ad i, (ad 0, .inl (G.2 0, 402, .inl u.1)), (ad 24, .inl (G.2 0, 18, .inl se)), (ad 26, .inl (G.2 0, 147, .inl u.2))]) := by
  refine Ct.of rfl rfl ?_
  intro M el eG hnL C T
  subst el
  subst eG
  have C : Cx M cX7_kinds "ClockWardModel" ({ frames := 4, cells := 0, slots := 0, locals := 92 } : Room) := C
  refine V.lvs [0, 1] (lv2 := [(0, .ref h), (1, .int x)]) rfl ?_
  refine V.aload_n (pc' := 1) C 0 dX7_kinds_0 rfl rfl ?_
  refine V.iload_n (pc' := 2) C 1 dX7_kinds_1 rfl rfl ?_
  refine V.callV (pc' := 5) (wr := [(ad 0, .inl (M.G.2 0, 402, .inl f)), (ad 24, .inl (M.G.2 0, 18, .inl se)), (ad 26, .inl (M.G.2 0, 147, .inl tb))]) C (ct_X7_isClock M.l M.G h ad i N x hN hN5) dX7_kinds_2 rfl (lw_V q1100 q1102 qs43 q71 q1103) hyv_X7_isClock rfl rfl 0 rfl rfl [0] [1, 2, 3] [3, 0, 1, 2] rfl rfl rfl (fun _ => [mO h ad i, (ad 0, .inl (M.G.2 0, 402, .inl f)), (ad 24, .inl (M.G.2 0, 18, .inl se)), (ad 26, .inl (M.G.2 0, 147, .inl tb))]) (fun _ => rfl) rfl 0 0 rfl rfl (fun _ => [.int (bI (isC N x))]) (fun _ => rfl) (fun _ _ => ?_)
  refine V.if_neB (pc' := 8) C 10 dX7_kinds_5 rfl rfl (fun h1 => ?_) (fun h1 => ?_)
  · obtain ⟨c, hc, rfl⟩ := isC_nat hN5 h1
    refine V.aload_n (pc' := 11) C 0 dX7_kinds_10 rfl rfl ?_
    refine V.get (pc' := 14) C dX7_kinds_11 rfl 0 rfl rfl in_X7 0 rfl q929 rfl ?_
    refine V.iload_n (pc' := 15) C 1 dX7_kinds_14 rfl rfl ?_
    refine V.iald (pc' := 16) C c dX7_kinds_15 rfl 1 rfl (by omega) rfl ?_
    refine V.istore_n (pc' := 17) C [(2, .int (f c)), (0, .ref h), (1, .int (nI c))] dX7_kinds_16 rfl 5 hnL rfl rfl ?_
    refine V.iconst (pc' := 18) C dX7_kinds_17 rfl kci_0 ?_
    refine V.istore_n (pc' := 19) C [(3, .int 0), (2, .int (f c)), (0, .ref h), (1, .int (nI c))] dX7_kinds_18 rfl 5 hnL rfl rfl ?_
    refine V.iconst (pc' := 20) C dX7_kinds_19 rfl kci_0 ?_
    refine V.istore (pc' := 22) C [(4, .int 0), (3, .int 0), (2, .int (f c)), (0, .ref h), (1, .int (nI c))] dX7_kinds_20 rfl 5 hnL rfl rfl ?_
    have L2 : ∀ v : Nat, v ≤ 4 → ∀ (F : Nat → Int32), ∀ (Tb : Nat → Int32), Qc f F c → V M 0 0 [mO h ad i, (ad 0, .inl (M.G.2 0, 402, .inl F)), (ad 24, .inl (M.G.2 0, 18, .inl se)), (ad 26, .inl (M.G.2 0, 147, .inl Tb))] [(0, .ref h), (1, .int (nI c)), (2, .int (f c)), (3, .int (whTo f c se N sm v)), (4, .int (nI v))] [] 22 := by
      refine loopN _ 4 (fun v hv ih_L2 => ?_)
      intro F Tb hF
      refine V.iload (pc' := 24) C 4 dX7_kinds_22 rfl rfl ?_
      refine V.iconst (pc' := 25) C dX7_kinds_24 rfl kci_4 ?_
      refine V.icmp_geN (pc' := 28) C v 4 (by omega) (by omega) 62 dX7_kinds_25 rfl rfl (fun h3 => ?_) (fun h3 => ?_)
      · have hx4 : 4 = v := by omega
        subst hx4
        refine V.aload_n (pc' := 63) C 0 dX7_kinds_62 rfl rfl ?_
        refine V.get (pc' := 66) C dX7_kinds_63 rfl 0 rfl rfl in_X7 0 rfl q929 rfl ?_
        refine V.iload_n (pc' := 67) C 1 dX7_kinds_66 rfl rfl ?_
        refine V.iload_n (pc' := 68) C 2 dX7_kinds_67 rfl rfl ?_
        refine V.iast (pc' := 69) C c [mO h ad i, (ad 0, .inl (M.G.2 0, 402, .inl (upd F c (f c)))), (ad 24, .inl (M.G.2 0, 18, .inl se)), (ad 26, .inl (M.G.2 0, 147, .inl Tb))] dX7_kinds_68 rfl 1 rfl (by omega) rfl (f c) rfl rfl ?_
        refine V.iload_n (pc' := 70) C 3 dX7_kinds_69 rfl rfl ?_
        exact V.iret C T dX7_kinds_70 (upd F c (f c), Tb) rfl rfl (Eq.trans (by rw [cn_nI (by omega)]) (if_pos h1).symm) rfl hF.back rfl rfl rfl
      · refine V.aload_n (pc' := 29) C 0 dX7_kinds_28 rfl rfl ?_
        refine V.get (pc' := 32) C dX7_kinds_29 rfl 0 rfl rfl in_X7 0 rfl q929 rfl ?_
        refine V.iload_n (pc' := 33) C 1 dX7_kinds_32 rfl rfl ?_
        refine V.iload (pc' := 35) C 4 dX7_kinds_33 rfl rfl ?_
        refine V.iast (pc' := 36) C c [mO h ad i, (ad 0, .inl (M.G.2 0, 402, .inl (upd F c (nI v)))), (ad 24, .inl (M.G.2 0, 18, .inl se)), (ad 26, .inl (M.G.2 0, 147, .inl Tb))] dX7_kinds_35 rfl 1 rfl (by omega) rfl (nI v) rfl rfl ?_
        refine V.iload_n (pc' := 37) C 3 dX7_kinds_36 rfl rfl ?_
        refine V.aload_n (pc' := 38) C 0 dX7_kinds_37 rfl rfl ?_
        refine V.iload_n (pc' := 39) C 1 dX7_kinds_38 rfl rfl ?_
        refine V.iconst (pc' := 40) C dX7_kinds_39 rfl kci_0 ?_
        refine V.callV (pc' := 43) (wr := []) C (ct_X7_isAsSeen M.l M.G h ad i (upd F c (nI v)) se Tb N c 0 sm hN hN5 hs hok (by omega) (by omega)) dX7_kinds_40 rfl (lw_V q1285 q1287 qs61 q71 q1288) hyv_X7_isAsSeen rfl rfl 0 rfl rfl [0, 1, 2, 3] [] [0, 1, 2, 3] rfl rfl rfl (fun _ => [mO h ad i, (ad 0, .inl (M.G.2 0, 402, .inl (pp (upd F c (nI v)) 268 (nightsTo (cpP (upd F c (nI v)) 0 268) N 21)))), (ad 24, .inl (M.G.2 0, 18, .inl se)), (ad 26, .inl (M.G.2 0, 147, .inl (tbRow Tb (cpP (upd F c (nI v)) 0 268) N c 0 21)))]) (fun _ => rfl) rfl 0 0 rfl rfl (fun _ => [.int (bI (seenOk (upd F c (nI v)) se N sm)), .int (whTo f c se N sm v)]) (fun _ => rfl) (fun _ _ => ?_)
        refine V.topI (y := bI (seenOk (upd f c (nI v)) se N sm)) (bI_iff (seenOk_ag (hF.ag _) hN5 hok)) ?_
        have J7 : ∀ (x6 : Int32), x6 = (if seenOk (upd f c (nI v)) se N sm then 1 <<< (nI v &&& 31) else 0) → V M 0 0 [mO h ad i, (ad 0, .inl (M.G.2 0, 402, .inl (pp (upd F c (nI v)) 268 (nightsTo (cpP (upd F c (nI v)) 0 268) N 21)))), (ad 24, .inl (M.G.2 0, 18, .inl se)), (ad 26, .inl (M.G.2 0, 147, .inl (tbRow Tb (cpP (upd F c (nI v)) 0 268) N c 0 21)))] [(0, .ref h), (1, .int (nI c)), (2, .int (f c)), (3, .int (whTo f c se N sm v)), (4, .int (nI v))] [.int x6, .int (whTo f c se N sm v)] 54 := by
          intro x6 ex6
          subst ex6
          refine V.ior (pc' := 55) C dX7_kinds_54 rfl ?_
          refine V.istore_n (pc' := 56) C [(3, .int ((whTo f c se N sm v) ||| (if seenOk (upd f c (nI v)) se N sm then 1 <<< (nI v &&& 31) else 0))), (0, .ref h), (1, .int (nI c)), (2, .int (f c)), (4, .int (nI v))] dX7_kinds_55 rfl 5 hnL rfl rfl ?_
          refine V.iinc (pc' := 59) C (nI (v + 1)) [(4, .int (nI (v + 1))), (3, .int ((whTo f c se N sm v) ||| (if seenOk (upd f c (nI v)) se N sm then 1 <<< (nI v &&& 31) else 0))), (0, .ref h), (1, .int (nI c)), (2, .int (f c))] dX7_kinds_56 rfl 5 hnL rfl 4 rfl (ii_N v 1 rfl) rfl ?_
          refine V.goto C 22 dX7_kinds_59 rfl ?_
          refine V.lvs [2, 3, 4, 1, 0] (lv2 := [(0, .ref h), (1, .int (nI c)), (2, .int (f c)), (3, .int (whTo f c se N sm (v + 1))), (4, .int (nI (v + 1)))]) rfl ?_
          exact ih_L2 (by omega) (pp (upd F c (nI v)) 268 (nightsTo (cpP (upd F c (nI v)) 0 268) N 21)) (tbRow Tb (cpP (upd F c (nI v)) 0 268) N c 0 21) (hF.pp _ (by omega))
        refine V.if_eqB (pc' := 46) C 53 dX7_kinds_43 rfl rfl (fun h5 => ?_) (fun h5 => ?_)
        · refine V.iconst (pc' := 54) C dX7_kinds_53 rfl kci_0 ?_
          exact J7 _ (by rw [if_neg h5])
        · refine V.iconst (pc' := 47) C dX7_kinds_46 rfl kci_1 ?_
          refine V.iload (pc' := 49) C 4 dX7_kinds_47 rfl rfl ?_
          refine V.ishl (pc' := 50) C dX7_kinds_49 rfl ?_
          refine V.goto C 54 dX7_kinds_50 rfl ?_
          exact J7 _ (by rw [if_pos h5])
    refine V.lvs [3, 4, 2, 1, 0] (lv2 := [(0, .ref h), (1, .int (nI c)), (2, .int (f c)), (3, .int (whTo f c se N sm 0)), (4, .int (nI 0))]) rfl ?_
    exact L2 0 (by omega) f tb (Qc.rf f c)
  · refine V.iconst (pc' := 9) C dX7_kinds_8 rfl kci_m1 ?_
    exact V.iret C T dX7_kinds_9 (f, tb) rfl rfl (if_neg (fun z => h1 z)).symm rfl (Qf.rf _) rfl rfl rfl
set_option maxHeartbeats 4000000 in
theorem ct_X7_ratesOf (l : Launch) (G : GG) (h : Nat) (ad : Nat → Nat) (i : Nat → Int32) (f : Nat → Int32) (se : Nat → Int32) (tb : Nat → Int32) (N : Nat) (c : Nat) (sm : Nat) (hN : i 1 = nI N) (hN5 : N ≤ 5) (hs : i 25 = nI sm) (hok : okS se N sm) (hc : c < 5) : Ct l G yX7_ratesOf (ws_ yX7_ratesOf cX7_ratesOf 5 (some .int)) ({ frames := 4, cells := 0, slots := 0, locals := 92 } : Room) [.ref h, .int (nI c)] [mO h ad i, (ad 0, .inl (G.2 0, 402, .inl f)), (ad 24, .inl (G.2 0, 18, .inl se)), (ad 26, .inl (G.2 0, 147, .inl tb))] (fun u : (Nat → Int32) × (Nat → Int32) => some (.int (whTo f (10 + c) se N sm 7))) (fun u => Qf f u.1 ∧ tbAll u.2 f N c 7) (fun u => [mO h ad i, (ad 0, .inl (G.2 0, 402, .inl u.1)), (ad 24, .inl (G.2 0, 18, .inl se)), (ad 26, .inl (G.2 0, 147, .inl u.2))]) := by
  refine Ct.of rfl rfl ?_
  intro M el eG hnL C T
  subst el
  subst eG
  have C : Cx M cX7_ratesOf "ClockWardModel" ({ frames := 4, cells := 0, slots := 0, locals := 92 } : Room) := C
  refine V.lvs [0, 1] (lv2 := [(0, .ref h), (1, .int (nI c))]) rfl ?_
  refine V.aload_n (pc' := 1) C 0 dX7_ratesOf_0 rfl rfl ?_
  refine V.get (pc' := 4) C dX7_ratesOf_1 rfl 0 rfl rfl in_X7 0 rfl q929 rfl ?_
  refine V.bipush (pc' := 6) C dX7_ratesOf_4 rfl kcb_10 ?_
  refine V.iload_n (pc' := 7) C 1 dX7_ratesOf_6 rfl rfl ?_
  refine V.iaddN (pc' := 8) C 10 c dX7_ratesOf_7 rfl ?_
  refine V.iald (pc' := 9) C (10 + c) dX7_ratesOf_8 rfl 1 rfl (by omega) rfl ?_
  refine V.istore_n (pc' := 10) C [(2, .int (f (10 + c))), (0, .ref h), (1, .int (nI c))] dX7_ratesOf_9 rfl 5 hnL rfl rfl ?_
  refine V.iconst (pc' := 11) C dX7_ratesOf_10 rfl kci_0 ?_
  refine V.istore_n (pc' := 12) C [(3, .int 0), (2, .int (f (10 + c))), (0, .ref h), (1, .int (nI c))] dX7_ratesOf_11 rfl 5 hnL rfl rfl ?_
  refine V.iconst (pc' := 13) C dX7_ratesOf_12 rfl kci_0 ?_
  refine V.istore (pc' := 15) C [(4, .int 0), (3, .int 0), (2, .int (f (10 + c))), (0, .ref h), (1, .int (nI c))] dX7_ratesOf_13 rfl 5 hnL rfl rfl ?_
  have L1 : ∀ v : Nat, v ≤ 7 → ∀ (F : Nat → Int32), ∀ (Tb : Nat → Int32), Qc f F (10 + c) → tbAll Tb f N c v → V M 0 0 [mO h ad i, (ad 0, .inl (M.G.2 0, 402, .inl F)), (ad 24, .inl (M.G.2 0, 18, .inl se)), (ad 26, .inl (M.G.2 0, 147, .inl Tb))] [(0, .ref h), (1, .int (nI c)), (2, .int (f (10 + c))), (3, .int (whTo f (10 + c) se N sm v)), (4, .int (nI v))] [] 15 := by
    refine loopN _ 7 (fun v hv ih_L1 => ?_)
    intro F Tb hF hT
    refine V.iload (pc' := 17) C 4 dX7_ratesOf_15 rfl rfl ?_
    refine V.bipush (pc' := 19) C dX7_ratesOf_17 rfl kcb_6 ?_
    refine V.icmp_gtN (pc' := 22) C v 6 (by omega) (by omega) 60 dX7_ratesOf_19 rfl rfl (fun h2 => ?_) (fun h2 => ?_)
    · have hx3 : 7 = v := by omega
      subst hx3
      refine V.aload_n (pc' := 61) C 0 dX7_ratesOf_60 rfl rfl ?_
      refine V.get (pc' := 64) C dX7_ratesOf_61 rfl 0 rfl rfl in_X7 0 rfl q929 rfl ?_
      refine V.bipush (pc' := 66) C dX7_ratesOf_64 rfl kcb_10 ?_
      refine V.iload_n (pc' := 67) C 1 dX7_ratesOf_66 rfl rfl ?_
      refine V.iaddN (pc' := 68) C 10 c dX7_ratesOf_67 rfl ?_
      refine V.iload_n (pc' := 69) C 2 dX7_ratesOf_68 rfl rfl ?_
      refine V.iast (pc' := 70) C (10 + c) [mO h ad i, (ad 0, .inl (M.G.2 0, 402, .inl (upd F (10 + c) (f (10 + c))))), (ad 24, .inl (M.G.2 0, 18, .inl se)), (ad 26, .inl (M.G.2 0, 147, .inl Tb))] dX7_ratesOf_69 rfl 1 rfl (by omega) rfl (f (10 + c)) rfl rfl ?_
      refine V.iload_n (pc' := 71) C 3 dX7_ratesOf_70 rfl rfl ?_
      exact V.iret C T dX7_ratesOf_71 (upd F (10 + c) (f (10 + c)), Tb) rfl rfl rfl rfl ⟨hF.back, hT⟩ rfl rfl rfl
    · refine V.aload_n (pc' := 23) C 0 dX7_ratesOf_22 rfl rfl ?_
      refine V.get (pc' := 26) C dX7_ratesOf_23 rfl 0 rfl rfl in_X7 0 rfl q929 rfl ?_
      refine V.bipush (pc' := 28) C dX7_ratesOf_26 rfl kcb_10 ?_
      refine V.iload_n (pc' := 29) C 1 dX7_ratesOf_28 rfl rfl ?_
      refine V.iaddN (pc' := 30) C 10 c dX7_ratesOf_29 rfl ?_
      refine V.iload (pc' := 32) C 4 dX7_ratesOf_30 rfl rfl ?_
      refine V.iast (pc' := 33) C (10 + c) [mO h ad i, (ad 0, .inl (M.G.2 0, 402, .inl (upd F (10 + c) (nI v)))), (ad 24, .inl (M.G.2 0, 18, .inl se)), (ad 26, .inl (M.G.2 0, 147, .inl Tb))] dX7_ratesOf_32 rfl 1 rfl (by omega) rfl (nI v) rfl rfl ?_
      refine V.iload_n (pc' := 34) C 3 dX7_ratesOf_33 rfl rfl ?_
      refine V.aload_n (pc' := 35) C 0 dX7_ratesOf_34 rfl rfl ?_
      refine V.iload_n (pc' := 36) C 1 dX7_ratesOf_35 rfl rfl ?_
      refine V.iload (pc' := 38) C 4 dX7_ratesOf_36 rfl rfl ?_
      refine V.callV (pc' := 41) (wr := []) C (ct_X7_isAsSeen M.l M.G h ad i (upd F (10 + c) (nI v)) se Tb N c v sm hN hN5 hs hok (by omega) (by omega)) dX7_ratesOf_38 rfl (lw_V q1285 q1287 qs61 q71 q1288) hyv_X7_isAsSeen rfl rfl 0 rfl rfl [0, 1, 2, 3] [] [0, 1, 2, 3] rfl rfl rfl (fun _ => [mO h ad i, (ad 0, .inl (M.G.2 0, 402, .inl (pp (upd F (10 + c) (nI v)) 268 (nightsTo (cpP (upd F (10 + c) (nI v)) 0 268) N 21)))), (ad 24, .inl (M.G.2 0, 18, .inl se)), (ad 26, .inl (M.G.2 0, 147, .inl (tbRow Tb (cpP (upd F (10 + c) (nI v)) 0 268) N c v 21)))]) (fun _ => rfl) rfl 0 0 rfl rfl (fun _ => [.int (bI (seenOk (upd F (10 + c) (nI v)) se N sm)), .int (whTo f (10 + c) se N sm v)]) (fun _ => rfl) (fun _ _ => ?_)
      refine V.topI (y := bI (seenOk (upd f (10 + c) (nI v)) se N sm)) (bI_iff (seenOk_ag (hF.ag _) hN5 hok)) ?_
      have J6 : ∀ (x5 : Int32), x5 = (if seenOk (upd f (10 + c) (nI v)) se N sm then 1 <<< (nI v &&& 31) else 0) → V M 0 0 [mO h ad i, (ad 0, .inl (M.G.2 0, 402, .inl (pp (upd F (10 + c) (nI v)) 268 (nightsTo (cpP (upd F (10 + c) (nI v)) 0 268) N 21)))), (ad 24, .inl (M.G.2 0, 18, .inl se)), (ad 26, .inl (M.G.2 0, 147, .inl (tbRow Tb (cpP (upd F (10 + c) (nI v)) 0 268) N c v 21)))] [(0, .ref h), (1, .int (nI c)), (2, .int (f (10 + c))), (3, .int (whTo f (10 + c) se N sm v)), (4, .int (nI v))] [.int x5, .int (whTo f (10 + c) se N sm v)] 52 := by
        intro x5 ex5
        subst ex5
        refine V.ior (pc' := 53) C dX7_ratesOf_52 rfl ?_
        refine V.istore_n (pc' := 54) C [(3, .int ((whTo f (10 + c) se N sm v) ||| (if seenOk (upd f (10 + c) (nI v)) se N sm then 1 <<< (nI v &&& 31) else 0))), (0, .ref h), (1, .int (nI c)), (2, .int (f (10 + c))), (4, .int (nI v))] dX7_ratesOf_53 rfl 5 hnL rfl rfl ?_
        refine V.iinc (pc' := 57) C (nI (v + 1)) [(4, .int (nI (v + 1))), (3, .int ((whTo f (10 + c) se N sm v) ||| (if seenOk (upd f (10 + c) (nI v)) se N sm then 1 <<< (nI v &&& 31) else 0))), (0, .ref h), (1, .int (nI c)), (2, .int (f (10 + c)))] dX7_ratesOf_54 rfl 5 hnL rfl 4 rfl (ii_N v 1 rfl) rfl ?_
        refine V.goto C 15 dX7_ratesOf_57 rfl ?_
        refine V.lvs [2, 3, 4, 1, 0] (lv2 := [(0, .ref h), (1, .int (nI c)), (2, .int (f (10 + c))), (3, .int (whTo f (10 + c) se N sm (v + 1))), (4, .int (nI (v + 1)))]) rfl ?_
        exact ih_L1 (by omega) (pp (upd F (10 + c) (nI v)) 268 (nightsTo (cpP (upd F (10 + c) (nI v)) 0 268) N 21)) (tbRow Tb (cpP (upd F (10 + c) (nI v)) 0 268) N c v 21) (hF.pp _ (by omega)) (tbAll_s hT (hF.cp _) hN5 (by omega))
      refine V.if_eqB (pc' := 44) C 51 dX7_ratesOf_41 rfl rfl (fun h4 => ?_) (fun h4 => ?_)
      · refine V.iconst (pc' := 52) C dX7_ratesOf_51 rfl kci_0 ?_
        exact J6 _ (by rw [if_neg h4])
      · refine V.iconst (pc' := 45) C dX7_ratesOf_44 rfl kci_1 ?_
        refine V.iload (pc' := 47) C 4 dX7_ratesOf_45 rfl rfl ?_
        refine V.ishl (pc' := 48) C dX7_ratesOf_47 rfl ?_
        refine V.goto C 52 dX7_ratesOf_48 rfl ?_
        exact J6 _ (by rw [if_pos h4])
  refine V.lvs [3, 4, 2, 1, 0] (lv2 := [(0, .ref h), (1, .int (nI c)), (2, .int (f (10 + c))), (3, .int (whTo f (10 + c) se N sm 0)), (4, .int (nI 0))]) rfl ?_
  exact L1 0 (by omega) f tb (Qc.rf f (10 + c)) (tbAll_0 _ _ _ _)
set_option maxHeartbeats 4000000 in
theorem ct_X7_rates (l : Launch) (G : GG) (h : Nat) (ad : Nat → Nat) (i : Nat → Int32) (f : Nat → Int32) (se : Nat → Int32) (tb : Nat → Int32) (N : Nat) (x : Int32) (sm : Nat) (hN : i 1 = nI N) (hN5 : N ≤ 5) (hs : i 25 = nI sm) (hok : okS se N sm) : Ct l G yX7_rates (ws_ yX7_rates cX7_rates 2 (some .int)) ({ frames := 5, cells := 0, slots := 0, locals := 116 } : Room) [.ref h, .int x] [mO h ad i, (ad 0, .inl (G.2 0, 402, .inl f)), (ad 24, .inl (G.2 0, 18, .inl se)), (ad 26, .inl (G.2 0, 147, .inl tb))] (fun u : (Nat → Int32) × (Nat → Int32) => some (.int (a_rates f se N sm x))) (fun u => Qf f u.1) (fun u => [mO h ad i, (ad 0, .inl (G.2 0, 402, .inl u.1)), (ad 24, .inl (G.2 0, 18, .inl se)), (ad 26, .inl (G.2 0, 147, .inl u.2))]) := by
  refine Ct.of rfl rfl ?_
  intro M el eG hnL C T
  subst el
  subst eG
  have C : Cx M cX7_rates "ClockWardModel" ({ frames := 5, cells := 0, slots := 0, locals := 116 } : Room) := C
  refine V.lvs [0, 1] (lv2 := [(0, .ref h), (1, .int x)]) rfl ?_
  refine V.aload_n (pc' := 1) C 0 dX7_rates_0 rfl rfl ?_
  refine V.iload_n (pc' := 2) C 1 dX7_rates_1 rfl rfl ?_
  refine V.callV (pc' := 5) (wr := [(ad 0, .inl (M.G.2 0, 402, .inl f)), (ad 24, .inl (M.G.2 0, 18, .inl se)), (ad 26, .inl (M.G.2 0, 147, .inl tb))]) C (ct_X7_isClock M.l M.G h ad i N x hN hN5) dX7_rates_2 rfl (lw_V q1100 q1102 qs43 q71 q1103) hyv_X7_isClock rfl rfl 0 rfl rfl [0] [1, 2, 3] [3, 0, 1, 2] rfl rfl rfl (fun _ => [mO h ad i, (ad 0, .inl (M.G.2 0, 402, .inl f)), (ad 24, .inl (M.G.2 0, 18, .inl se)), (ad 26, .inl (M.G.2 0, 147, .inl tb))]) (fun _ => rfl) rfl 0 0 rfl rfl (fun _ => [.int (bI (isC N x))]) (fun _ => rfl) (fun _ _ => ?_)
  refine V.if_eqB (pc' := 8) C 16 dX7_rates_5 rfl rfl (fun h1 => ?_) (fun h1 => ?_)
  · refine V.iconst (pc' := 17) C dX7_rates_16 rfl kci_m1 ?_
    exact V.iret C T dX7_rates_17 (f, tb) rfl rfl (if_neg (fun z => h1 z)).symm rfl (Qf.rf _) rfl rfl rfl
  · obtain ⟨c, hc, rfl⟩ := isC_nat hN5 h1
    refine V.aload_n (pc' := 9) C 0 dX7_rates_8 rfl rfl ?_
    refine V.iload_n (pc' := 10) C 1 dX7_rates_9 rfl rfl ?_
    refine V.callV (pc' := 13) (wr := []) C (ct_X7_ratesOf M.l M.G h ad i f se tb N c sm hN hN5 hs hok (by omega)) dX7_rates_10 rfl (lw_V q1293 q1295 qs62 q71 q1296) hyv_X7_ratesOf rfl rfl 0 rfl rfl [0, 1, 2, 3] [] [0, 1, 2, 3] rfl rfl rfl (fun u2 => [mO h ad i, (ad 0, .inl (M.G.2 0, 402, .inl u2.1)), (ad 24, .inl (M.G.2 0, 18, .inl se)), (ad 26, .inl (M.G.2 0, 147, .inl u2.2))]) (fun _ => rfl) rfl 0 0 rfl rfl (fun u2 => [.int (whTo f (10 + c) se N sm 7)]) (fun _ => rfl) (fun u2 hu2 => ?_)
    refine V.goto C 17 dX7_rates_13 rfl ?_
    exact V.iret C T dX7_rates_17 (u2.1, u2.2) rfl rfl (Eq.trans (by rw [cn_nI (by omega)]) (if_pos h1).symm) rfl hu2.1 rfl rfl rfl
set_option maxHeartbeats 4000000 in
theorem ct_X7_look (l : Launch) (G : GG) (h : Nat) (ad : Nat → Nat) (i : Nat → Int32) (f : Nat → Int32) (se : Nat → Int32) (tb : Nat → Int32) (N : Nat) (x : Int32) (y : Int32) (sm : Nat) (q : Nat) (hN : i 1 = nI N) (hN5 : N ≤ 5) (hs : i 25 = nI sm) (hok : okS se N sm) (hq : q = 7) : Ct l G yX7_look (ws_ yX7_look cX7_look 11 (some .int)) ({ frames := 5, cells := 0, slots := 0, locals := 116 } : Room) [.ref h, .int x, .int y] [mO h ad i, (ad 0, .inl (G.2 0, 402, .inl f)), (ad 24, .inl (G.2 0, 18, .inl se)), (ad 26, .inl (G.2 0, 147, .inl tb))] (fun u : (Nat → Int32) × (Nat → Int32) => some (.int (a_look f se N sm q x y))) (fun u => Qf f u.1) (fun u => [mO h ad i, (ad 0, .inl (G.2 0, 402, .inl u.1)), (ad 24, .inl (G.2 0, 18, .inl se)), (ad 26, .inl (G.2 0, 147, .inl u.2))]) := by
  refine Ct.of rfl rfl ?_
  intro M el eG hnL C T
  subst el
  subst eG
  have C : Cx M cX7_look "ClockWardModel" ({ frames := 5, cells := 0, slots := 0, locals := 116 } : Room) := C
  refine V.lvs [0, 1, 2] (lv2 := [(0, .ref h), (1, .int x), (2, .int y)]) rfl ?_
  refine V.aload_n (pc' := 1) C 0 dX7_look_0 rfl rfl ?_
  refine V.iload_n (pc' := 2) C 1 dX7_look_1 rfl rfl ?_
  refine V.callV (pc' := 5) (wr := [(ad 0, .inl (M.G.2 0, 402, .inl f)), (ad 24, .inl (M.G.2 0, 18, .inl se)), (ad 26, .inl (M.G.2 0, 147, .inl tb))]) C (ct_X7_isClock M.l M.G h ad i N x hN hN5) dX7_look_2 rfl (lw_V q1100 q1102 qs43 q71 q1103) hyv_X7_isClock rfl rfl 0 rfl rfl [0] [1, 2, 3] [3, 0, 1, 2] rfl rfl rfl (fun _ => [mO h ad i, (ad 0, .inl (M.G.2 0, 402, .inl f)), (ad 24, .inl (M.G.2 0, 18, .inl se)), (ad 26, .inl (M.G.2 0, 147, .inl tb))]) (fun _ => rfl) rfl 0 0 rfl rfl (fun _ => [.int (bI (isC N x))]) (fun _ => rfl) (fun _ _ => ?_)
  refine V.if_eqB (pc' := 8) C 18 dX7_look_5 rfl rfl (fun h1 => ?_) (fun h1 => ?_)
  · refine V.iconst (pc' := 19) C dX7_look_18 rfl kci_m1 ?_
    exact V.iret C T dX7_look_19 (f, tb) rfl rfl (if_neg (fun z => h1 z.1)).symm rfl (Qf.rf _) rfl rfl rfl
  · obtain ⟨c, hc, rfl⟩ := isC_nat hN5 h1
    refine V.iload_n (pc' := 9) C 2 dX7_look_8 rfl rfl ?_
    refine V.i2l (pc' := 10) C dX7_look_9 rfl ?_
    refine V.lconst (pc' := 11) C dX7_look_10 rfl kcl_0 ?_
    refine V.lconst (pc' := 12) C dX7_look_11 rfl kcl_1 ?_
    refine V.callS (pc' := 15) (wr := [mO h ad i, (ad 0, .inl (M.G.2 0, 402, .inl f)), (ad 24, .inl (M.G.2 0, 18, .inl se)), (ad 26, .inl (M.G.2 0, 147, .inl tb))]) C (ct_X7_in M.l M.G y 0 1 ) dX7_look_12 rfl (lw_S q1032 q1033 q71 q1034) hys_X7_in rfl rfl [] [0, 1, 2, 3] [0, 1, 2, 3] rfl rfl rfl (fun _ => [mO h ad i, (ad 0, .inl (M.G.2 0, 402, .inl f)), (ad 24, .inl (M.G.2 0, 18, .inl se)), (ad 26, .inl (M.G.2 0, 147, .inl tb))]) (fun _ => rfl) rfl 0 0 rfl rfl (fun _ => [.int (bI (inI y 0 1))]) (fun _ => rfl) (fun _ _ => ?_)
    refine V.if_neB (pc' := 18) C 20 dX7_look_15 rfl rfl (fun h2 => ?_) (fun h2 => ?_)
    · refine V.aload_n (pc' := 21) C 0 dX7_look_20 rfl rfl ?_
      refine V.iload_n (pc' := 22) C 1 dX7_look_21 rfl rfl ?_
      refine V.callV (pc' := 25) (wr := []) C (ct_X7_ratesOf M.l M.G h ad i f se tb N c sm hN hN5 hs hok (by omega)) dX7_look_22 rfl (lw_V q1293 q1295 qs62 q71 q1296) hyv_X7_ratesOf rfl rfl 0 rfl rfl [0, 1, 2, 3] [] [0, 1, 2, 3] rfl rfl rfl (fun u3 => [mO h ad i, (ad 0, .inl (M.G.2 0, 402, .inl u3.1)), (ad 24, .inl (M.G.2 0, 18, .inl se)), (ad 26, .inl (M.G.2 0, 147, .inl u3.2))]) (fun _ => rfl) rfl 0 0 rfl rfl (fun u3 => [.int (whTo f (10 + c) se N sm 7)]) (fun _ => rfl) (fun u3 hu3 => ?_)
      refine V.istore_n (pc' := 26) C [(3, .int (whTo f (10 + c) se N sm 7)), (0, .ref h), (1, .int (nI c)), (2, .int y)] dX7_look_25 rfl 11 hnL rfl rfl ?_
      refine V.iload_n (pc' := 27) C 0 dX7_look_26 rfl rfl ?_
      refine V.callS (pc' := 30) (wr := [mO h ad i, (ad 0, .inl (M.G.2 0, 402, .inl u3.1)), (ad 24, .inl (M.G.2 0, 18, .inl se)), (ad 26, .inl (M.G.2 0, 147, .inl u3.2))]) C (ct_X7_bitsOf M.l M.G (whTo f (10 + c) se N sm 7) ) dX7_look_27 rfl (lw_S q1218 q1219 q71 q1220) hys_X7_bitsOf rfl rfl [] [0, 1, 2, 3] [0, 1, 2, 3] rfl rfl rfl (fun _ => [mO h ad i, (ad 0, .inl (M.G.2 0, 402, .inl u3.1)), (ad 24, .inl (M.G.2 0, 18, .inl se)), (ad 26, .inl (M.G.2 0, 147, .inl u3.2))]) (fun _ => rfl) rfl 0 0 rfl rfl (fun _ => [.int (bitsTo (whTo f (10 + c) se N sm 7) 7)]) (fun _ => rfl) (fun _ _ => ?_)
      refine V.istore (pc' := 32) C [(4, .int (bitsTo (whTo f (10 + c) se N sm 7) 7)), (3, .int (whTo f (10 + c) se N sm 7)), (0, .ref h), (1, .int (nI c)), (2, .int y)] dX7_look_30 rfl 11 hnL rfl rfl ?_
      refine V.bipush (pc' := 34) C dX7_look_32 rfl kcb_m4 ?_
      refine V.istore (pc' := 36) C [(5, .int (-4)), (4, .int (bitsTo (whTo f (10 + c) se N sm 7) 7)), (3, .int (whTo f (10 + c) se N sm 7)), (0, .ref h), (1, .int (nI c)), (2, .int y)] dX7_look_34 rfl 11 hnL rfl rfl ?_
      refine V.iconst (pc' := 37) C dX7_look_36 rfl kci_0 ?_
      refine V.istore (pc' := 39) C [(6, .int 0), (5, .int (-4)), (4, .int (bitsTo (whTo f (10 + c) se N sm 7) 7)), (3, .int (whTo f (10 + c) se N sm 7)), (0, .ref h), (1, .int (nI c)), (2, .int y)] dX7_look_37 rfl 11 hnL rfl rfl ?_
      have L4 : ∀ k : Nat, k ≤ 21 → V M 0 0 [mO h ad i, (ad 0, .inl (M.G.2 0, 402, .inl u3.1)), (ad 24, .inl (M.G.2 0, 18, .inl se)), (ad 26, .inl (M.G.2 0, 147, .inl u3.2))] [(0, .ref h), (1, .int (nI c)), (2, .int y), (3, .int (whTo f (10 + c) se N sm 7)), (4, .int (lkM f se N sm c q k)), (5, .int (lkW f se N sm c q k)), (6, .int (nI k))] [] 39 := by
        refine loopN _ 21 (fun k hk ih_L4 => ?_)
        refine V.iload (pc' := 41) C 6 dX7_look_39 rfl rfl ?_
        refine V.bipush (pc' := 43) C dX7_look_41 rfl kcb_20 ?_
        refine V.icmp_gtN (pc' := 46) C k 20 (by omega) (by omega) 197 dX7_look_43 rfl rfl (fun h5 => ?_) (fun h5 => ?_)
        · have hx6 : 21 = k := by omega
          subst hx6
          refine V.iload (pc' := 199) C 5 dX7_look_197 rfl rfl ?_
          refine V.bipush (pc' := 201) C dX7_look_199 rfl kcb_m4 ?_
          refine V.icmp_eq (pc' := 204) C 208 dX7_look_201 rfl rfl (fun h7 => ?_) (fun h7 => ?_)
          · refine V.iload (pc' := 210) C 5 dX7_look_208 rfl rfl ?_
            refine V.goto C 215 dX7_look_210 rfl ?_
            exact V.iret C T dX7_look_215 (u3.1, u3.2) rfl rfl (Eq.trans (by rw [cn_nI (by omega), if_pos (Or.inl h7)]) (if_pos ⟨h1, h2⟩).symm) rfl hu3.1 rfl rfl rfl
          · refine V.iload_n (pc' := 205) C 2 dX7_look_204 rfl rfl ?_
            refine V.if_ne (pc' := 208) C 213 dX7_look_205 rfl rfl (fun h8 => ?_) (fun h8 => ?_)
            · refine V.iload (pc' := 215) C 4 dX7_look_213 rfl rfl ?_
              exact V.iret C T dX7_look_215 (u3.1, u3.2) rfl rfl (Eq.trans (by rw [cn_nI (by omega), if_neg (fun z => z.elim h7 h8)]) (if_pos ⟨h1, h2⟩).symm) rfl hu3.1 rfl rfl rfl
            · refine V.iload (pc' := 210) C 5 dX7_look_208 rfl rfl ?_
              refine V.goto C 215 dX7_look_210 rfl ?_
              exact V.iret C T dX7_look_215 (u3.1, u3.2) rfl rfl (Eq.trans (by rw [cn_nI (by omega), if_pos (Or.inr h8)]) (if_pos ⟨h1, h2⟩).symm) rfl hu3.1 rfl rfl rfl
        · refine V.iconst (pc' := 47) C dX7_look_46 rfl kci_0 ?_
          refine V.istore (pc' := 49) C [(7, .int 0), (0, .ref h), (1, .int (nI c)), (2, .int y), (3, .int (whTo f (10 + c) se N sm 7)), (4, .int (lkM f se N sm c q k)), (5, .int (lkW f se N sm c q k)), (6, .int (nI k))] dX7_look_47 rfl 11 hnL rfl rfl ?_
          refine V.iconst (pc' := 50) C dX7_look_49 rfl kci_0 ?_
          refine V.istore (pc' := 52) C [(8, .int 0), (7, .int 0), (0, .ref h), (1, .int (nI c)), (2, .int y), (3, .int (whTo f (10 + c) se N sm 7)), (4, .int (lkM f se N sm c q k)), (5, .int (lkW f se N sm c q k)), (6, .int (nI k))] dX7_look_50 rfl 11 hnL rfl rfl ?_
          have L9 : ∀ a : Nat, a ≤ q → V M 0 0 [mO h ad i, (ad 0, .inl (M.G.2 0, 402, .inl u3.1)), (ad 24, .inl (M.G.2 0, 18, .inl se)), (ad 26, .inl (M.G.2 0, 147, .inl u3.2))] [(0, .ref h), (1, .int (nI c)), (2, .int y), (3, .int (whTo f (10 + c) se N sm 7)), (4, .int (lkM f se N sm c q k)), (5, .int (lkW f se N sm c q k)), (6, .int (nI k)), (7, .int (woTo f se N sm c k a)), (8, .int (nI a))] [] 52 := by
            refine loopN _ q (fun a ha ih_L9 => ?_)
            refine V.iload (pc' := 54) C 8 dX7_look_52 rfl rfl ?_
            refine V.bipush (pc' := 56) C dX7_look_54 rfl kcb_6 ?_
            refine V.icmp_gtN (pc' := 59) C a 6 (by omega) (by omega) 159 dX7_look_56 rfl rfl (fun h10 => ?_) (fun h10 => ?_)
            · have hx11 : q = a := by omega
              subst hx11
              refine V.iload (pc' := 161) C 7 dX7_look_159 rfl rfl ?_
              refine V.iload (pc' := 163) C 4 dX7_look_161 rfl rfl ?_
              have J14 : ∀ (x13 : Int32), x13 = (if (lkM f se N sm c q k) ≤ (woTo f se N sm c k q) then lkW f se N sm c q k else nI k) → V M 0 0 [mO h ad i, (ad 0, .inl (M.G.2 0, 402, .inl u3.1)), (ad 24, .inl (M.G.2 0, 18, .inl se)), (ad 26, .inl (M.G.2 0, 147, .inl u3.2))] [(0, .ref h), (1, .int (nI c)), (2, .int y), (3, .int (whTo f (10 + c) se N sm 7)), (4, .int (lkM f se N sm c q k)), (5, .int (lkW f se N sm c q k)), (6, .int (nI k)), (7, .int (woTo f se N sm c k q)), (8, .int (nI q))] [.int x13] 173 := by
                intro x13 ex13
                subst ex13
                refine V.istore (pc' := 175) C [(5, .int (if (lkM f se N sm c q k) ≤ (woTo f se N sm c k q) then lkW f se N sm c q k else nI k)), (0, .ref h), (1, .int (nI c)), (2, .int y), (3, .int (whTo f (10 + c) se N sm 7)), (4, .int (lkM f se N sm c q k)), (6, .int (nI k)), (7, .int (woTo f se N sm c k q)), (8, .int (nI q))] dX7_look_173 rfl 11 hnL rfl rfl ?_
                refine V.iload (pc' := 177) C 7 dX7_look_175 rfl rfl ?_
                refine V.iload (pc' := 179) C 5 dX7_look_177 rfl rfl ?_
                have J17 : ∀ (x16 : Int32), x16 = (if (lkM f se N sm c q k) ≤ (woTo f se N sm c k q) then lkM f se N sm c q k else woTo f se N sm c k q) → V M 0 0 [mO h ad i, (ad 0, .inl (M.G.2 0, 402, .inl u3.1)), (ad 24, .inl (M.G.2 0, 18, .inl se)), (ad 26, .inl (M.G.2 0, 147, .inl u3.2))] [(5, .int (if (lkM f se N sm c q k) ≤ (woTo f se N sm c k q) then lkW f se N sm c q k else nI k)), (0, .ref h), (1, .int (nI c)), (2, .int y), (3, .int (whTo f (10 + c) se N sm 7)), (4, .int (lkM f se N sm c q k)), (6, .int (nI k)), (7, .int (woTo f se N sm c k q)), (8, .int (nI q))] [.int x16] 189 := by
                  intro x16 ex16
                  subst ex16
                  refine V.istore (pc' := 191) C [(4, .int (if (lkM f se N sm c q k) ≤ (woTo f se N sm c k q) then lkM f se N sm c q k else woTo f se N sm c k q)), (5, .int (if (lkM f se N sm c q k) ≤ (woTo f se N sm c k q) then lkW f se N sm c q k else nI k)), (0, .ref h), (1, .int (nI c)), (2, .int y), (3, .int (whTo f (10 + c) se N sm 7)), (6, .int (nI k)), (7, .int (woTo f se N sm c k q)), (8, .int (nI q))] dX7_look_189 rfl 11 hnL rfl rfl ?_
                  refine V.iinc (pc' := 194) C (nI (k + 1)) [(6, .int (nI (k + 1))), (4, .int (if (lkM f se N sm c q k) ≤ (woTo f se N sm c k q) then lkM f se N sm c q k else woTo f se N sm c k q)), (5, .int (if (lkM f se N sm c q k) ≤ (woTo f se N sm c k q) then lkW f se N sm c q k else nI k)), (0, .ref h), (1, .int (nI c)), (2, .int y), (3, .int (whTo f (10 + c) se N sm 7)), (7, .int (woTo f se N sm c k q)), (8, .int (nI q))] dX7_look_191 rfl 11 hnL rfl 6 rfl (ii_N k 1 rfl) rfl ?_
                  refine V.goto C 39 dX7_look_194 rfl ?_
                  refine V.lvs [3, 4, 5, 6, 1, 2, 0] (lv2 := [(0, .ref h), (1, .int (nI c)), (2, .int y), (3, .int (whTo f (10 + c) se N sm 7)), (4, .int (lkM f se N sm c q (k + 1))), (5, .int (lkW f se N sm c q (k + 1))), (6, .int (nI (k + 1)))]) rfl ?_
                  exact ih_L4 (by omega)
                refine V.icmp_ge (pc' := 182) C 187 dX7_look_179 rfl rfl (fun h15 => ?_) (fun h15 => ?_)
                · refine V.iload (pc' := 189) C 5 dX7_look_187 rfl rfl ?_
                  exact J17 _ (by rw [if_pos h15])
                · refine V.iload (pc' := 184) C 7 dX7_look_182 rfl rfl ?_
                  refine V.goto C 189 dX7_look_184 rfl ?_
                  exact J17 _ (by rw [if_neg h15])
              refine V.icmp_ge (pc' := 166) C 171 dX7_look_163 rfl rfl (fun h12 => ?_) (fun h12 => ?_)
              · refine V.iload (pc' := 173) C 5 dX7_look_171 rfl rfl ?_
                exact J14 _ (by rw [if_pos h12])
              · refine V.iload (pc' := 168) C 6 dX7_look_166 rfl rfl ?_
                refine V.goto C 173 dX7_look_168 rfl ?_
                exact J14 _ (by rw [if_neg h12])
            · refine V.iconst (pc' := 60) C dX7_look_59 rfl kci_0 ?_
              refine V.istore (pc' := 62) C [(9, .int 0), (0, .ref h), (1, .int (nI c)), (2, .int y), (3, .int (whTo f (10 + c) se N sm 7)), (4, .int (lkM f se N sm c q k)), (5, .int (lkW f se N sm c q k)), (6, .int (nI k)), (7, .int (woTo f se N sm c k a)), (8, .int (nI a))] dX7_look_60 rfl 11 hnL rfl rfl ?_
              refine V.iconst (pc' := 63) C dX7_look_62 rfl kci_0 ?_
              refine V.istore (pc' := 65) C [(10, .int 0), (9, .int 0), (0, .ref h), (1, .int (nI c)), (2, .int y), (3, .int (whTo f (10 + c) se N sm 7)), (4, .int (lkM f se N sm c q k)), (5, .int (lkW f se N sm c q k)), (6, .int (nI k)), (7, .int (woTo f se N sm c k a)), (8, .int (nI a))] dX7_look_63 rfl 11 hnL rfl rfl ?_
              have L18 : ∀ b : Nat, b ≤ 7 → okR f se N sm c a ∨ b = 0 → V M 0 0 [mO h ad i, (ad 0, .inl (M.G.2 0, 402, .inl u3.1)), (ad 24, .inl (M.G.2 0, 18, .inl se)), (ad 26, .inl (M.G.2 0, 147, .inl u3.2))] [(0, .ref h), (1, .int (nI c)), (2, .int y), (3, .int (whTo f (10 + c) se N sm 7)), (4, .int (lkM f se N sm c q k)), (5, .int (lkW f se N sm c q k)), (6, .int (nI k)), (7, .int (woTo f se N sm c k a)), (8, .int (nI a)), (9, .int (alTo f se N sm c k a b)), (10, .int (nI b))] [] 65 := by
                refine loopN _ 7 (fun b hb ih_L18 => ?_)
                intro  hal
                refine V.iload (pc' := 67) C 10 dX7_look_65 rfl rfl ?_
                refine V.bipush (pc' := 69) C dX7_look_67 rfl kcb_6 ?_
                refine V.icmp_gtN (pc' := 72) C b 6 (by omega) (by omega) 137 dX7_look_69 rfl rfl (fun h19 => ?_) (fun h19 => ?_)
                · have hx20 : 7 = b := by omega
                  subst hx20
                  have hoA := hal.resolve_right (by omega)
                  refine V.lvs [0, 1, 2, 3, 4, 5, 6, 7, 8, 9, 10] (lv2 := [(0, .ref h), (1, .int (nI c)), (2, .int y), (3, .int (whTo f (10 + c) se N sm 7)), (4, .int (lkM f se N sm c q k)), (5, .int (lkW f se N sm c q k)), (6, .int (nI k)), (7, .int (woTo f se N sm c k a)), (8, .int (nI a)), (9, .int (alA f se N sm c k a)), (10, .int (nI 7))]) (by rw [alA_t hoA]; rfl) ?_
                  refine V.iload (pc' := 139) C 9 dX7_look_137 rfl rfl ?_
                  refine V.iload (pc' := 141) C 7 dX7_look_139 rfl rfl ?_
                  have J23 : ∀ (x22 : Int32), x22 = (if (alA f se N sm c k a) ≤ (woTo f se N sm c k a) then woTo f se N sm c k a else alA f se N sm c k a) → V M 0 0 [mO h ad i, (ad 0, .inl (M.G.2 0, 402, .inl u3.1)), (ad 24, .inl (M.G.2 0, 18, .inl se)), (ad 26, .inl (M.G.2 0, 147, .inl u3.2))] [(0, .ref h), (1, .int (nI c)), (2, .int y), (3, .int (whTo f (10 + c) se N sm 7)), (4, .int (lkM f se N sm c q k)), (5, .int (lkW f se N sm c q k)), (6, .int (nI k)), (7, .int (woTo f se N sm c k a)), (8, .int (nI a)), (9, .int (alA f se N sm c k a)), (10, .int (nI 7))] [.int x22] 151 := by
                    intro x22 ex22
                    subst ex22
                    refine V.istore (pc' := 153) C [(7, .int (if (alA f se N sm c k a) ≤ (woTo f se N sm c k a) then woTo f se N sm c k a else alA f se N sm c k a)), (0, .ref h), (1, .int (nI c)), (2, .int y), (3, .int (whTo f (10 + c) se N sm 7)), (4, .int (lkM f se N sm c q k)), (5, .int (lkW f se N sm c q k)), (6, .int (nI k)), (8, .int (nI a)), (9, .int (alA f se N sm c k a)), (10, .int (nI 7))] dX7_look_151 rfl 11 hnL rfl rfl ?_
                    refine V.iinc (pc' := 156) C (nI (a + 1)) [(8, .int (nI (a + 1))), (7, .int (if (alA f se N sm c k a) ≤ (woTo f se N sm c k a) then woTo f se N sm c k a else alA f se N sm c k a)), (0, .ref h), (1, .int (nI c)), (2, .int y), (3, .int (whTo f (10 + c) se N sm 7)), (4, .int (lkM f se N sm c q k)), (5, .int (lkW f se N sm c q k)), (6, .int (nI k)), (9, .int (alA f se N sm c k a)), (10, .int (nI 7))] dX7_look_153 rfl 11 hnL rfl 8 rfl (ii_N a 1 rfl) rfl ?_
                    refine V.goto C 52 dX7_look_156 rfl ?_
                    refine V.lvs [2, 3, 4, 5, 6, 7, 8, 1, 0] (lv2 := [(0, .ref h), (1, .int (nI c)), (2, .int y), (3, .int (whTo f (10 + c) se N sm 7)), (4, .int (lkM f se N sm c q k)), (5, .int (lkW f se N sm c q k)), (6, .int (nI k)), (7, .int (woTo f se N sm c k (a + 1))), (8, .int (nI (a + 1)))]) rfl ?_
                    exact ih_L9 (by omega)
                  refine V.icmp_le (pc' := 144) C 149 dX7_look_141 rfl rfl (fun h21 => ?_) (fun h21 => ?_)
                  · refine V.iload (pc' := 151) C 7 dX7_look_149 rfl rfl ?_
                    exact J23 _ (by rw [if_pos h21])
                  · refine V.iload (pc' := 146) C 9 dX7_look_144 rfl rfl ?_
                    refine V.goto C 151 dX7_look_146 rfl ?_
                    exact J23 _ (by rw [if_neg h21])
                · refine V.iload_n (pc' := 73) C 3 dX7_look_72 rfl rfl ?_
                  refine V.iload (pc' := 75) C 8 dX7_look_73 rfl rfl ?_
                  refine V.ishr (pc' := 76) C dX7_look_75 rfl ?_
                  refine V.iconst (pc' := 77) C dX7_look_76 rfl kci_1 ?_
                  refine V.iand (pc' := 78) C dX7_look_77 rfl ?_
                  refine V.iconst (pc' := 79) C dX7_look_78 rfl kci_1 ?_
                  refine V.icmp_ne (pc' := 82) C 137 dX7_look_79 rfl rfl (fun h24 => ?_) (fun h24 => ?_)
                  · have hoA : ¬ okR f se N sm c a := fun z => h24 ((whTo_bit f (10 + c) se N sm (n := 7) (by omega) (by omega)).mpr z)
                    refine V.lvs [0, 1, 2, 3, 4, 5, 6, 7, 8, 9, 10] (lv2 := [(0, .ref h), (1, .int (nI c)), (2, .int y), (3, .int (whTo f (10 + c) se N sm 7)), (4, .int (lkM f se N sm c q k)), (5, .int (lkW f se N sm c q k)), (6, .int (nI k)), (7, .int (woTo f se N sm c k a)), (8, .int (nI a)), (9, .int (alA f se N sm c k a)), (10, .int (nI b))]) (by rw [alA_f hoA hal]; rfl) ?_
                    refine V.iload (pc' := 139) C 9 dX7_look_137 rfl rfl ?_
                    refine V.iload (pc' := 141) C 7 dX7_look_139 rfl rfl ?_
                    have J27 : ∀ (x26 : Int32), x26 = (if (alA f se N sm c k a) ≤ (woTo f se N sm c k a) then woTo f se N sm c k a else alA f se N sm c k a) → V M 0 0 [mO h ad i, (ad 0, .inl (M.G.2 0, 402, .inl u3.1)), (ad 24, .inl (M.G.2 0, 18, .inl se)), (ad 26, .inl (M.G.2 0, 147, .inl u3.2))] [(0, .ref h), (1, .int (nI c)), (2, .int y), (3, .int (whTo f (10 + c) se N sm 7)), (4, .int (lkM f se N sm c q k)), (5, .int (lkW f se N sm c q k)), (6, .int (nI k)), (7, .int (woTo f se N sm c k a)), (8, .int (nI a)), (9, .int (alA f se N sm c k a)), (10, .int (nI b))] [.int x26] 151 := by
                      intro x26 ex26
                      subst ex26
                      refine V.istore (pc' := 153) C [(7, .int (if (alA f se N sm c k a) ≤ (woTo f se N sm c k a) then woTo f se N sm c k a else alA f se N sm c k a)), (0, .ref h), (1, .int (nI c)), (2, .int y), (3, .int (whTo f (10 + c) se N sm 7)), (4, .int (lkM f se N sm c q k)), (5, .int (lkW f se N sm c q k)), (6, .int (nI k)), (8, .int (nI a)), (9, .int (alA f se N sm c k a)), (10, .int (nI b))] dX7_look_151 rfl 11 hnL rfl rfl ?_
                      refine V.iinc (pc' := 156) C (nI (a + 1)) [(8, .int (nI (a + 1))), (7, .int (if (alA f se N sm c k a) ≤ (woTo f se N sm c k a) then woTo f se N sm c k a else alA f se N sm c k a)), (0, .ref h), (1, .int (nI c)), (2, .int y), (3, .int (whTo f (10 + c) se N sm 7)), (4, .int (lkM f se N sm c q k)), (5, .int (lkW f se N sm c q k)), (6, .int (nI k)), (9, .int (alA f se N sm c k a)), (10, .int (nI b))] dX7_look_153 rfl 11 hnL rfl 8 rfl (ii_N a 1 rfl) rfl ?_
                      refine V.goto C 52 dX7_look_156 rfl ?_
                      refine V.lvs [2, 3, 4, 5, 6, 7, 8, 1, 0] (lv2 := [(0, .ref h), (1, .int (nI c)), (2, .int y), (3, .int (whTo f (10 + c) se N sm 7)), (4, .int (lkM f se N sm c q k)), (5, .int (lkW f se N sm c q k)), (6, .int (nI k)), (7, .int (woTo f se N sm c k (a + 1))), (8, .int (nI (a + 1)))]) rfl ?_
                      exact ih_L9 (by omega)
                    refine V.icmp_le (pc' := 144) C 149 dX7_look_141 rfl rfl (fun h25 => ?_) (fun h25 => ?_)
                    · refine V.iload (pc' := 151) C 7 dX7_look_149 rfl rfl ?_
                      exact J27 _ (by rw [if_pos h25])
                    · refine V.iload (pc' := 146) C 9 dX7_look_144 rfl rfl ?_
                      refine V.goto C 151 dX7_look_146 rfl ?_
                      exact J27 _ (by rw [if_neg h25])
                  · refine V.iload (pc' := 84) C 9 dX7_look_82 rfl rfl ?_
                    refine V.iload_n (pc' := 85) C 3 dX7_look_84 rfl rfl ?_
                    refine V.iload (pc' := 87) C 10 dX7_look_85 rfl rfl ?_
                    refine V.ishr (pc' := 88) C dX7_look_87 rfl ?_
                    refine V.iconst (pc' := 89) C dX7_look_88 rfl kci_1 ?_
                    refine V.iand (pc' := 90) C dX7_look_89 rfl ?_
                    refine V.iconst (pc' := 91) C dX7_look_90 rfl kci_1 ?_
                    have J30 : ∀ (x29 : Int32), x29 = (if (((whTo f (10 + c) se N sm 7) >>> (nI b &&& 31)) &&& 1) = 1 then if (tmR f N c a k) = (tmR f N c b k) then 1 else 0 else 0) → V M 0 0 [mO h ad i, (ad 0, .inl (M.G.2 0, 402, .inl u3.1)), (ad 24, .inl (M.G.2 0, 18, .inl se)), (ad 26, .inl (M.G.2 0, 147, .inl u3.2))] [(0, .ref h), (1, .int (nI c)), (2, .int y), (3, .int (whTo f (10 + c) se N sm 7)), (4, .int (lkM f se N sm c q k)), (5, .int (lkW f se N sm c q k)), (6, .int (nI k)), (7, .int (woTo f se N sm c k a)), (8, .int (nI a)), (9, .int (alTo f se N sm c k a b)), (10, .int (nI b))] [.int x29, .int (alTo f se N sm c k a b)] 128 := by
                      intro x29 ex29
                      have ex29 : x29 = bI (((((whTo f (10 + c) se N sm 7) >>> (nI b &&& 31)) &&& 1) = 1) ∧ ((tmR f N c a k) = (tmR f N c b k))) := ex29.trans (it_a it_10)
                      subst ex29
                      refine V.topI (y := bI (okR f se N sm c b ∧ tmR f N c a k = tmR f N c b k)) (bI_iff (and_congr (whTo_bit f (10 + c) se N sm (n := 7) (by omega) (by omega)) Iff.rfl)) ?_
                      refine V.iadd (pc' := 129) C dX7_look_128 rfl ?_
                      refine V.istore (pc' := 131) C [(9, .int ((alTo f se N sm c k a b) + (bI (okR f se N sm c b ∧ tmR f N c a k = tmR f N c b k)))), (0, .ref h), (1, .int (nI c)), (2, .int y), (3, .int (whTo f (10 + c) se N sm 7)), (4, .int (lkM f se N sm c q k)), (5, .int (lkW f se N sm c q k)), (6, .int (nI k)), (7, .int (woTo f se N sm c k a)), (8, .int (nI a)), (10, .int (nI b))] dX7_look_129 rfl 11 hnL rfl rfl ?_
                      refine V.iinc (pc' := 134) C (nI (b + 1)) [(10, .int (nI (b + 1))), (9, .int ((alTo f se N sm c k a b) + (bI (okR f se N sm c b ∧ tmR f N c a k = tmR f N c b k)))), (0, .ref h), (1, .int (nI c)), (2, .int y), (3, .int (whTo f (10 + c) se N sm 7)), (4, .int (lkM f se N sm c q k)), (5, .int (lkW f se N sm c q k)), (6, .int (nI k)), (7, .int (woTo f se N sm c k a)), (8, .int (nI a))] dX7_look_131 rfl 11 hnL rfl 10 rfl (ii_N b 1 rfl) rfl ?_
                      refine V.goto C 65 dX7_look_134 rfl ?_
                      refine V.lvs [2, 3, 4, 5, 6, 7, 8, 9, 10, 1, 0] (lv2 := [(0, .ref h), (1, .int (nI c)), (2, .int y), (3, .int (whTo f (10 + c) se N sm 7)), (4, .int (lkM f se N sm c q k)), (5, .int (lkW f se N sm c q k)), (6, .int (nI k)), (7, .int (woTo f se N sm c k a)), (8, .int (nI a)), (9, .int (alTo f se N sm c k a (b + 1))), (10, .int (nI (b + 1)))]) rfl ?_
                      exact ih_L18 (by omega) (Or.inl ((whTo_bit f (10 + c) se N sm (n := 7) (by omega) (by omega)).mp h24))
                    refine V.icmp_ne (pc' := 94) C 127 dX7_look_91 rfl rfl (fun h28 => ?_) (fun h28 => ?_)
                    · refine V.iconst (pc' := 128) C dX7_look_127 rfl kci_0 ?_
                      exact J30 _ (by rw [if_neg h28])
                    · refine V.aload_n (pc' := 95) C 0 dX7_look_94 rfl rfl ?_
                      refine V.get (pc' := 98) C dX7_look_95 rfl 0 rfl rfl in_X7 26 rfl q955 rfl ?_
                      refine V.bipush (pc' := 100) C dX7_look_98 rfl kcb_21 ?_
                      refine V.iload (pc' := 102) C 8 dX7_look_100 rfl rfl ?_
                      refine V.imulN (pc' := 103) C 21 a dX7_look_102 rfl ?_
                      refine V.iload (pc' := 105) C 6 dX7_look_103 rfl rfl ?_
                      refine V.iaddN (pc' := 106) C (21 * a) k dX7_look_105 rfl ?_
                      refine V.iald (pc' := 107) C (21 * a + k) dX7_look_106 rfl 3 rfl (by omega) rfl ?_
                      refine V.topI (y := tmR f N c a k) (hu3.2 a (by omega) k (by omega)) ?_
                      refine V.aload_n (pc' := 108) C 0 dX7_look_107 rfl rfl ?_
                      refine V.get (pc' := 111) C dX7_look_108 rfl 0 rfl rfl in_X7 26 rfl q955 rfl ?_
                      refine V.bipush (pc' := 113) C dX7_look_111 rfl kcb_21 ?_
                      refine V.iload (pc' := 115) C 10 dX7_look_113 rfl rfl ?_
                      refine V.imulN (pc' := 116) C 21 b dX7_look_115 rfl ?_
                      refine V.iload (pc' := 118) C 6 dX7_look_116 rfl rfl ?_
                      refine V.iaddN (pc' := 119) C (21 * b) k dX7_look_118 rfl ?_
                      refine V.iald (pc' := 120) C (21 * b + k) dX7_look_119 rfl 3 rfl (by omega) rfl ?_
                      refine V.topI (y := tmR f N c b k) (hu3.2 b (by omega) k (by omega)) ?_
                      refine V.icmp_ne (pc' := 123) C 127 dX7_look_120 rfl rfl (fun h29 => ?_) (fun h29 => ?_)
                      · refine V.iconst (pc' := 128) C dX7_look_127 rfl kci_0 ?_
                        exact J30 _ (by rw [if_pos h28, if_neg h29])
                      · refine V.iconst (pc' := 124) C dX7_look_123 rfl kci_1 ?_
                        refine V.goto C 128 dX7_look_124 rfl ?_
                        exact J30 _ (by rw [if_pos h28, if_pos h29])
              refine V.lvs [2, 3, 4, 5, 6, 7, 8, 9, 10, 1, 0] (lv2 := [(0, .ref h), (1, .int (nI c)), (2, .int y), (3, .int (whTo f (10 + c) se N sm 7)), (4, .int (lkM f se N sm c q k)), (5, .int (lkW f se N sm c q k)), (6, .int (nI k)), (7, .int (woTo f se N sm c k a)), (8, .int (nI a)), (9, .int (alTo f se N sm c k a 0)), (10, .int (nI 0))]) rfl ?_
              exact L18 0 (by omega) (Or.inr rfl)
          refine V.lvs [2, 3, 4, 5, 6, 7, 8, 1, 0] (lv2 := [(0, .ref h), (1, .int (nI c)), (2, .int y), (3, .int (whTo f (10 + c) se N sm 7)), (4, .int (lkM f se N sm c q k)), (5, .int (lkW f se N sm c q k)), (6, .int (nI k)), (7, .int (woTo f se N sm c k 0)), (8, .int (nI 0))]) rfl ?_
          exact L9 0 (by omega)
      refine V.lvs [4, 5, 6, 3, 2, 1, 0] (lv2 := [(0, .ref h), (1, .int (nI c)), (2, .int y), (3, .int (whTo f (10 + c) se N sm 7)), (4, .int (lkM f se N sm c q 0)), (5, .int (lkW f se N sm c q 0)), (6, .int (nI 0))]) rfl ?_
      exact L4 0 (by omega)
    · refine V.iconst (pc' := 19) C dX7_look_18 rfl kci_m1 ?_
      exact V.iret C T dX7_look_19 (f, tb) rfl rfl (if_neg (fun z => h2 z.2)).symm rfl (Qf.rf _) rfl rfl rfl
