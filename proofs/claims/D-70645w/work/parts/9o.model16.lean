set_option maxRecDepth 100000
set_option maxHeartbeats 4000000 in
theorem ct_X7_byteAt (l : Launch) (G : GG) (h : Nat) (ad : Nat → Nat) (i : Nat → Int32) (tp : Nat → Int32) (k : Nat) (td : Nat) (htd : i 7 = nI td) (ht : td ≤ 160) (hk : k ≤ 1000) : Ct l G yX7_byteAt (ws_ yX7_byteAt cX7_byteAt 2 (some .int)) ({ frames := 0, cells := 0, slots := 0, locals := 0 } : Room) [.ref h, .int (nI k)] [mO h ad i, (ad 6, .inl (G.2 0, 160, .inl tp))] (fun _ : Unit => some (.int (bt tp td k))) (fun _ => True) (fun _ => [mO h ad i, (ad 6, .inl (G.2 0, 160, .inl tp))]) := by
  refine Ct.of rfl rfl ?_
  intro M el eG hnL C T
  subst el
  subst eG
  have C : Cx M cX7_byteAt "ClockWardModel" ({ frames := 0, cells := 0, slots := 0, locals := 0 } : Room) := C
  refine V.lvs [0, 1] (lv2 := [(0, .ref h), (1, .int (nI k))]) rfl ?_
  refine V.iload_n (pc' := 1) C 1 dX7_byteAt_0 rfl rfl ?_
  refine V.aload_n (pc' := 2) C 0 dX7_byteAt_1 rfl rfl ?_
  refine V.get (pc' := 5) C dX7_byteAt_2 rfl 0 rfl rfl in_X7 7 rfl q936 rfl ?_
  refine V.topI htd ?_
  refine V.icmp_geN (pc' := 8) C k td (by omega) (by omega) 17 dX7_byteAt_5 rfl rfl (fun h1 => ?_) (fun h1 => ?_)
  · refine V.bipush (pc' := 19) C dX7_byteAt_17 rfl kcb_m4 ?_
    exact V.iret C T dX7_byteAt_19 () rfl rfl (bt_out (Nat.not_lt.mpr h1)).symm rfl trivial rfl rfl rfl
  · refine V.aload_n (pc' := 9) C 0 dX7_byteAt_8 rfl rfl ?_
    refine V.get (pc' := 12) C dX7_byteAt_9 rfl 0 rfl rfl in_X7 6 rfl q935 rfl ?_
    refine V.iload_n (pc' := 13) C 1 dX7_byteAt_12 rfl rfl ?_
    refine V.iald (pc' := 14) C k dX7_byteAt_13 rfl 1 rfl (by omega) rfl ?_
    refine V.goto C 19 dX7_byteAt_14 rfl ?_
    exact V.iret C T dX7_byteAt_19 () rfl rfl (bt_in h1).symm rfl trivial rfl rfl rfl
set_option maxHeartbeats 4000000 in
theorem ct_X7_fails (l : Launch) (G : GG) (h : Nat) (ad : Nat → Nat) (i : Nat → Int32) (P : TS) (c : Int32) (hb : P.1 = 0) : Ct l G yX7_fails (ws_ yX7_fails cX7_fails 2 none) ({ frames := 0, cells := 0, slots := 0, locals := 0 } : Room) [.ref h, .int c] [mO h ad (tI i P)] (fun _ : Unit => none) (fun _ => True) (fun _ => [mO h ad (tI i (fl c P))]) := by
  refine Ct.of rfl rfl ?_
  intro M el eG hnL C T
  subst el
  subst eG
  have C : Cx M cX7_fails "ClockWardModel" ({ frames := 0, cells := 0, slots := 0, locals := 0 } : Room) := C
  refine V.lvs [0, 1] (lv2 := [(0, .ref h), (1, .int c)]) rfl ?_
  refine V.weq (ws2 := [(h, .inr (7, [.ref (ad 0), .int (i 1), .ref (ad 2), .int (i 3), .int (i 4), .int (i 5), .ref (ad 6), .int (i 7), .int (i 8), .int P.1, .int P.2.1, .int (nI P.2.2.1), .int (nI P.2.2.2.1), .int P.2.2.2.2.1, .int P.2.2.2.2.2, .ref (ad 15), .ref (ad 16), .int (i 17), .int (i 18), .int (i 19), .int (i 20), .int (i 21), .int (i 22), .int (i 23), .ref (ad 24), .int (i 25), .ref (ad 26), .ref (ad 27), .ref (ad 28), .ref (ad 29), .ref (ad 30), .int (i 31)]))]) rfl ?_
  refine V.aload_n (pc' := 1) C 0 dX7_fails_0 rfl rfl ?_
  refine V.get (pc' := 4) C dX7_fails_1 rfl 0 rfl rfl in_X7 9 rfl q938 rfl ?_
  refine V.topI hb ?_
  refine V.if_ne (pc' := 7) C 20 dX7_fails_4 rfl rfl (fun h1 => absurd h1 (by decide)) (fun _ => ?_)
  refine V.aload_n (pc' := 8) C 0 dX7_fails_7 rfl rfl ?_
  refine V.iload_n (pc' := 9) C 1 dX7_fails_8 rfl rfl ?_
  refine V.put (pc' := 12) C [(h, .inr (7, [.ref (ad 0), .int (i 1), .ref (ad 2), .int (i 3), .int (i 4), .int (i 5), .ref (ad 6), .int (i 7), .int (i 8), .int c, .int P.2.1, .int (nI P.2.2.1), .int (nI P.2.2.2.1), .int P.2.2.2.2.1, .int P.2.2.2.2.2, .ref (ad 15), .ref (ad 16), .int (i 17), .int (i 18), .int (i 19), .int (i 20), .int (i 21), .int (i 22), .int (i 23), .ref (ad 24), .int (i 25), .ref (ad 26), .ref (ad 27), .ref (ad 28), .ref (ad 29), .ref (ad 30), .int (i 31)]))] dX7_fails_9 rfl 0 rfl rfl in_X7 tyX7_ok nmX7 9 rfl q938 rfl rfl rfl rfl rfl ?_
  refine V.aload_n (pc' := 13) C 0 dX7_fails_12 rfl rfl ?_
  refine V.aload_n (pc' := 14) C 0 dX7_fails_13 rfl rfl ?_
  refine V.get (pc' := 17) C dX7_fails_14 rfl 0 rfl rfl in_X7 12 rfl q941 rfl ?_
  refine V.put (pc' := 20) C [(h, .inr (7, [.ref (ad 0), .int (i 1), .ref (ad 2), .int (i 3), .int (i 4), .int (i 5), .ref (ad 6), .int (i 7), .int (i 8), .int c, .int (nI P.2.2.2.1), .int (nI P.2.2.1), .int (nI P.2.2.2.1), .int P.2.2.2.2.1, .int P.2.2.2.2.2, .ref (ad 15), .ref (ad 16), .int (i 17), .int (i 18), .int (i 19), .int (i 20), .int (i 21), .int (i 22), .int (i 23), .ref (ad 24), .int (i 25), .ref (ad 26), .ref (ad 27), .ref (ad 28), .ref (ad 29), .ref (ad 30), .int (i 31)]))] dX7_fails_17 rfl 0 rfl rfl in_X7 tyX7_ok nmX7 10 rfl q939 rfl rfl rfl rfl rfl ?_
  exact V.vret C T dX7_fails_20 () rfl trivial rfl rfl rfl
set_option maxHeartbeats 4000000 in
theorem ct_X7_step (l : Launch) (G : GG) (h : Nat) (ad : Nat → Nat) (i : Nat → Int32) (tp : Nat → Int32) (sp : Nat) (td : Nat) (htd : i 7 = nI td) (ht : td ≤ 160) (hb : i 9 = 0) (hs : i 11 = nI sp) (hsp : sp ≤ td) : Ct l G yX7_step (ws_ yX7_step cX7_step 2 none) ({ frames := 1, cells := 0, slots := 0, locals := 25 } : Room) [.ref h] [mO h ad i, (ad 6, .inl (G.2 0, 160, .inl tp))] (fun _ : Unit => none) (fun _ => True) (fun _ => [mO h ad (tI i (sTok (bt tp td) (i 10) sp)), (ad 6, .inl (G.2 0, 160, .inl tp))]) := by
  refine Ct.of rfl rfl ?_
  intro M el eG hnL C T
  subst el
  subst eG
  have C : Cx M cX7_step "ClockWardModel" ({ frames := 1, cells := 0, slots := 0, locals := 25 } : Room) := C
  refine V.lvs [0] (lv2 := [(0, .ref h)]) rfl ?_
  refine V.aload_n (pc' := 1) C 0 dX7_step_0 rfl rfl ?_
  refine V.get (pc' := 4) C dX7_step_1 rfl 0 rfl rfl in_X7 9 rfl q938 rfl ?_
  refine V.topI hb ?_
  refine V.if_le (pc' := 7) C 8 dX7_step_4 rfl rfl (fun _ => ?_) (fun h1 => absurd h1 (by decide))
  have L2 : ∀ c : Nat, c ≤ td - sp → (∀ x, x < c → isS ((bt tp td) (sp + x)) = true) → V M 0 0 [(h, .inr (7, [.ref (ad 0), .int (i 1), .ref (ad 2), .int (i 3), .int (i 4), .int (i 5), .ref (ad 6), .int (i 7), .int (i 8), .int 0, .int (i 10), .int (nI (sp + c)), .int (i 12), .int (i 13), .int (i 14), .ref (ad 15), .ref (ad 16), .int (i 17), .int (i 18), .int (i 19), .int (i 20), .int (i 21), .int (i 22), .int (i 23), .ref (ad 24), .int (i 25), .ref (ad 26), .ref (ad 27), .ref (ad 28), .ref (ad 29), .ref (ad 30), .int (i 31)])), (ad 6, .inl (M.G.2 0, 160, .inl tp))] [(0, .ref h)] [] 8 := by
    refine loopN _ (td - sp) (fun c hc ih_L2 => ?_)
    intro  hq
    refine V.aload_n (pc' := 9) C 0 dX7_step_8 rfl rfl ?_
    refine V.aload_n (pc' := 10) C 0 dX7_step_9 rfl rfl ?_
    refine V.get (pc' := 13) C dX7_step_10 rfl 0 rfl rfl in_X7 11 rfl q940 rfl ?_
    refine V.callV (pc' := 16) (wr := []) C (ct_X7_byteAt M.l M.G h ad (upd (upd i 9 0) 11 (nI (sp + c))) tp (sp + c) td htd ht (by omega)) dX7_step_13 rfl (lw_V q1047 q1049 qs34 q71 q1050) hyv_X7_byteAt rfl rfl 0 rfl rfl [0, 1] [] [0, 1] rfl rfl rfl (fun _ => [(h, .inr (7, [.ref (ad 0), .int (i 1), .ref (ad 2), .int (i 3), .int (i 4), .int (i 5), .ref (ad 6), .int (i 7), .int (i 8), .int 0, .int (i 10), .int (nI (sp + c)), .int (i 12), .int (i 13), .int (i 14), .ref (ad 15), .ref (ad 16), .int (i 17), .int (i 18), .int (i 19), .int (i 20), .int (i 21), .int (i 22), .int (i 23), .ref (ad 24), .int (i 25), .ref (ad 26), .ref (ad 27), .ref (ad 28), .ref (ad 29), .ref (ad 30), .int (i 31)])), (ad 6, .inl (M.G.2 0, 160, .inl tp))]) (fun _ => rfl) rfl 0 0 rfl rfl (fun _ => [.int (bt tp td (sp + c))]) (fun _ => rfl) (fun _ _ => ?_)
    refine V.bipush (pc' := 18) C dX7_step_16 rfl kcb_32 ?_
    refine V.icmp_ne (pc' := 21) C 34 dX7_step_18 rfl rfl (fun h3 => ?_) (fun h3 => ?_)
    · have eh := rn_at (q := isS) (B := (bt tp td)) (s := sp) (c := c) (by omega) hq (fun z => h3 (of_decide_eq_true z))
      have hB0 : (bt tp td) (rn isS (bt tp td) sp) = bt tp td (sp + c) := by rw [eh]
      refine V.aload_n (pc' := 35) C 0 dX7_step_34 rfl rfl ?_
      refine V.aload_n (pc' := 36) C 0 dX7_step_35 rfl rfl ?_
      refine V.get (pc' := 39) C dX7_step_36 rfl 0 rfl rfl in_X7 11 rfl q940 rfl ?_
      refine V.put (pc' := 42) C [(h, .inr (7, [.ref (ad 0), .int (i 1), .ref (ad 2), .int (i 3), .int (i 4), .int (i 5), .ref (ad 6), .int (i 7), .int (i 8), .int 0, .int (i 10), .int (nI (sp + c)), .int (nI (sp + c)), .int (i 13), .int (i 14), .ref (ad 15), .ref (ad 16), .int (i 17), .int (i 18), .int (i 19), .int (i 20), .int (i 21), .int (i 22), .int (i 23), .ref (ad 24), .int (i 25), .ref (ad 26), .ref (ad 27), .ref (ad 28), .ref (ad 29), .ref (ad 30), .int (i 31)])), (ad 6, .inl (M.G.2 0, 160, .inl tp))] dX7_step_39 rfl 0 rfl rfl in_X7 tyX7_ok nmX7 12 rfl q941 rfl rfl rfl rfl rfl ?_
      refine V.aload_n (pc' := 43) C 0 dX7_step_42 rfl rfl ?_
      refine V.aload_n (pc' := 44) C 0 dX7_step_43 rfl rfl ?_
      refine V.get (pc' := 47) C dX7_step_44 rfl 0 rfl rfl in_X7 11 rfl q940 rfl ?_
      refine V.callV (pc' := 50) (wr := []) C (ct_X7_byteAt M.l M.G h ad (upd (upd (upd i 9 0) 11 (nI (sp + c))) 12 (nI (sp + c))) tp (sp + c) td htd ht (by omega)) dX7_step_47 rfl (lw_V q1047 q1049 qs34 q71 q1050) hyv_X7_byteAt rfl rfl 0 rfl rfl [0, 1] [] [0, 1] rfl rfl rfl (fun _ => [(h, .inr (7, [.ref (ad 0), .int (i 1), .ref (ad 2), .int (i 3), .int (i 4), .int (i 5), .ref (ad 6), .int (i 7), .int (i 8), .int 0, .int (i 10), .int (nI (sp + c)), .int (nI (sp + c)), .int (i 13), .int (i 14), .ref (ad 15), .ref (ad 16), .int (i 17), .int (i 18), .int (i 19), .int (i 20), .int (i 21), .int (i 22), .int (i 23), .ref (ad 24), .int (i 25), .ref (ad 26), .ref (ad 27), .ref (ad 28), .ref (ad 29), .ref (ad 30), .int (i 31)])), (ad 6, .inl (M.G.2 0, 160, .inl tp))]) (fun _ => rfl) rfl 0 0 rfl rfl (fun _ => [.int (bt tp td (sp + c))]) (fun _ => rfl) (fun _ _ => ?_)
      refine V.istore_n (pc' := 51) C [(1, .int (bt tp td (sp + c))), (0, .ref h)] dX7_step_50 rfl 2 hnL rfl rfl ?_
      refine V.aload_n (pc' := 52) C 1 dX7_step_51 rfl rfl ?_
      refine V.iconst (pc' := 53) C dX7_step_52 rfl kci_0 ?_
      refine V.put (pc' := 56) C [(h, .inr (7, [.ref (ad 0), .int (i 1), .ref (ad 2), .int (i 3), .int (i 4), .int (i 5), .ref (ad 6), .int (i 7), .int (i 8), .int 0, .int (i 10), .int (nI (sp + c)), .int (nI (sp + c)), .int (i 13), .int 0, .ref (ad 15), .ref (ad 16), .int (i 17), .int (i 18), .int (i 19), .int (i 20), .int (i 21), .int (i 22), .int (i 23), .ref (ad 24), .int (i 25), .ref (ad 26), .ref (ad 27), .ref (ad 28), .ref (ad 29), .ref (ad 30), .int (i 31)])), (ad 6, .inl (M.G.2 0, 160, .inl tp))] dX7_step_53 rfl 0 rfl rfl in_X7 tyX7_ok nmX7 14 rfl q943 rfl rfl rfl rfl rfl ?_
      refine V.iload_n (pc' := 57) C 0 dX7_step_56 rfl rfl ?_
      refine V.bipush (pc' := 59) C dX7_step_57 rfl kcb_m4 ?_
      refine V.icmp_ne (pc' := 62) C 70 dX7_step_59 rfl rfl (fun h4 => ?_) (fun h4 => ?_)
      · refine V.iload_n (pc' := 71) C 0 dX7_step_70 rfl rfl ?_
        refine V.i2l (pc' := 72) C dX7_step_71 rfl ?_
        refine V.ldc2 (pc' := 75) C dX7_step_72 rfl q1051 ?_
        refine V.ldc2 (pc' := 78) C dX7_step_75 rfl q1052 ?_
        refine V.callS (pc' := 81) (wr := [(h, .inr (7, [.ref (ad 0), .int (i 1), .ref (ad 2), .int (i 3), .int (i 4), .int (i 5), .ref (ad 6), .int (i 7), .int (i 8), .int 0, .int (i 10), .int (nI (sp + c)), .int (nI (sp + c)), .int (i 13), .int 0, .ref (ad 15), .ref (ad 16), .int (i 17), .int (i 18), .int (i 19), .int (i 20), .int (i 21), .int (i 22), .int (i 23), .ref (ad 24), .int (i 25), .ref (ad 26), .ref (ad 27), .ref (ad 28), .ref (ad 29), .ref (ad 30), .int (i 31)])), (ad 6, .inl (M.G.2 0, 160, .inl tp))]) C (ct_X7_in M.l M.G (bt tp td (sp + c)) 97 122 ) dX7_step_78 rfl (lw_S q1032 q1033 q71 q1034) hys_X7_in rfl rfl [] [0, 1] [0, 1] rfl rfl rfl (fun _ => [(h, .inr (7, [.ref (ad 0), .int (i 1), .ref (ad 2), .int (i 3), .int (i 4), .int (i 5), .ref (ad 6), .int (i 7), .int (i 8), .int 0, .int (i 10), .int (nI (sp + c)), .int (nI (sp + c)), .int (i 13), .int 0, .ref (ad 15), .ref (ad 16), .int (i 17), .int (i 18), .int (i 19), .int (i 20), .int (i 21), .int (i 22), .int (i 23), .ref (ad 24), .int (i 25), .ref (ad 26), .ref (ad 27), .ref (ad 28), .ref (ad 29), .ref (ad 30), .int (i 31)])), (ad 6, .inl (M.G.2 0, 160, .inl tp))]) (fun _ => rfl) rfl 0 0 rfl rfl (fun _ => [.int (bI (inI (bt tp td (sp + c)) 97 122))]) (fun _ => rfl) (fun _ _ => ?_)
        refine V.if_eqB (pc' := 84) C 126 dX7_step_81 rfl rfl (fun h5 => ?_) (fun h5 => ?_)
        · refine V.iload_n (pc' := 127) C 0 dX7_step_126 rfl rfl ?_
          refine V.i2l (pc' := 128) C dX7_step_127 rfl ?_
          refine V.ldc2 (pc' := 131) C dX7_step_128 rfl q1053 ?_
          refine V.ldc2 (pc' := 134) C dX7_step_131 rfl q1054 ?_
          refine V.callS (pc' := 137) (wr := [(h, .inr (7, [.ref (ad 0), .int (i 1), .ref (ad 2), .int (i 3), .int (i 4), .int (i 5), .ref (ad 6), .int (i 7), .int (i 8), .int 0, .int (i 10), .int (nI (sp + c)), .int (nI (sp + c)), .int (i 13), .int 0, .ref (ad 15), .ref (ad 16), .int (i 17), .int (i 18), .int (i 19), .int (i 20), .int (i 21), .int (i 22), .int (i 23), .ref (ad 24), .int (i 25), .ref (ad 26), .ref (ad 27), .ref (ad 28), .ref (ad 29), .ref (ad 30), .int (i 31)])), (ad 6, .inl (M.G.2 0, 160, .inl tp))]) C (ct_X7_in M.l M.G (bt tp td (sp + c)) 48 57 ) dX7_step_134 rfl (lw_S q1032 q1033 q71 q1034) hys_X7_in rfl rfl [] [0, 1] [0, 1] rfl rfl rfl (fun _ => [(h, .inr (7, [.ref (ad 0), .int (i 1), .ref (ad 2), .int (i 3), .int (i 4), .int (i 5), .ref (ad 6), .int (i 7), .int (i 8), .int 0, .int (i 10), .int (nI (sp + c)), .int (nI (sp + c)), .int (i 13), .int 0, .ref (ad 15), .ref (ad 16), .int (i 17), .int (i 18), .int (i 19), .int (i 20), .int (i 21), .int (i 22), .int (i 23), .ref (ad 24), .int (i 25), .ref (ad 26), .ref (ad 27), .ref (ad 28), .ref (ad 29), .ref (ad 30), .int (i 31)])), (ad 6, .inl (M.G.2 0, 160, .inl tp))]) (fun _ => rfl) rfl 0 0 rfl rfl (fun _ => [.int (bI (inI (bt tp td (sp + c)) 48 57))]) (fun _ => rfl) (fun _ _ => ?_)
          refine V.if_eqB (pc' := 140) C 243 dX7_step_137 rfl rfl (fun h6 => ?_) (fun h6 => ?_)
          · refine V.aload_n (pc' := 244) C 1 dX7_step_243 rfl rfl ?_
            refine V.iconst (pc' := 245) C dX7_step_244 rfl kci_3 ?_
            refine V.put (pc' := 248) C [(h, .inr (7, [.ref (ad 0), .int (i 1), .ref (ad 2), .int (i 3), .int (i 4), .int (i 5), .ref (ad 6), .int (i 7), .int (i 8), .int 0, .int (i 10), .int (nI (sp + c)), .int (nI (sp + c)), .int 3, .int 0, .ref (ad 15), .ref (ad 16), .int (i 17), .int (i 18), .int (i 19), .int (i 20), .int (i 21), .int (i 22), .int (i 23), .ref (ad 24), .int (i 25), .ref (ad 26), .ref (ad 27), .ref (ad 28), .ref (ad 29), .ref (ad 30), .int (i 31)])), (ad 6, .inl (M.G.2 0, 160, .inl tp))] dX7_step_245 rfl 0 rfl rfl in_X7 tyX7_ok nmX7 13 rfl q942 rfl rfl rfl rfl rfl ?_
            refine V.aload_n (pc' := 249) C 1 dX7_step_248 rfl rfl ?_
            refine V.dup (pc' := 250) C rfl dX7_step_249 rfl ?_
            refine V.get (pc' := 253) C dX7_step_250 rfl 0 rfl rfl in_X7 11 rfl q940 rfl ?_
            refine V.iconst (pc' := 254) C dX7_step_253 rfl kci_1 ?_
            refine V.iaddN (pc' := 255) C (sp + c) 1 dX7_step_254 rfl ?_
            refine V.put (pc' := 258) C [(h, .inr (7, [.ref (ad 0), .int (i 1), .ref (ad 2), .int (i 3), .int (i 4), .int (i 5), .ref (ad 6), .int (i 7), .int (i 8), .int 0, .int (i 10), .int (nI (sp + c + 1)), .int (nI (sp + c)), .int 3, .int 0, .ref (ad 15), .ref (ad 16), .int (i 17), .int (i 18), .int (i 19), .int (i 20), .int (i 21), .int (i 22), .int (i 23), .ref (ad 24), .int (i 25), .ref (ad 26), .ref (ad 27), .ref (ad 28), .ref (ad 29), .ref (ad 30), .int (i 31)])), (ad 6, .inl (M.G.2 0, 160, .inl tp))] dX7_step_255 rfl 0 rfl rfl in_X7 tyX7_ok nmX7 11 rfl q940 rfl rfl rfl rfl rfl ?_
            refine V.iload_n (pc' := 259) C 0 dX7_step_258 rfl rfl ?_
            refine V.bipush (pc' := 261) C dX7_step_259 rfl kcb_59 ?_
            refine V.icmp_eq (pc' := 264) C 269 dX7_step_261 rfl rfl (fun h7 => ?_) (fun h7 => ?_)
            · have es : sTok (bt tp td) (i 10) sp = (0, i 10, sp + c + 1, sp + c, 3, 0) := by
                unfold sTok
                rw [eh, if_neg h4, if_neg h5, if_neg h6, if_pos h7]
              exact V.vret C T dX7_step_269 () rfl trivial (by rw [es]; first | done | rfl) rfl rfl
            · refine V.aload_n (pc' := 265) C 1 dX7_step_264 rfl rfl ?_
              refine V.iconst (pc' := 266) C dX7_step_265 rfl kci_1 ?_
              refine V.callV (pc' := 269) (wr := [(ad 6, .inl (M.G.2 0, 160, .inl tp))]) C (ct_X7_fails M.l M.G h ad i (0, i 10, sp + c + 1, sp + c, 3, 0) 1 rfl) dX7_step_266 rfl (lw_V q1055 q1057 qs35 q71 q1058) hyv_X7_fails rfl rfl 0 rfl rfl [0] [1] [1, 0] rfl rfl rfl (fun _ => [mO h ad (tI i (fl 1 (0, i 10, sp + c + 1, sp + c, 3, 0))), (ad 6, .inl (M.G.2 0, 160, .inl tp))]) (fun _ => rfl) rfl 0 0 rfl rfl (fun _ => []) (fun _ => rfl) (fun _ _ => ?_)
              have es : sTok (bt tp td) (i 10) sp = (1, nI ((0, i 10, sp + c + 1, sp + c, 3, 0).2.2.2.1), (0, i 10, sp + c + 1, sp + c, 3, 0).2.2.1, (0, i 10, sp + c + 1, sp + c, 3, 0).2.2.2.1, (0, i 10, sp + c + 1, sp + c, 3, 0).2.2.2.2.1, (0, i 10, sp + c + 1, sp + c, 3, 0).2.2.2.2.2) := by
                unfold sTok
                rw [eh, if_neg h4, if_neg h5, if_neg h6, if_neg h7]
              exact V.vret C T dX7_step_269 () rfl trivial (by rw [es]; first | done | rfl) rfl rfl
          · have L8 : ∀ c3 : Nat, c3 ≤ td - (sp + c) → (∀ x, x < c3 → isD ((bt tp td) (sp + c + x)) = true) → V M 0 0 [(h, .inr (7, [.ref (ad 0), .int (i 1), .ref (ad 2), .int (i 3), .int (i 4), .int (i 5), .ref (ad 6), .int (i 7), .int (i 8), .int 0, .int (i 10), .int (nI (sp + c + c3)), .int (nI (sp + c)), .int (i 13), .int (dv (bt tp td) (sp + c) c3), .ref (ad 15), .ref (ad 16), .int (i 17), .int (i 18), .int (i 19), .int (i 20), .int (i 21), .int (i 22), .int (i 23), .ref (ad 24), .int (i 25), .ref (ad 26), .ref (ad 27), .ref (ad 28), .ref (ad 29), .ref (ad 30), .int (i 31)])), (ad 6, .inl (M.G.2 0, 160, .inl tp))] [(0, .ref h), (1, .int (bt tp td (sp + c)))] [] 140 := by
              refine loopN _ (td - (sp + c)) (fun c3 hc3 ih_L8 => ?_)
              intro  hqc3
              refine V.aload_n (pc' := 141) C 0 dX7_step_140 rfl rfl ?_
              refine V.aload_n (pc' := 142) C 0 dX7_step_141 rfl rfl ?_
              refine V.get (pc' := 145) C dX7_step_142 rfl 0 rfl rfl in_X7 11 rfl q940 rfl ?_
              refine V.callV (pc' := 148) (wr := []) C (ct_X7_byteAt M.l M.G h ad (upd (upd (upd (upd i 9 0) 11 (nI (sp + c + c3))) 12 (nI (sp + c))) 14 (dv (bt tp td) (sp + c) c3)) tp (sp + c + c3) td htd ht (by omega)) dX7_step_145 rfl (lw_V q1047 q1049 qs34 q71 q1050) hyv_X7_byteAt rfl rfl 0 rfl rfl [0, 1] [] [0, 1] rfl rfl rfl (fun _ => [(h, .inr (7, [.ref (ad 0), .int (i 1), .ref (ad 2), .int (i 3), .int (i 4), .int (i 5), .ref (ad 6), .int (i 7), .int (i 8), .int 0, .int (i 10), .int (nI (sp + c + c3)), .int (nI (sp + c)), .int (i 13), .int (dv (bt tp td) (sp + c) c3), .ref (ad 15), .ref (ad 16), .int (i 17), .int (i 18), .int (i 19), .int (i 20), .int (i 21), .int (i 22), .int (i 23), .ref (ad 24), .int (i 25), .ref (ad 26), .ref (ad 27), .ref (ad 28), .ref (ad 29), .ref (ad 30), .int (i 31)])), (ad 6, .inl (M.G.2 0, 160, .inl tp))]) (fun _ => rfl) rfl 0 0 rfl rfl (fun _ => [.int (bt tp td (sp + c + c3))]) (fun _ => rfl) (fun _ _ => ?_)
              refine V.i2l (pc' := 149) C dX7_step_148 rfl ?_
              refine V.ldc2 (pc' := 152) C dX7_step_149 rfl q1053 ?_
              refine V.ldc2 (pc' := 155) C dX7_step_152 rfl q1054 ?_
              refine V.callS (pc' := 158) (wr := [(h, .inr (7, [.ref (ad 0), .int (i 1), .ref (ad 2), .int (i 3), .int (i 4), .int (i 5), .ref (ad 6), .int (i 7), .int (i 8), .int 0, .int (i 10), .int (nI (sp + c + c3)), .int (nI (sp + c)), .int (i 13), .int (dv (bt tp td) (sp + c) c3), .ref (ad 15), .ref (ad 16), .int (i 17), .int (i 18), .int (i 19), .int (i 20), .int (i 21), .int (i 22), .int (i 23), .ref (ad 24), .int (i 25), .ref (ad 26), .ref (ad 27), .ref (ad 28), .ref (ad 29), .ref (ad 30), .int (i 31)])), (ad 6, .inl (M.G.2 0, 160, .inl tp))]) C (ct_X7_in M.l M.G (bt tp td (sp + c + c3)) 48 57 ) dX7_step_155 rfl (lw_S q1032 q1033 q71 q1034) hys_X7_in rfl rfl [] [0, 1] [0, 1] rfl rfl rfl (fun _ => [(h, .inr (7, [.ref (ad 0), .int (i 1), .ref (ad 2), .int (i 3), .int (i 4), .int (i 5), .ref (ad 6), .int (i 7), .int (i 8), .int 0, .int (i 10), .int (nI (sp + c + c3)), .int (nI (sp + c)), .int (i 13), .int (dv (bt tp td) (sp + c) c3), .ref (ad 15), .ref (ad 16), .int (i 17), .int (i 18), .int (i 19), .int (i 20), .int (i 21), .int (i 22), .int (i 23), .ref (ad 24), .int (i 25), .ref (ad 26), .ref (ad 27), .ref (ad 28), .ref (ad 29), .ref (ad 30), .int (i 31)])), (ad 6, .inl (M.G.2 0, 160, .inl tp))]) (fun _ => rfl) rfl 0 0 rfl rfl (fun _ => [.int (bI (inI (bt tp td (sp + c + c3)) 48 57))]) (fun _ => rfl) (fun _ _ => ?_)
              refine V.if_eqB (pc' := 161) C 217 dX7_step_158 rfl rfl (fun h9 => ?_) (fun h9 => ?_)
              · have eD := rn_at (q := isD) (B := (bt tp td)) (s := sp + c) (c := c3) (by omega) hqc3 (fun z => h9 (of_decide_eq_true z))
                refine V.aload_n (pc' := 218) C 0 dX7_step_217 rfl rfl ?_
                refine V.iconst (pc' := 219) C dX7_step_218 rfl kci_2 ?_
                refine V.put (pc' := 222) C [(h, .inr (7, [.ref (ad 0), .int (i 1), .ref (ad 2), .int (i 3), .int (i 4), .int (i 5), .ref (ad 6), .int (i 7), .int (i 8), .int 0, .int (i 10), .int (nI (sp + c + c3)), .int (nI (sp + c)), .int 2, .int (dv (bt tp td) (sp + c) c3), .ref (ad 15), .ref (ad 16), .int (i 17), .int (i 18), .int (i 19), .int (i 20), .int (i 21), .int (i 22), .int (i 23), .ref (ad 24), .int (i 25), .ref (ad 26), .ref (ad 27), .ref (ad 28), .ref (ad 29), .ref (ad 30), .int (i 31)])), (ad 6, .inl (M.G.2 0, 160, .inl tp))] dX7_step_219 rfl 0 rfl rfl in_X7 tyX7_ok nmX7 13 rfl q942 rfl rfl rfl rfl rfl ?_
                refine V.aload_n (pc' := 223) C 0 dX7_step_222 rfl rfl ?_
                refine V.get (pc' := 226) C dX7_step_223 rfl 0 rfl rfl in_X7 11 rfl q940 rfl ?_
                refine V.aload_n (pc' := 227) C 0 dX7_step_226 rfl rfl ?_
                refine V.get (pc' := 230) C dX7_step_227 rfl 0 rfl rfl in_X7 12 rfl q941 rfl ?_
                refine V.isubN (pc' := 231) C (sp + c + c3) (sp + c) (by omega) dX7_step_230 rfl ?_
                refine V.iconst (pc' := 232) C dX7_step_231 rfl kci_2 ?_
                refine V.icmp_leN (pc' := 235) C ((sp + c + c3) - (sp + c)) 2 (by omega) (by omega) 269 dX7_step_232 rfl rfl (fun h10 => ?_) (fun h10 => ?_)
                · have es : sTok (bt tp td) (i 10) sp = (0, i 10, sp + c + c3, sp + c, 2, dv (bt tp td) (sp + c) c3) := by
                    unfold sTok
                    rw [eh, eD, if_neg h4, if_neg h5, if_pos h6, if_neg (Nat.not_lt.mpr h10)]
                    rw [show sp + c + c3 - (sp + c) = c3 by omega]
                  exact V.vret C T dX7_step_269 () rfl trivial (by rw [es]; first | done | rfl) rfl rfl
                · refine V.aload_n (pc' := 236) C 0 dX7_step_235 rfl rfl ?_
                  refine V.iconst (pc' := 237) C dX7_step_236 rfl kci_1 ?_
                  refine V.callV (pc' := 240) (wr := [(ad 6, .inl (M.G.2 0, 160, .inl tp))]) C (ct_X7_fails M.l M.G h ad i (0, i 10, sp + c + c3, sp + c, 2, dv (bt tp td) (sp + c) c3) 1 rfl) dX7_step_237 rfl (lw_V q1055 q1057 qs35 q71 q1058) hyv_X7_fails rfl rfl 0 rfl rfl [0] [1] [1, 0] rfl rfl rfl (fun _ => [mO h ad (tI i (fl 1 (0, i 10, sp + c + c3, sp + c, 2, dv (bt tp td) (sp + c) c3))), (ad 6, .inl (M.G.2 0, 160, .inl tp))]) (fun _ => rfl) rfl 0 0 rfl rfl (fun _ => []) (fun _ => rfl) (fun _ _ => ?_)
                  refine V.goto C 269 dX7_step_240 rfl ?_
                  have es : sTok (bt tp td) (i 10) sp = (1, nI ((0, i 10, sp + c + c3, sp + c, 2, dv (bt tp td) (sp + c) c3).2.2.2.1), (0, i 10, sp + c + c3, sp + c, 2, dv (bt tp td) (sp + c) c3).2.2.1, (0, i 10, sp + c + c3, sp + c, 2, dv (bt tp td) (sp + c) c3).2.2.2.1, (0, i 10, sp + c + c3, sp + c, 2, dv (bt tp td) (sp + c) c3).2.2.2.2.1, (0, i 10, sp + c + c3, sp + c, 2, dv (bt tp td) (sp + c) c3).2.2.2.2.2) := by
                    unfold sTok
                    rw [eh, eD, if_neg h4, if_neg h5, if_pos h6, if_pos h10]
                    rw [show sp + c + c3 - (sp + c) = c3 by omega]
                  exact V.vret C T dX7_step_269 () rfl trivial (by rw [es]; first | done | rfl) rfl rfl
              · have hltc3 := in_lt h9 (by decide)
                refine V.aload_n (pc' := 162) C 0 dX7_step_161 rfl rfl ?_
                refine V.aload_n (pc' := 163) C 0 dX7_step_162 rfl rfl ?_
                refine V.get (pc' := 166) C dX7_step_163 rfl 0 rfl rfl in_X7 11 rfl q940 rfl ?_
                refine V.aload_n (pc' := 167) C 0 dX7_step_166 rfl rfl ?_
                refine V.get (pc' := 170) C dX7_step_167 rfl 0 rfl rfl in_X7 12 rfl q941 rfl ?_
                refine V.isubN (pc' := 171) C (sp + c + c3) (sp + c) (by omega) dX7_step_170 rfl ?_
                refine V.iconst (pc' := 172) C dX7_step_171 rfl kci_2 ?_
                refine V.icmp_geN (pc' := 175) C ((sp + c + c3) - (sp + c)) 2 (by omega) (by omega) 197 dX7_step_172 rfl rfl (fun h11 => ?_) (fun h11 => ?_)
                · refine V.aload_n (pc' := 198) C 0 dX7_step_197 rfl rfl ?_
                  refine V.get (pc' := 201) C dX7_step_198 rfl 0 rfl rfl in_X7 14 rfl q943 rfl ?_
                  refine V.put (pc' := 204) C [(h, .inr (7, [.ref (ad 0), .int (i 1), .ref (ad 2), .int (i 3), .int (i 4), .int (i 5), .ref (ad 6), .int (i 7), .int (i 8), .int 0, .int (i 10), .int (nI (sp + c + c3)), .int (nI (sp + c)), .int (i 13), .int (dv (bt tp td) (sp + c) c3), .ref (ad 15), .ref (ad 16), .int (i 17), .int (i 18), .int (i 19), .int (i 20), .int (i 21), .int (i 22), .int (i 23), .ref (ad 24), .int (i 25), .ref (ad 26), .ref (ad 27), .ref (ad 28), .ref (ad 29), .ref (ad 30), .int (i 31)])), (ad 6, .inl (M.G.2 0, 160, .inl tp))] dX7_step_201 rfl 0 rfl rfl in_X7 tyX7_ok nmX7 14 rfl q943 rfl rfl rfl rfl rfl ?_
                  refine V.aload_n (pc' := 205) C 0 dX7_step_204 rfl rfl ?_
                  refine V.dup (pc' := 206) C rfl dX7_step_205 rfl ?_
                  refine V.get (pc' := 209) C dX7_step_206 rfl 0 rfl rfl in_X7 11 rfl q940 rfl ?_
                  refine V.iconst (pc' := 210) C dX7_step_209 rfl kci_1 ?_
                  refine V.iaddN (pc' := 211) C (sp + c + c3) 1 dX7_step_210 rfl ?_
                  refine V.put (pc' := 214) C [(h, .inr (7, [.ref (ad 0), .int (i 1), .ref (ad 2), .int (i 3), .int (i 4), .int (i 5), .ref (ad 6), .int (i 7), .int (i 8), .int 0, .int (i 10), .int (nI (sp + c + c3 + 1)), .int (nI (sp + c)), .int (i 13), .int (dv (bt tp td) (sp + c) c3), .ref (ad 15), .ref (ad 16), .int (i 17), .int (i 18), .int (i 19), .int (i 20), .int (i 21), .int (i 22), .int (i 23), .ref (ad 24), .int (i 25), .ref (ad 26), .ref (ad 27), .ref (ad 28), .ref (ad 29), .ref (ad 30), .int (i 31)])), (ad 6, .inl (M.G.2 0, 160, .inl tp))] dX7_step_211 rfl 0 rfl rfl in_X7 tyX7_ok nmX7 11 rfl q940 rfl rfl rfl rfl rfl ?_
                  refine V.goto C 140 dX7_step_214 rfl ?_
                  refine V.lvs [0, 1] (lv2 := [(0, .ref h), (1, .int (bt tp td (sp + c)))]) rfl ?_
                  refine V.weq (ws2 := [(h, .inr (7, [.ref (ad 0), .int (i 1), .ref (ad 2), .int (i 3), .int (i 4), .int (i 5), .ref (ad 6), .int (i 7), .int (i 8), .int 0, .int (i 10), .int (nI (sp + c + (c3 + 1))), .int (nI (sp + c)), .int (i 13), .int (dv (bt tp td) (sp + c) (c3 + 1)), .ref (ad 15), .ref (ad 16), .int (i 17), .int (i 18), .int (i 19), .int (i 20), .int (i 21), .int (i 22), .int (i 23), .ref (ad 24), .int (i 25), .ref (ad 26), .ref (ad 27), .ref (ad 28), .ref (ad 29), .ref (ad 30), .int (i 31)])), (ad 6, .inl (M.G.2 0, 160, .inl tp))]) (by rw [dv_out (by omega)]; rfl) ?_
                  exact ih_L8 (by omega) (allB hqc3 (decide_eq_true h9))
                · refine V.bipush (pc' := 177) C dX7_step_175 rfl kcb_10 ?_
                  refine V.aload_n (pc' := 178) C 0 dX7_step_177 rfl rfl ?_
                  refine V.get (pc' := 181) C dX7_step_178 rfl 0 rfl rfl in_X7 14 rfl q943 rfl ?_
                  refine V.imul (pc' := 182) C dX7_step_181 rfl ?_
                  refine V.aload_n (pc' := 183) C 0 dX7_step_182 rfl rfl ?_
                  refine V.aload_n (pc' := 184) C 0 dX7_step_183 rfl rfl ?_
                  refine V.get (pc' := 187) C dX7_step_184 rfl 0 rfl rfl in_X7 11 rfl q940 rfl ?_
                  refine V.callV (pc' := 190) (wr := []) C (ct_X7_byteAt M.l M.G h ad (upd (upd (upd (upd i 9 0) 11 (nI (sp + c + c3))) 12 (nI (sp + c))) 14 (dv (bt tp td) (sp + c) c3)) tp (sp + c + c3) td htd ht (by omega)) dX7_step_187 rfl (lw_V q1047 q1049 qs34 q71 q1050) hyv_X7_byteAt rfl rfl 0 rfl rfl [0, 1] [] [0, 1] rfl rfl rfl (fun _ => [(h, .inr (7, [.ref (ad 0), .int (i 1), .ref (ad 2), .int (i 3), .int (i 4), .int (i 5), .ref (ad 6), .int (i 7), .int (i 8), .int 0, .int (i 10), .int (nI (sp + c + c3)), .int (nI (sp + c)), .int (i 13), .int (dv (bt tp td) (sp + c) c3), .ref (ad 15), .ref (ad 16), .int (i 17), .int (i 18), .int (i 19), .int (i 20), .int (i 21), .int (i 22), .int (i 23), .ref (ad 24), .int (i 25), .ref (ad 26), .ref (ad 27), .ref (ad 28), .ref (ad 29), .ref (ad 30), .int (i 31)])), (ad 6, .inl (M.G.2 0, 160, .inl tp))]) (fun _ => rfl) rfl 0 0 rfl rfl (fun _ => [.int (bt tp td (sp + c + c3)), .int (10 * (dv (bt tp td) (sp + c) c3)), .ref h]) (fun _ => rfl) (fun _ _ => ?_)
                  refine V.iadd (pc' := 191) C dX7_step_190 rfl ?_
                  refine V.bipush (pc' := 193) C dX7_step_191 rfl kcb_48 ?_
                  refine V.isub (pc' := 194) C dX7_step_193 rfl ?_
                  refine V.goto C 201 dX7_step_194 rfl ?_
                  refine V.put (pc' := 204) C [(h, .inr (7, [.ref (ad 0), .int (i 1), .ref (ad 2), .int (i 3), .int (i 4), .int (i 5), .ref (ad 6), .int (i 7), .int (i 8), .int 0, .int (i 10), .int (nI (sp + c + c3)), .int (nI (sp + c)), .int (i 13), .int (((10 * (dv (bt tp td) (sp + c) c3)) + (bt tp td (sp + c + c3))) - 48), .ref (ad 15), .ref (ad 16), .int (i 17), .int (i 18), .int (i 19), .int (i 20), .int (i 21), .int (i 22), .int (i 23), .ref (ad 24), .int (i 25), .ref (ad 26), .ref (ad 27), .ref (ad 28), .ref (ad 29), .ref (ad 30), .int (i 31)])), (ad 6, .inl (M.G.2 0, 160, .inl tp))] dX7_step_201 rfl 0 rfl rfl in_X7 tyX7_ok nmX7 14 rfl q943 rfl rfl rfl rfl rfl ?_
                  refine V.aload_n (pc' := 205) C 0 dX7_step_204 rfl rfl ?_
                  refine V.dup (pc' := 206) C rfl dX7_step_205 rfl ?_
                  refine V.get (pc' := 209) C dX7_step_206 rfl 0 rfl rfl in_X7 11 rfl q940 rfl ?_
                  refine V.iconst (pc' := 210) C dX7_step_209 rfl kci_1 ?_
                  refine V.iaddN (pc' := 211) C (sp + c + c3) 1 dX7_step_210 rfl ?_
                  refine V.put (pc' := 214) C [(h, .inr (7, [.ref (ad 0), .int (i 1), .ref (ad 2), .int (i 3), .int (i 4), .int (i 5), .ref (ad 6), .int (i 7), .int (i 8), .int 0, .int (i 10), .int (nI (sp + c + c3 + 1)), .int (nI (sp + c)), .int (i 13), .int (((10 * (dv (bt tp td) (sp + c) c3)) + (bt tp td (sp + c + c3))) - 48), .ref (ad 15), .ref (ad 16), .int (i 17), .int (i 18), .int (i 19), .int (i 20), .int (i 21), .int (i 22), .int (i 23), .ref (ad 24), .int (i 25), .ref (ad 26), .ref (ad 27), .ref (ad 28), .ref (ad 29), .ref (ad 30), .int (i 31)])), (ad 6, .inl (M.G.2 0, 160, .inl tp))] dX7_step_211 rfl 0 rfl rfl in_X7 tyX7_ok nmX7 11 rfl q940 rfl rfl rfl rfl rfl ?_
                  refine V.goto C 140 dX7_step_214 rfl ?_
                  refine V.lvs [0, 1] (lv2 := [(0, .ref h), (1, .int (bt tp td (sp + c)))]) rfl ?_
                  refine V.weq (ws2 := [(h, .inr (7, [.ref (ad 0), .int (i 1), .ref (ad 2), .int (i 3), .int (i 4), .int (i 5), .ref (ad 6), .int (i 7), .int (i 8), .int 0, .int (i 10), .int (nI (sp + c + (c3 + 1))), .int (nI (sp + c)), .int (i 13), .int (dv (bt tp td) (sp + c) (c3 + 1)), .ref (ad 15), .ref (ad 16), .int (i 17), .int (i 18), .int (i 19), .int (i 20), .int (i 21), .int (i 22), .int (i 23), .ref (ad 24), .int (i 25), .ref (ad 26), .ref (ad 27), .ref (ad 28), .ref (ad 29), .ref (ad 30), .int (i 31)])), (ad 6, .inl (M.G.2 0, 160, .inl tp))]) (by rw [dv_in (by omega)]; rfl) ?_
                  exact ih_L8 (by omega) (allB hqc3 (decide_eq_true h9))
            refine V.lvs [1, 0] (lv2 := [(0, .ref h), (1, .int (bt tp td (sp + c)))]) rfl ?_
            refine V.weq (ws2 := [(h, .inr (7, [.ref (ad 0), .int (i 1), .ref (ad 2), .int (i 3), .int (i 4), .int (i 5), .ref (ad 6), .int (i 7), .int (i 8), .int 0, .int (i 10), .int (nI (sp + c + 0)), .int (nI (sp + c)), .int (i 13), .int (dv (bt tp td) (sp + c) 0), .ref (ad 15), .ref (ad 16), .int (i 17), .int (i 18), .int (i 19), .int (i 20), .int (i 21), .int (i 22), .int (i 23), .ref (ad 24), .int (i 25), .ref (ad 26), .ref (ad 27), .ref (ad 28), .ref (ad 29), .ref (ad 30), .int (i 31)])), (ad 6, .inl (M.G.2 0, 160, .inl tp))]) rfl ?_
            exact L8 0 (by omega) (fun x hx => absurd hx (by omega))
        · have L12 : ∀ c2 : Nat, c2 ≤ td - (sp + c) → (∀ x, x < c2 → isL ((bt tp td) (sp + c + x)) = true) → V M 0 0 [(h, .inr (7, [.ref (ad 0), .int (i 1), .ref (ad 2), .int (i 3), .int (i 4), .int (i 5), .ref (ad 6), .int (i 7), .int (i 8), .int 0, .int (i 10), .int (nI (sp + c + c2)), .int (nI (sp + c)), .int (i 13), .int 0, .ref (ad 15), .ref (ad 16), .int (i 17), .int (i 18), .int (i 19), .int (i 20), .int (i 21), .int (i 22), .int (i 23), .ref (ad 24), .int (i 25), .ref (ad 26), .ref (ad 27), .ref (ad 28), .ref (ad 29), .ref (ad 30), .int (i 31)])), (ad 6, .inl (M.G.2 0, 160, .inl tp))] [(0, .ref h), (1, .int (bt tp td (sp + c)))] [] 84 := by
            refine loopN _ (td - (sp + c)) (fun c2 hc2 ih_L12 => ?_)
            intro  hqc2
            refine V.aload_n (pc' := 85) C 0 dX7_step_84 rfl rfl ?_
            refine V.aload_n (pc' := 86) C 0 dX7_step_85 rfl rfl ?_
            refine V.get (pc' := 89) C dX7_step_86 rfl 0 rfl rfl in_X7 11 rfl q940 rfl ?_
            refine V.callV (pc' := 92) (wr := []) C (ct_X7_byteAt M.l M.G h ad (upd (upd (upd (upd i 9 0) 11 (nI (sp + c + c2))) 12 (nI (sp + c))) 14 0) tp (sp + c + c2) td htd ht (by omega)) dX7_step_89 rfl (lw_V q1047 q1049 qs34 q71 q1050) hyv_X7_byteAt rfl rfl 0 rfl rfl [0, 1] [] [0, 1] rfl rfl rfl (fun _ => [(h, .inr (7, [.ref (ad 0), .int (i 1), .ref (ad 2), .int (i 3), .int (i 4), .int (i 5), .ref (ad 6), .int (i 7), .int (i 8), .int 0, .int (i 10), .int (nI (sp + c + c2)), .int (nI (sp + c)), .int (i 13), .int 0, .ref (ad 15), .ref (ad 16), .int (i 17), .int (i 18), .int (i 19), .int (i 20), .int (i 21), .int (i 22), .int (i 23), .ref (ad 24), .int (i 25), .ref (ad 26), .ref (ad 27), .ref (ad 28), .ref (ad 29), .ref (ad 30), .int (i 31)])), (ad 6, .inl (M.G.2 0, 160, .inl tp))]) (fun _ => rfl) rfl 0 0 rfl rfl (fun _ => [.int (bt tp td (sp + c + c2))]) (fun _ => rfl) (fun _ _ => ?_)
            refine V.i2l (pc' := 93) C dX7_step_92 rfl ?_
            refine V.ldc2 (pc' := 96) C dX7_step_93 rfl q1051 ?_
            refine V.ldc2 (pc' := 99) C dX7_step_96 rfl q1052 ?_
            refine V.callS (pc' := 102) (wr := [(h, .inr (7, [.ref (ad 0), .int (i 1), .ref (ad 2), .int (i 3), .int (i 4), .int (i 5), .ref (ad 6), .int (i 7), .int (i 8), .int 0, .int (i 10), .int (nI (sp + c + c2)), .int (nI (sp + c)), .int (i 13), .int 0, .ref (ad 15), .ref (ad 16), .int (i 17), .int (i 18), .int (i 19), .int (i 20), .int (i 21), .int (i 22), .int (i 23), .ref (ad 24), .int (i 25), .ref (ad 26), .ref (ad 27), .ref (ad 28), .ref (ad 29), .ref (ad 30), .int (i 31)])), (ad 6, .inl (M.G.2 0, 160, .inl tp))]) C (ct_X7_in M.l M.G (bt tp td (sp + c + c2)) 97 122 ) dX7_step_99 rfl (lw_S q1032 q1033 q71 q1034) hys_X7_in rfl rfl [] [0, 1] [0, 1] rfl rfl rfl (fun _ => [(h, .inr (7, [.ref (ad 0), .int (i 1), .ref (ad 2), .int (i 3), .int (i 4), .int (i 5), .ref (ad 6), .int (i 7), .int (i 8), .int 0, .int (i 10), .int (nI (sp + c + c2)), .int (nI (sp + c)), .int (i 13), .int 0, .ref (ad 15), .ref (ad 16), .int (i 17), .int (i 18), .int (i 19), .int (i 20), .int (i 21), .int (i 22), .int (i 23), .ref (ad 24), .int (i 25), .ref (ad 26), .ref (ad 27), .ref (ad 28), .ref (ad 29), .ref (ad 30), .int (i 31)])), (ad 6, .inl (M.G.2 0, 160, .inl tp))]) (fun _ => rfl) rfl 0 0 rfl rfl (fun _ => [.int (bI (inI (bt tp td (sp + c + c2)) 97 122))]) (fun _ => rfl) (fun _ _ => ?_)
            refine V.if_eqB (pc' := 105) C 118 dX7_step_102 rfl rfl (fun h13 => ?_) (fun h13 => ?_)
            · have eL := rn_at (q := isL) (B := (bt tp td)) (s := sp + c) (c := c2) (by omega) hqc2 (fun z => h13 (of_decide_eq_true z))
              refine V.aload_n (pc' := 119) C 0 dX7_step_118 rfl rfl ?_
              refine V.iconst (pc' := 120) C dX7_step_119 rfl kci_1 ?_
              refine V.put (pc' := 123) C [(h, .inr (7, [.ref (ad 0), .int (i 1), .ref (ad 2), .int (i 3), .int (i 4), .int (i 5), .ref (ad 6), .int (i 7), .int (i 8), .int 0, .int (i 10), .int (nI (sp + c + c2)), .int (nI (sp + c)), .int 1, .int 0, .ref (ad 15), .ref (ad 16), .int (i 17), .int (i 18), .int (i 19), .int (i 20), .int (i 21), .int (i 22), .int (i 23), .ref (ad 24), .int (i 25), .ref (ad 26), .ref (ad 27), .ref (ad 28), .ref (ad 29), .ref (ad 30), .int (i 31)])), (ad 6, .inl (M.G.2 0, 160, .inl tp))] dX7_step_120 rfl 0 rfl rfl in_X7 tyX7_ok nmX7 13 rfl q942 rfl rfl rfl rfl rfl ?_
              refine V.goto C 269 dX7_step_123 rfl ?_
              have es : sTok (bt tp td) (i 10) sp = (0, i 10, sp + c + c2, sp + c, 1, 0) := by
                unfold sTok
                rw [eh, eL, if_neg h4, if_pos h5]
              exact V.vret C T dX7_step_269 () rfl trivial (by rw [es]; first | done | rfl) rfl rfl
            · have hltc2 := in_lt h13 (by decide)
              refine V.aload_n (pc' := 106) C 0 dX7_step_105 rfl rfl ?_
              refine V.dup (pc' := 107) C rfl dX7_step_106 rfl ?_
              refine V.get (pc' := 110) C dX7_step_107 rfl 0 rfl rfl in_X7 11 rfl q940 rfl ?_
              refine V.iconst (pc' := 111) C dX7_step_110 rfl kci_1 ?_
              refine V.iaddN (pc' := 112) C (sp + c + c2) 1 dX7_step_111 rfl ?_
              refine V.put (pc' := 115) C [(h, .inr (7, [.ref (ad 0), .int (i 1), .ref (ad 2), .int (i 3), .int (i 4), .int (i 5), .ref (ad 6), .int (i 7), .int (i 8), .int 0, .int (i 10), .int (nI (sp + c + c2 + 1)), .int (nI (sp + c)), .int (i 13), .int 0, .ref (ad 15), .ref (ad 16), .int (i 17), .int (i 18), .int (i 19), .int (i 20), .int (i 21), .int (i 22), .int (i 23), .ref (ad 24), .int (i 25), .ref (ad 26), .ref (ad 27), .ref (ad 28), .ref (ad 29), .ref (ad 30), .int (i 31)])), (ad 6, .inl (M.G.2 0, 160, .inl tp))] dX7_step_112 rfl 0 rfl rfl in_X7 tyX7_ok nmX7 11 rfl q940 rfl rfl rfl rfl rfl ?_
              refine V.goto C 84 dX7_step_115 rfl ?_
              refine V.lvs [0, 1] (lv2 := [(0, .ref h), (1, .int (bt tp td (sp + c)))]) rfl ?_
              refine V.weq (ws2 := [(h, .inr (7, [.ref (ad 0), .int (i 1), .ref (ad 2), .int (i 3), .int (i 4), .int (i 5), .ref (ad 6), .int (i 7), .int (i 8), .int 0, .int (i 10), .int (nI (sp + c + (c2 + 1))), .int (nI (sp + c)), .int (i 13), .int 0, .ref (ad 15), .ref (ad 16), .int (i 17), .int (i 18), .int (i 19), .int (i 20), .int (i 21), .int (i 22), .int (i 23), .ref (ad 24), .int (i 25), .ref (ad 26), .ref (ad 27), .ref (ad 28), .ref (ad 29), .ref (ad 30), .int (i 31)])), (ad 6, .inl (M.G.2 0, 160, .inl tp))]) rfl ?_
              exact ih_L12 (by omega) (allB hqc2 (decide_eq_true h13))
          refine V.lvs [1, 0] (lv2 := [(0, .ref h), (1, .int (bt tp td (sp + c)))]) rfl ?_
          refine V.weq (ws2 := [(h, .inr (7, [.ref (ad 0), .int (i 1), .ref (ad 2), .int (i 3), .int (i 4), .int (i 5), .ref (ad 6), .int (i 7), .int (i 8), .int 0, .int (i 10), .int (nI (sp + c + 0)), .int (nI (sp + c)), .int (i 13), .int 0, .ref (ad 15), .ref (ad 16), .int (i 17), .int (i 18), .int (i 19), .int (i 20), .int (i 21), .int (i 22), .int (i 23), .ref (ad 24), .int (i 25), .ref (ad 26), .ref (ad 27), .ref (ad 28), .ref (ad 29), .ref (ad 30), .int (i 31)])), (ad 6, .inl (M.G.2 0, 160, .inl tp))]) rfl ?_
          exact L12 0 (by omega) (fun x hx => absurd hx (by omega))
      · refine V.aload_n (pc' := 63) C 1 dX7_step_62 rfl rfl ?_
        refine V.iconst (pc' := 64) C dX7_step_63 rfl kci_0 ?_
        refine V.put (pc' := 67) C [(h, .inr (7, [.ref (ad 0), .int (i 1), .ref (ad 2), .int (i 3), .int (i 4), .int (i 5), .ref (ad 6), .int (i 7), .int (i 8), .int 0, .int (i 10), .int (nI (sp + c)), .int (nI (sp + c)), .int 0, .int 0, .ref (ad 15), .ref (ad 16), .int (i 17), .int (i 18), .int (i 19), .int (i 20), .int (i 21), .int (i 22), .int (i 23), .ref (ad 24), .int (i 25), .ref (ad 26), .ref (ad 27), .ref (ad 28), .ref (ad 29), .ref (ad 30), .int (i 31)])), (ad 6, .inl (M.G.2 0, 160, .inl tp))] dX7_step_64 rfl 0 rfl rfl in_X7 tyX7_ok nmX7 13 rfl q942 rfl rfl rfl rfl rfl ?_
        refine V.goto C 269 dX7_step_67 rfl ?_
        have es : sTok (bt tp td) (i 10) sp = (0, i 10, sp + c, sp + c, 0, 0) := by
          unfold sTok
          rw [eh, if_pos h4]
        exact V.vret C T dX7_step_269 () rfl trivial (by rw [es]; first | done | rfl) rfl rfl
    · have hlt := isS_lt h3
      refine V.aload_n (pc' := 22) C 0 dX7_step_21 rfl rfl ?_
      refine V.dup (pc' := 23) C rfl dX7_step_22 rfl ?_
      refine V.get (pc' := 26) C dX7_step_23 rfl 0 rfl rfl in_X7 11 rfl q940 rfl ?_
      refine V.iconst (pc' := 27) C dX7_step_26 rfl kci_1 ?_
      refine V.iaddN (pc' := 28) C (sp + c) 1 dX7_step_27 rfl ?_
      refine V.put (pc' := 31) C [(h, .inr (7, [.ref (ad 0), .int (i 1), .ref (ad 2), .int (i 3), .int (i 4), .int (i 5), .ref (ad 6), .int (i 7), .int (i 8), .int 0, .int (i 10), .int (nI (sp + c + 1)), .int (i 12), .int (i 13), .int (i 14), .ref (ad 15), .ref (ad 16), .int (i 17), .int (i 18), .int (i 19), .int (i 20), .int (i 21), .int (i 22), .int (i 23), .ref (ad 24), .int (i 25), .ref (ad 26), .ref (ad 27), .ref (ad 28), .ref (ad 29), .ref (ad 30), .int (i 31)])), (ad 6, .inl (M.G.2 0, 160, .inl tp))] dX7_step_28 rfl 0 rfl rfl in_X7 tyX7_ok nmX7 11 rfl q940 rfl rfl rfl rfl rfl ?_
      refine V.goto C 8 dX7_step_31 rfl ?_
      refine V.lvs [0] (lv2 := [(0, .ref h)]) rfl ?_
      refine V.weq (ws2 := [(h, .inr (7, [.ref (ad 0), .int (i 1), .ref (ad 2), .int (i 3), .int (i 4), .int (i 5), .ref (ad 6), .int (i 7), .int (i 8), .int 0, .int (i 10), .int (nI (sp + (c + 1))), .int (i 12), .int (i 13), .int (i 14), .ref (ad 15), .ref (ad 16), .int (i 17), .int (i 18), .int (i 19), .int (i 20), .int (i 21), .int (i 22), .int (i 23), .ref (ad 24), .int (i 25), .ref (ad 26), .ref (ad 27), .ref (ad 28), .ref (ad 29), .ref (ad 30), .int (i 31)])), (ad 6, .inl (M.G.2 0, 160, .inl tp))]) rfl ?_
      exact ih_L2 (by omega) (allB hq (decide_eq_true h3))
  refine V.lvs [0] (lv2 := [(0, .ref h)]) rfl ?_
  refine V.weq (ws2 := [(h, .inr (7, [.ref (ad 0), .int (i 1), .ref (ad 2), .int (i 3), .int (i 4), .int (i 5), .ref (ad 6), .int (i 7), .int (i 8), .int 0, .int (i 10), .int (nI (sp + 0)), .int (i 12), .int (i 13), .int (i 14), .ref (ad 15), .ref (ad 16), .int (i 17), .int (i 18), .int (i 19), .int (i 20), .int (i 21), .int (i 22), .int (i 23), .ref (ad 24), .int (i 25), .ref (ad 26), .ref (ad 27), .ref (ad 28), .ref (ad 29), .ref (ad 30), .int (i 31)])), (ad 6, .inl (M.G.2 0, 160, .inl tp))]) (by unfold mO; rw [hb, hs]; rfl) ?_
  exact L2 0 (by omega) (fun x hx => absurd hx (by omega))
set_option maxHeartbeats 4000000 in
theorem ct_X7_step0 (l : Launch) (G : GG) (h : Nat) (ad : Nat → Nat) (i : Nat → Int32) (P : TS) (tp : Nat → Int32) (td : Nat) (htd : i 7 = nI td) (ht : td ≤ 160) (hb : P.1 = 0) (hsp : P.2.2.1 ≤ td) : Ct l G yX7_step (ws_ yX7_step cX7_step 2 none) ({ frames := 1, cells := 0, slots := 0, locals := 25 } : Room) [.ref h] [mO h ad (tI i P), (ad 6, .inl (G.2 0, 160, .inl tp))] (fun _ : Unit => none) (fun _ => True) (fun _ => [mO h ad (tI i (sStep (bt tp td) P)), (ad 6, .inl (G.2 0, 160, .inl tp))]) :=
  ct_X7_step l G h ad (tI i P) tp P.2.2.1 td htd ht hb rfl hsp
set_option maxHeartbeats 4000000 in
theorem ct_X7_stepB (l : Launch) (G : GG) (h : Nat) (ad : Nat → Nat) (i : Nat → Int32) (P : TS) (hb : 0 < P.1) : Ct l G yX7_step (ws_ yX7_step cX7_step 2 none) ({ frames := 0, cells := 0, slots := 0, locals := 0 } : Room) [.ref h] [mO h ad (tI i P)] (fun _ : Unit => none) (fun _ => True) (fun _ => [mO h ad (tI i P)]) := by
  refine Ct.of rfl rfl ?_
  intro M el eG hnL C T
  subst el
  subst eG
  have C : Cx M cX7_step "ClockWardModel" ({ frames := 0, cells := 0, slots := 0, locals := 0 } : Room) := C
  refine V.lvs [0] (lv2 := [(0, .ref h)]) rfl ?_
  refine V.weq (ws2 := [(h, .inr (7, [.ref (ad 0), .int (i 1), .ref (ad 2), .int (i 3), .int (i 4), .int (i 5), .ref (ad 6), .int (i 7), .int (i 8), .int P.1, .int P.2.1, .int (nI P.2.2.1), .int (nI P.2.2.2.1), .int P.2.2.2.2.1, .int P.2.2.2.2.2, .ref (ad 15), .ref (ad 16), .int (i 17), .int (i 18), .int (i 19), .int (i 20), .int (i 21), .int (i 22), .int (i 23), .ref (ad 24), .int (i 25), .ref (ad 26), .ref (ad 27), .ref (ad 28), .ref (ad 29), .ref (ad 30), .int (i 31)]))]) rfl ?_
  refine V.aload_n (pc' := 1) C 0 dX7_step_0 rfl rfl ?_
  refine V.get (pc' := 4) C dX7_step_1 rfl 0 rfl rfl in_X7 9 rfl q938 rfl ?_
  refine V.if_le (pc' := 7) C 8 dX7_step_4 rfl rfl (fun h1 => absurd h1 (gt_le hb)) (fun _ => ?_)
  exact V.vret C T dX7_step_7 () rfl trivial rfl rfl rfl
set_option maxHeartbeats 4000000 in
theorem ct_X7_number (l : Launch) (G : GG) (h : Nat) (ad : Nat → Nat) (i : Nat → Int32) (P : TS) (tp : Nat → Int32) (lo : Int32) (hi : Int32) (td : Nat) (htd : i 7 = nI td) (ht : td ≤ 160) (hB : P.1 = 0 ∨ 0 < P.1) (hsp : P.2.2.1 ≤ td) : Ct l G yX7_number (ws_ yX7_number cX7_number 4 (some .int)) ({ frames := 2, cells := 0, slots := 0, locals := 46 } : Room) [.ref h, .int lo, .int hi] [mO h ad (tI i P), (ad 6, .inl (G.2 0, 160, .inl tp))] (fun _ : Unit => some (.int ((sNum (bt tp td) lo hi P).1))) (fun _ => True) (fun _ => [mO h ad (tI i ((sNum (bt tp td) lo hi P).2)), (ad 6, .inl (G.2 0, 160, .inl tp))]) := by
  refine Ct.of rfl rfl ?_
  intro M el eG hnL C T
  subst el
  subst eG
  have C : Cx M cX7_number "ClockWardModel" ({ frames := 2, cells := 0, slots := 0, locals := 46 } : Room) := C
  refine V.lvs [0, 1, 2] (lv2 := [(0, .ref h), (1, .int lo), (2, .int hi)]) rfl ?_
  refine V.weq (ws2 := [(h, .inr (7, [.ref (ad 0), .int (i 1), .ref (ad 2), .int (i 3), .int (i 4), .int (i 5), .ref (ad 6), .int (i 7), .int (i 8), .int P.1, .int P.2.1, .int (nI P.2.2.1), .int (nI P.2.2.2.1), .int P.2.2.2.2.1, .int P.2.2.2.2.2, .ref (ad 15), .ref (ad 16), .int (i 17), .int (i 18), .int (i 19), .int (i 20), .int (i 21), .int (i 22), .int (i 23), .ref (ad 24), .int (i 25), .ref (ad 26), .ref (ad 27), .ref (ad 28), .ref (ad 29), .ref (ad 30), .int (i 31)])), (ad 6, .inl (M.G.2 0, 160, .inl tp))]) rfl ?_
  refine V.aload_n (pc' := 1) C 0 dX7_number_0 rfl rfl ?_
  refine V.get (pc' := 4) C dX7_number_1 rfl 0 rfl rfl in_X7 9 rfl q938 rfl ?_
  refine V.if_ne (pc' := 7) C 20 dX7_number_4 rfl rfl (fun h1 => ?_) (fun h1 => ?_)
  · refine V.aload_n (pc' := 21) C 0 dX7_number_20 rfl rfl ?_
    refine V.get (pc' := 24) C dX7_number_21 rfl 0 rfl rfl in_X7 9 rfl q938 rfl ?_
    refine V.if_ne (pc' := 27) C 47 dX7_number_24 rfl rfl (fun _ => ?_) (fun h2 => absurd h2 h1)
    refine V.aload_n (pc' := 48) C 0 dX7_number_47 rfl rfl ?_
    refine V.get (pc' := 51) C dX7_number_48 rfl 0 rfl rfl in_X7 9 rfl q938 rfl ?_
    refine V.if_ne (pc' := 54) C 61 dX7_number_51 rfl rfl (fun _ => ?_) (fun h3 => absurd h3 h1)
    refine V.iload_n (pc' := 62) C 1 dX7_number_61 rfl rfl ?_
    refine V.istore_n (pc' := 63) C [(3, .int lo), (0, .ref h), (1, .int lo), (2, .int hi)] dX7_number_62 rfl 4 hnL rfl rfl ?_
    refine V.aload_n (pc' := 64) C 1 dX7_number_63 rfl rfl ?_
    refine V.callV (pc' := 67) (wr := [(ad 6, .inl (M.G.2 0, 160, .inl tp))]) C (ct_X7_stepB M.l M.G h ad i P (b_pos hB h1)) dX7_number_64 rfl (lw_V q1043 q1045 qs33 q71 q1046) hyv_X7_step rfl rfl 0 rfl rfl [0] [1] [1, 0] rfl rfl rfl (fun _ => [mO h ad (tI i P), (ad 6, .inl (M.G.2 0, 160, .inl tp))]) (fun _ => rfl) rfl 0 0 rfl rfl (fun _ => []) (fun _ => rfl) (fun _ _ => ?_)
    refine V.weq (ws2 := [(h, .inr (7, [.ref (ad 0), .int (i 1), .ref (ad 2), .int (i 3), .int (i 4), .int (i 5), .ref (ad 6), .int (i 7), .int (i 8), .int P.1, .int P.2.1, .int (nI P.2.2.1), .int (nI P.2.2.2.1), .int P.2.2.2.2.1, .int P.2.2.2.2.2, .ref (ad 15), .ref (ad 16), .int (i 17), .int (i 18), .int (i 19), .int (i 20), .int (i 21), .int (i 22), .int (i 23), .ref (ad 24), .int (i 25), .ref (ad 26), .ref (ad 27), .ref (ad 28), .ref (ad 29), .ref (ad 30), .int (i 31)])), (ad 6, .inl (M.G.2 0, 160, .inl tp))]) rfl ?_
    refine V.iload_n (pc' := 68) C 0 dX7_number_67 rfl rfl ?_
    have es : sNum (bt tp td) lo hi P = (lo, P) := by
      unfold sNum
      rw [if_pos h1]
      first | done | rfl
    exact V.iret C T dX7_number_68 () rfl rfl (by rw [es]) rfl trivial (by rw [es]; first | done | rfl) rfl rfl
  · refine V.aload_n (pc' := 8) C 0 dX7_number_7 rfl rfl ?_
    refine V.get (pc' := 11) C dX7_number_8 rfl 0 rfl rfl in_X7 13 rfl q942 rfl ?_
    refine V.iconst (pc' := 12) C dX7_number_11 rfl kci_2 ?_
    refine V.icmp_eq (pc' := 15) C 20 dX7_number_12 rfl rfl (fun h4 => ?_) (fun h4 => ?_)
    · refine V.aload_n (pc' := 21) C 0 dX7_number_20 rfl rfl ?_
      refine V.get (pc' := 24) C dX7_number_21 rfl 0 rfl rfl in_X7 9 rfl q938 rfl ?_
      refine V.if_ne (pc' := 27) C 47 dX7_number_24 rfl rfl (fun h5 => absurd h5 (fun z => z h1)) (fun _ => ?_)
      refine V.aload_n (pc' := 28) C 0 dX7_number_27 rfl rfl ?_
      refine V.get (pc' := 31) C dX7_number_28 rfl 0 rfl rfl in_X7 14 rfl q943 rfl ?_
      refine V.i2l (pc' := 32) C dX7_number_31 rfl ?_
      refine V.iload_n (pc' := 33) C 1 dX7_number_32 rfl rfl ?_
      refine V.i2l (pc' := 34) C dX7_number_33 rfl ?_
      refine V.iload_n (pc' := 35) C 2 dX7_number_34 rfl rfl ?_
      refine V.i2l (pc' := 36) C dX7_number_35 rfl ?_
      refine V.callS (pc' := 39) (wr := [(h, .inr (7, [.ref (ad 0), .int (i 1), .ref (ad 2), .int (i 3), .int (i 4), .int (i 5), .ref (ad 6), .int (i 7), .int (i 8), .int P.1, .int P.2.1, .int (nI P.2.2.1), .int (nI P.2.2.2.1), .int P.2.2.2.2.1, .int P.2.2.2.2.2, .ref (ad 15), .ref (ad 16), .int (i 17), .int (i 18), .int (i 19), .int (i 20), .int (i 21), .int (i 22), .int (i 23), .ref (ad 24), .int (i 25), .ref (ad 26), .ref (ad 27), .ref (ad 28), .ref (ad 29), .ref (ad 30), .int (i 31)])), (ad 6, .inl (M.G.2 0, 160, .inl tp))]) C (ct_X7_in M.l M.G P.2.2.2.2.2 lo hi ) dX7_number_36 rfl (lw_S q1032 q1033 q71 q1034) hys_X7_in rfl rfl [] [0, 1] [0, 1] rfl rfl rfl (fun _ => [(h, .inr (7, [.ref (ad 0), .int (i 1), .ref (ad 2), .int (i 3), .int (i 4), .int (i 5), .ref (ad 6), .int (i 7), .int (i 8), .int P.1, .int P.2.1, .int (nI P.2.2.1), .int (nI P.2.2.2.1), .int P.2.2.2.2.1, .int P.2.2.2.2.2, .ref (ad 15), .ref (ad 16), .int (i 17), .int (i 18), .int (i 19), .int (i 20), .int (i 21), .int (i 22), .int (i 23), .ref (ad 24), .int (i 25), .ref (ad 26), .ref (ad 27), .ref (ad 28), .ref (ad 29), .ref (ad 30), .int (i 31)])), (ad 6, .inl (M.G.2 0, 160, .inl tp))]) (fun _ => rfl) rfl 0 0 rfl rfl (fun _ => [.int (bI (inI P.2.2.2.2.2 lo hi))]) (fun _ => rfl) (fun _ _ => ?_)
      refine V.if_neB (pc' := 42) C 47 dX7_number_39 rfl rfl (fun h6 => ?_) (fun h6 => ?_)
      · refine V.aload_n (pc' := 48) C 0 dX7_number_47 rfl rfl ?_
        refine V.get (pc' := 51) C dX7_number_48 rfl 0 rfl rfl in_X7 9 rfl q938 rfl ?_
        refine V.if_ne (pc' := 54) C 61 dX7_number_51 rfl rfl (fun h7 => absurd h7 (fun z => z h1)) (fun _ => ?_)
        refine V.aload_n (pc' := 55) C 0 dX7_number_54 rfl rfl ?_
        refine V.get (pc' := 58) C dX7_number_55 rfl 0 rfl rfl in_X7 14 rfl q943 rfl ?_
        refine V.goto C 62 dX7_number_58 rfl ?_
        refine V.istore_n (pc' := 63) C [(3, .int P.2.2.2.2.2), (0, .ref h), (1, .int lo), (2, .int hi)] dX7_number_62 rfl 4 hnL rfl rfl ?_
        refine V.aload_n (pc' := 64) C 1 dX7_number_63 rfl rfl ?_
        refine V.callV (pc' := 67) (wr := []) C (ct_X7_step0 M.l M.G h ad i P tp td htd ht h1 (by omega)) dX7_number_64 rfl (lw_V q1043 q1045 qs33 q71 q1046) hyv_X7_step rfl rfl 0 rfl rfl [0, 1] [] [0, 1] rfl rfl rfl (fun _ => [mO h ad (tI i (sStep (bt tp td) P)), (ad 6, .inl (M.G.2 0, 160, .inl tp))]) (fun _ => rfl) rfl 0 0 rfl rfl (fun _ => []) (fun _ => rfl) (fun _ _ => ?_)
        refine V.weq (ws2 := [(h, .inr (7, [.ref (ad 0), .int (i 1), .ref (ad 2), .int (i 3), .int (i 4), .int (i 5), .ref (ad 6), .int (i 7), .int (i 8), .int ((sStep (bt tp td) P).1), .int ((sStep (bt tp td) P).2.1), .int (nI ((sStep (bt tp td) P).2.2.1)), .int (nI ((sStep (bt tp td) P).2.2.2.1)), .int ((sStep (bt tp td) P).2.2.2.2.1), .int ((sStep (bt tp td) P).2.2.2.2.2), .ref (ad 15), .ref (ad 16), .int (i 17), .int (i 18), .int (i 19), .int (i 20), .int (i 21), .int (i 22), .int (i 23), .ref (ad 24), .int (i 25), .ref (ad 26), .ref (ad 27), .ref (ad 28), .ref (ad 29), .ref (ad 30), .int (i 31)])), (ad 6, .inl (M.G.2 0, 160, .inl tp))]) rfl ?_
        refine V.iload_n (pc' := 68) C 0 dX7_number_67 rfl rfl ?_
        have es : sNum (bt tp td) lo hi P = (P.2.2.2.2.2, sStep (bt tp td) P) := by
          unfold sNum
          rw [if_neg (fun z => z h1), if_neg (fun z => z h4), if_neg (fun z => z h6)]
          first | done | rfl
        exact V.iret C T dX7_number_68 () rfl rfl (by rw [es]) rfl trivial (by rw [es]; first | done | rfl) rfl rfl
      · refine V.aload_n (pc' := 43) C 0 dX7_number_42 rfl rfl ?_
        refine V.iconst (pc' := 44) C dX7_number_43 rfl kci_3 ?_
        refine V.callV (pc' := 47) (wr := [(ad 6, .inl (M.G.2 0, 160, .inl tp))]) C (ct_X7_fails M.l M.G h ad i P 3 h1) dX7_number_44 rfl (lw_V q1055 q1057 qs35 q71 q1058) hyv_X7_fails rfl rfl 0 rfl rfl [0] [1] [1, 0] rfl rfl rfl (fun _ => [mO h ad (tI i (fl 3 P)), (ad 6, .inl (M.G.2 0, 160, .inl tp))]) (fun _ => rfl) rfl 0 0 rfl rfl (fun _ => []) (fun _ => rfl) (fun _ _ => ?_)
        refine V.weq (ws2 := [(h, .inr (7, [.ref (ad 0), .int (i 1), .ref (ad 2), .int (i 3), .int (i 4), .int (i 5), .ref (ad 6), .int (i 7), .int (i 8), .int 3, .int (nI P.2.2.2.1), .int (nI P.2.2.1), .int (nI P.2.2.2.1), .int P.2.2.2.2.1, .int P.2.2.2.2.2, .ref (ad 15), .ref (ad 16), .int (i 17), .int (i 18), .int (i 19), .int (i 20), .int (i 21), .int (i 22), .int (i 23), .ref (ad 24), .int (i 25), .ref (ad 26), .ref (ad 27), .ref (ad 28), .ref (ad 29), .ref (ad 30), .int (i 31)])), (ad 6, .inl (M.G.2 0, 160, .inl tp))]) rfl ?_
        refine V.aload_n (pc' := 48) C 0 dX7_number_47 rfl rfl ?_
        refine V.get (pc' := 51) C dX7_number_48 rfl 0 rfl rfl in_X7 9 rfl q938 rfl ?_
        refine V.if_ne (pc' := 54) C 61 dX7_number_51 rfl rfl (fun _ => ?_) (fun h8 => absurd h8 (by decide))
        refine V.iload_n (pc' := 62) C 1 dX7_number_61 rfl rfl ?_
        refine V.istore_n (pc' := 63) C [(3, .int lo), (0, .ref h), (1, .int lo), (2, .int hi)] dX7_number_62 rfl 4 hnL rfl rfl ?_
        refine V.aload_n (pc' := 64) C 1 dX7_number_63 rfl rfl ?_
        refine V.callV (pc' := 67) (wr := [(ad 6, .inl (M.G.2 0, 160, .inl tp))]) C (ct_X7_stepB M.l M.G h ad i (fl 3 P) (show (0 : Int32) < 3 by decide)) dX7_number_64 rfl (lw_V q1043 q1045 qs33 q71 q1046) hyv_X7_step rfl rfl 0 rfl rfl [0] [1] [1, 0] rfl rfl rfl (fun _ => [mO h ad (tI i (fl 3 P)), (ad 6, .inl (M.G.2 0, 160, .inl tp))]) (fun _ => rfl) rfl 0 0 rfl rfl (fun _ => []) (fun _ => rfl) (fun _ _ => ?_)
        refine V.weq (ws2 := [(h, .inr (7, [.ref (ad 0), .int (i 1), .ref (ad 2), .int (i 3), .int (i 4), .int (i 5), .ref (ad 6), .int (i 7), .int (i 8), .int 3, .int (nI P.2.2.2.1), .int (nI P.2.2.1), .int (nI P.2.2.2.1), .int P.2.2.2.2.1, .int P.2.2.2.2.2, .ref (ad 15), .ref (ad 16), .int (i 17), .int (i 18), .int (i 19), .int (i 20), .int (i 21), .int (i 22), .int (i 23), .ref (ad 24), .int (i 25), .ref (ad 26), .ref (ad 27), .ref (ad 28), .ref (ad 29), .ref (ad 30), .int (i 31)])), (ad 6, .inl (M.G.2 0, 160, .inl tp))]) rfl ?_
        refine V.iload_n (pc' := 68) C 0 dX7_number_67 rfl rfl ?_
        have es : sNum (bt tp td) lo hi P = (lo, fl 3 P) := by
          unfold sNum
          rw [if_neg (fun z => z h1), if_neg (fun z => z h4), if_pos h6]
          first | done | rfl
        exact V.iret C T dX7_number_68 () rfl rfl (by rw [es]) rfl trivial (by rw [es]; first | done | rfl) rfl rfl
    · refine V.aload_n (pc' := 16) C 0 dX7_number_15 rfl rfl ?_
      refine V.iconst (pc' := 17) C dX7_number_16 rfl kci_2 ?_
      refine V.callV (pc' := 20) (wr := [(ad 6, .inl (M.G.2 0, 160, .inl tp))]) C (ct_X7_fails M.l M.G h ad i P 2 h1) dX7_number_17 rfl (lw_V q1055 q1057 qs35 q71 q1058) hyv_X7_fails rfl rfl 0 rfl rfl [0] [1] [1, 0] rfl rfl rfl (fun _ => [mO h ad (tI i (fl 2 P)), (ad 6, .inl (M.G.2 0, 160, .inl tp))]) (fun _ => rfl) rfl 0 0 rfl rfl (fun _ => []) (fun _ => rfl) (fun _ _ => ?_)
      refine V.weq (ws2 := [(h, .inr (7, [.ref (ad 0), .int (i 1), .ref (ad 2), .int (i 3), .int (i 4), .int (i 5), .ref (ad 6), .int (i 7), .int (i 8), .int 2, .int (nI P.2.2.2.1), .int (nI P.2.2.1), .int (nI P.2.2.2.1), .int P.2.2.2.2.1, .int P.2.2.2.2.2, .ref (ad 15), .ref (ad 16), .int (i 17), .int (i 18), .int (i 19), .int (i 20), .int (i 21), .int (i 22), .int (i 23), .ref (ad 24), .int (i 25), .ref (ad 26), .ref (ad 27), .ref (ad 28), .ref (ad 29), .ref (ad 30), .int (i 31)])), (ad 6, .inl (M.G.2 0, 160, .inl tp))]) rfl ?_
      refine V.aload_n (pc' := 21) C 0 dX7_number_20 rfl rfl ?_
      refine V.get (pc' := 24) C dX7_number_21 rfl 0 rfl rfl in_X7 9 rfl q938 rfl ?_
      refine V.if_ne (pc' := 27) C 47 dX7_number_24 rfl rfl (fun _ => ?_) (fun h9 => absurd h9 (by decide))
      refine V.aload_n (pc' := 48) C 0 dX7_number_47 rfl rfl ?_
      refine V.get (pc' := 51) C dX7_number_48 rfl 0 rfl rfl in_X7 9 rfl q938 rfl ?_
      refine V.if_ne (pc' := 54) C 61 dX7_number_51 rfl rfl (fun _ => ?_) (fun h10 => absurd h10 (by decide))
      refine V.iload_n (pc' := 62) C 1 dX7_number_61 rfl rfl ?_
      refine V.istore_n (pc' := 63) C [(3, .int lo), (0, .ref h), (1, .int lo), (2, .int hi)] dX7_number_62 rfl 4 hnL rfl rfl ?_
      refine V.aload_n (pc' := 64) C 1 dX7_number_63 rfl rfl ?_
      refine V.callV (pc' := 67) (wr := [(ad 6, .inl (M.G.2 0, 160, .inl tp))]) C (ct_X7_stepB M.l M.G h ad i (fl 2 P) (show (0 : Int32) < 2 by decide)) dX7_number_64 rfl (lw_V q1043 q1045 qs33 q71 q1046) hyv_X7_step rfl rfl 0 rfl rfl [0] [1] [1, 0] rfl rfl rfl (fun _ => [mO h ad (tI i (fl 2 P)), (ad 6, .inl (M.G.2 0, 160, .inl tp))]) (fun _ => rfl) rfl 0 0 rfl rfl (fun _ => []) (fun _ => rfl) (fun _ _ => ?_)
      refine V.weq (ws2 := [(h, .inr (7, [.ref (ad 0), .int (i 1), .ref (ad 2), .int (i 3), .int (i 4), .int (i 5), .ref (ad 6), .int (i 7), .int (i 8), .int 2, .int (nI P.2.2.2.1), .int (nI P.2.2.1), .int (nI P.2.2.2.1), .int P.2.2.2.2.1, .int P.2.2.2.2.2, .ref (ad 15), .ref (ad 16), .int (i 17), .int (i 18), .int (i 19), .int (i 20), .int (i 21), .int (i 22), .int (i 23), .ref (ad 24), .int (i 25), .ref (ad 26), .ref (ad 27), .ref (ad 28), .ref (ad 29), .ref (ad 30), .int (i 31)])), (ad 6, .inl (M.G.2 0, 160, .inl tp))]) rfl ?_
      refine V.iload_n (pc' := 68) C 0 dX7_number_67 rfl rfl ?_
      have es : sNum (bt tp td) lo hi P = (lo, fl 2 P) := by
        unfold sNum
        rw [if_neg (fun z => z h1), if_pos h4]
        first | done | rfl
      exact V.iret C T dX7_number_68 () rfl rfl (by rw [es]) rfl trivial (by rw [es]; first | done | rfl) rfl rfl
set_option maxHeartbeats 4000000 in
theorem ct_X7_clockHere (l : Launch) (G : GG) (h : Nat) (ad : Nat → Nat) (i : Nat → Int32) (P : TS) (tp : Nat → Int32) (td : Nat) (htd : i 7 = nI td) (ht : td ≤ 160) (okt : okT td P) : Ct l G yX7_clockHere (ws_ yX7_clockHere cX7_clockHere 2 (some .int)) ({ frames := 3, cells := 0, slots := 0, locals := 69 } : Room) [.ref h] [mO h ad (tI i P), (ad 6, .inl (G.2 0, 160, .inl tp))] (fun _ : Unit => some (.int ((sNum (bt tp td) 0 4 P).1))) (fun _ => True) (fun _ => [mO h ad (tI (upd i 5 (hiM (sNum (bt tp td) 0 4 P).1 (i 5))) ((sNum (bt tp td) 0 4 P).2)), (ad 6, .inl (G.2 0, 160, .inl tp))]) := by
  refine Ct.of rfl rfl ?_
  intro M el eG hnL C T
  subst el
  subst eG
  have C : Cx M cX7_clockHere "ClockWardModel" ({ frames := 3, cells := 0, slots := 0, locals := 69 } : Room) := C
  refine V.lvs [0] (lv2 := [(0, .ref h)]) rfl ?_
  refine V.weq (ws2 := [(h, .inr (7, [.ref (ad 0), .int (i 1), .ref (ad 2), .int (i 3), .int (i 4), .int (i 5), .ref (ad 6), .int (i 7), .int (i 8), .int P.1, .int P.2.1, .int (nI P.2.2.1), .int (nI P.2.2.2.1), .int P.2.2.2.2.1, .int P.2.2.2.2.2, .ref (ad 15), .ref (ad 16), .int (i 17), .int (i 18), .int (i 19), .int (i 20), .int (i 21), .int (i 22), .int (i 23), .ref (ad 24), .int (i 25), .ref (ad 26), .ref (ad 27), .ref (ad 28), .ref (ad 29), .ref (ad 30), .int (i 31)])), (ad 6, .inl (M.G.2 0, 160, .inl tp))]) rfl ?_
  refine V.aload_n (pc' := 1) C 0 dX7_clockHere_0 rfl rfl ?_
  refine V.iconst (pc' := 2) C dX7_clockHere_1 rfl kci_0 ?_
  refine V.iconst (pc' := 3) C dX7_clockHere_2 rfl kci_4 ?_
  refine V.callV (pc' := 6) (wr := []) C (ct_X7_number M.l M.G h ad i P tp 0 4 td htd ht (okt).1 (okt).2.2) dX7_clockHere_3 rfl (lw_V q1072 q1074 qs39 q71 q1075) hyv_X7_number rfl rfl 0 rfl rfl [0, 1] [] [0, 1] rfl rfl rfl (fun _ => [mO h ad (tI i ((sNum (bt tp td) 0 4 P).2)), (ad 6, .inl (M.G.2 0, 160, .inl tp))]) (fun _ => rfl) rfl 0 0 rfl rfl (fun _ => [.int ((sNum (bt tp td) 0 4 P).1)]) (fun _ => rfl) (fun _ _ => ?_)
  refine V.weq (ws2 := [(h, .inr (7, [.ref (ad 0), .int (i 1), .ref (ad 2), .int (i 3), .int (i 4), .int (i 5), .ref (ad 6), .int (i 7), .int (i 8), .int (((sNum (bt tp td) 0 4 P).2).1), .int (((sNum (bt tp td) 0 4 P).2).2.1), .int (nI (((sNum (bt tp td) 0 4 P).2).2.2.1)), .int (nI (((sNum (bt tp td) 0 4 P).2).2.2.2.1)), .int (((sNum (bt tp td) 0 4 P).2).2.2.2.2.1), .int (((sNum (bt tp td) 0 4 P).2).2.2.2.2.2), .ref (ad 15), .ref (ad 16), .int (i 17), .int (i 18), .int (i 19), .int (i 20), .int (i 21), .int (i 22), .int (i 23), .ref (ad 24), .int (i 25), .ref (ad 26), .ref (ad 27), .ref (ad 28), .ref (ad 29), .ref (ad 30), .int (i 31)])), (ad 6, .inl (M.G.2 0, 160, .inl tp))]) rfl ?_
  refine V.istore_n (pc' := 7) C [(1, .int ((sNum (bt tp td) 0 4 P).1)), (0, .ref h)] dX7_clockHere_6 rfl 2 hnL rfl rfl ?_
  refine V.aload_n (pc' := 8) C 1 dX7_clockHere_7 rfl rfl ?_
  refine V.iload_n (pc' := 9) C 0 dX7_clockHere_8 rfl rfl ?_
  refine V.aload_n (pc' := 10) C 1 dX7_clockHere_9 rfl rfl ?_
  refine V.get (pc' := 13) C dX7_clockHere_10 rfl 0 rfl rfl in_X7 5 rfl q934 rfl ?_
  refine V.icmp_le (pc' := 16) C 20 dX7_clockHere_13 rfl rfl (fun h1 => ?_) (fun h1 => ?_)
  · refine V.aload_n (pc' := 21) C 1 dX7_clockHere_20 rfl rfl ?_
    refine V.get (pc' := 24) C dX7_clockHere_21 rfl 0 rfl rfl in_X7 5 rfl q934 rfl ?_
    refine V.put (pc' := 27) C [(h, .inr (7, [.ref (ad 0), .int (i 1), .ref (ad 2), .int (i 3), .int (i 4), .int (i 5), .ref (ad 6), .int (i 7), .int (i 8), .int (((sNum (bt tp td) 0 4 P).2).1), .int (((sNum (bt tp td) 0 4 P).2).2.1), .int (nI (((sNum (bt tp td) 0 4 P).2).2.2.1)), .int (nI (((sNum (bt tp td) 0 4 P).2).2.2.2.1)), .int (((sNum (bt tp td) 0 4 P).2).2.2.2.2.1), .int (((sNum (bt tp td) 0 4 P).2).2.2.2.2.2), .ref (ad 15), .ref (ad 16), .int (i 17), .int (i 18), .int (i 19), .int (i 20), .int (i 21), .int (i 22), .int (i 23), .ref (ad 24), .int (i 25), .ref (ad 26), .ref (ad 27), .ref (ad 28), .ref (ad 29), .ref (ad 30), .int (i 31)])), (ad 6, .inl (M.G.2 0, 160, .inl tp))] dX7_clockHere_24 rfl 0 rfl rfl in_X7 tyX7_ok nmX7 5 rfl q934 rfl rfl rfl rfl rfl ?_
    refine V.iload_n (pc' := 28) C 0 dX7_clockHere_27 rfl rfl ?_
    exact V.iret C T dX7_clockHere_28 () rfl rfl rfl rfl trivial (by unfold hiM; rw [if_pos h1]; rfl) rfl rfl
  · refine V.iload_n (pc' := 17) C 0 dX7_clockHere_16 rfl rfl ?_
    refine V.goto C 24 dX7_clockHere_17 rfl ?_
    refine V.put (pc' := 27) C [(h, .inr (7, [.ref (ad 0), .int (i 1), .ref (ad 2), .int (i 3), .int (i 4), .int ((sNum (bt tp td) 0 4 P).1), .ref (ad 6), .int (i 7), .int (i 8), .int (((sNum (bt tp td) 0 4 P).2).1), .int (((sNum (bt tp td) 0 4 P).2).2.1), .int (nI (((sNum (bt tp td) 0 4 P).2).2.2.1)), .int (nI (((sNum (bt tp td) 0 4 P).2).2.2.2.1)), .int (((sNum (bt tp td) 0 4 P).2).2.2.2.2.1), .int (((sNum (bt tp td) 0 4 P).2).2.2.2.2.2), .ref (ad 15), .ref (ad 16), .int (i 17), .int (i 18), .int (i 19), .int (i 20), .int (i 21), .int (i 22), .int (i 23), .ref (ad 24), .int (i 25), .ref (ad 26), .ref (ad 27), .ref (ad 28), .ref (ad 29), .ref (ad 30), .int (i 31)])), (ad 6, .inl (M.G.2 0, 160, .inl tp))] dX7_clockHere_24 rfl 0 rfl rfl in_X7 tyX7_ok nmX7 5 rfl q934 rfl rfl rfl rfl rfl ?_
    refine V.iload_n (pc' := 28) C 0 dX7_clockHere_27 rfl rfl ?_
    exact V.iret C T dX7_clockHere_28 () rfl rfl rfl rfl trivial (by unfold hiM; rw [if_neg h1]; rfl) rfl rfl
set_option maxHeartbeats 4000000 in
theorem ct_X7_readClock (l : Launch) (G : GG) (h : Nat) (ad : Nat → Nat) (i : Nat → Int32) (P : TS) (rp : Nat → Int32) (tp : Nat → Int32) (nm : Int32) (rc : Nat) (td : Nat) (htd : i 7 = nI td) (ht : td ≤ 160) (okt : okT td P) (hrc : i 3 = nI rc) (hrc5 : rc < 5) : Ct l G yX7_readClock (ws_ yX7_readClock cX7_readClock 2 none) ({ frames := 3, cells := 0, slots := 0, locals := 69 } : Room) [.ref h, .int nm] [mO h ad (tI i P), (ad 2, .inl (G.2 0, 67, .inl rp)), (ad 6, .inl (G.2 0, 160, .inl tp))] (fun _ : Unit => none) (fun _ => True) (fun _ => [mO h ad (tI (upd i 3 (nI (rc + 1))) ((sClk (bt tp td) P rp rc nm).1)), (ad 2, .inl (G.2 0, 67, .inl ((sClk (bt tp td) P rp rc nm).2))), (ad 6, .inl (G.2 0, 160, .inl tp))]) := by
  refine Ct.of rfl rfl ?_
  intro M el eG hnL C T
  subst el
  subst eG
  have C : Cx M cX7_readClock "ClockWardModel" ({ frames := 3, cells := 0, slots := 0, locals := 69 } : Room) := C
  refine V.lvs [0, 1] (lv2 := [(0, .ref h), (1, .int nm)]) rfl ?_
  refine V.weq (ws2 := [(h, .inr (7, [.ref (ad 0), .int (i 1), .ref (ad 2), .int (i 3), .int (i 4), .int (i 5), .ref (ad 6), .int (i 7), .int (i 8), .int P.1, .int P.2.1, .int (nI P.2.2.1), .int (nI P.2.2.2.1), .int P.2.2.2.2.1, .int P.2.2.2.2.2, .ref (ad 15), .ref (ad 16), .int (i 17), .int (i 18), .int (i 19), .int (i 20), .int (i 21), .int (i 22), .int (i 23), .ref (ad 24), .int (i 25), .ref (ad 26), .ref (ad 27), .ref (ad 28), .ref (ad 29), .ref (ad 30), .int (i 31)])), (ad 2, .inl (M.G.2 0, 67, .inl rp)), (ad 6, .inl (M.G.2 0, 160, .inl tp))]) rfl ?_
  refine V.aload_n (pc' := 1) C 0 dX7_readClock_0 rfl rfl ?_
  refine V.get (pc' := 4) C dX7_readClock_1 rfl 0 rfl rfl in_X7 2 rfl q931 rfl ?_
  refine V.aload_n (pc' := 5) C 0 dX7_readClock_4 rfl rfl ?_
  refine V.get (pc' := 8) C dX7_readClock_5 rfl 0 rfl rfl in_X7 3 rfl q932 rfl ?_
  refine V.topI hrc ?_
  refine V.iload_n (pc' := 9) C 1 dX7_readClock_8 rfl rfl ?_
  refine V.iast (pc' := 10) C rc [(h, .inr (7, [.ref (ad 0), .int (i 1), .ref (ad 2), .int (i 3), .int (i 4), .int (i 5), .ref (ad 6), .int (i 7), .int (i 8), .int P.1, .int P.2.1, .int (nI P.2.2.1), .int (nI P.2.2.2.1), .int P.2.2.2.2.1, .int P.2.2.2.2.2, .ref (ad 15), .ref (ad 16), .int (i 17), .int (i 18), .int (i 19), .int (i 20), .int (i 21), .int (i 22), .int (i 23), .ref (ad 24), .int (i 25), .ref (ad 26), .ref (ad 27), .ref (ad 28), .ref (ad 29), .ref (ad 30), .int (i 31)])), (ad 2, .inl (M.G.2 0, 67, .inl (upd rp rc nm))), (ad 6, .inl (M.G.2 0, 160, .inl tp))] dX7_readClock_9 rfl 1 rfl (by omega) rfl nm rfl rfl ?_
  refine V.aload_n (pc' := 11) C 0 dX7_readClock_10 rfl rfl ?_
  refine V.get (pc' := 14) C dX7_readClock_11 rfl 0 rfl rfl in_X7 2 rfl q931 rfl ?_
  refine V.iconst (pc' := 15) C dX7_readClock_14 rfl kci_5 ?_
  refine V.aload_n (pc' := 16) C 0 dX7_readClock_15 rfl rfl ?_
  refine V.get (pc' := 19) C dX7_readClock_16 rfl 0 rfl rfl in_X7 3 rfl q932 rfl ?_
  refine V.topI hrc ?_
  refine V.iaddN (pc' := 20) C 5 rc dX7_readClock_19 rfl ?_
  refine V.aload_n (pc' := 21) C 0 dX7_readClock_20 rfl rfl ?_
  refine V.iconst (pc' := 22) C dX7_readClock_21 rfl kci_0 ?_
  refine V.iconst (pc' := 23) C dX7_readClock_22 rfl kci_3 ?_
  refine V.callV (pc' := 26) (wr := [(ad 2, .inl (M.G.2 0, 67, .inl (upd rp rc nm)))]) C (ct_X7_number M.l M.G h ad i P tp 0 3 td htd ht (okt).1 (okt).2.2) dX7_readClock_23 rfl (lw_V q1072 q1074 qs39 q71 q1075) hyv_X7_number rfl rfl 0 rfl rfl [0, 2] [1] [1, 0, 2] rfl rfl rfl (fun _ => [mO h ad (tI i ((sNum (bt tp td) 0 3 P).2)), (ad 2, .inl (M.G.2 0, 67, .inl (upd rp rc nm))), (ad 6, .inl (M.G.2 0, 160, .inl tp))]) (fun _ => rfl) rfl 0 0 rfl rfl (fun _ => [.int ((sNum (bt tp td) 0 3 P).1), .int (nI (5 + rc)), .ref (ad 2)]) (fun _ => rfl) (fun _ _ => ?_)
  refine V.weq (ws2 := [(h, .inr (7, [.ref (ad 0), .int (i 1), .ref (ad 2), .int (i 3), .int (i 4), .int (i 5), .ref (ad 6), .int (i 7), .int (i 8), .int (((sNum (bt tp td) 0 3 P).2).1), .int (((sNum (bt tp td) 0 3 P).2).2.1), .int (nI (((sNum (bt tp td) 0 3 P).2).2.2.1)), .int (nI (((sNum (bt tp td) 0 3 P).2).2.2.2.1)), .int (((sNum (bt tp td) 0 3 P).2).2.2.2.2.1), .int (((sNum (bt tp td) 0 3 P).2).2.2.2.2.2), .ref (ad 15), .ref (ad 16), .int (i 17), .int (i 18), .int (i 19), .int (i 20), .int (i 21), .int (i 22), .int (i 23), .ref (ad 24), .int (i 25), .ref (ad 26), .ref (ad 27), .ref (ad 28), .ref (ad 29), .ref (ad 30), .int (i 31)])), (ad 2, .inl (M.G.2 0, 67, .inl (upd rp rc nm))), (ad 6, .inl (M.G.2 0, 160, .inl tp))]) rfl ?_
  refine V.iast (pc' := 27) C (5 + rc) [(h, .inr (7, [.ref (ad 0), .int (i 1), .ref (ad 2), .int (i 3), .int (i 4), .int (i 5), .ref (ad 6), .int (i 7), .int (i 8), .int (((sNum (bt tp td) 0 3 P).2).1), .int (((sNum (bt tp td) 0 3 P).2).2.1), .int (nI (((sNum (bt tp td) 0 3 P).2).2.2.1)), .int (nI (((sNum (bt tp td) 0 3 P).2).2.2.2.1)), .int (((sNum (bt tp td) 0 3 P).2).2.2.2.2.1), .int (((sNum (bt tp td) 0 3 P).2).2.2.2.2.2), .ref (ad 15), .ref (ad 16), .int (i 17), .int (i 18), .int (i 19), .int (i 20), .int (i 21), .int (i 22), .int (i 23), .ref (ad 24), .int (i 25), .ref (ad 26), .ref (ad 27), .ref (ad 28), .ref (ad 29), .ref (ad 30), .int (i 31)])), (ad 2, .inl (M.G.2 0, 67, .inl (upd (upd rp rc nm) (5 + rc) ((sNum (bt tp td) 0 3 P).1)))), (ad 6, .inl (M.G.2 0, 160, .inl tp))] dX7_readClock_26 rfl 1 rfl (by omega) rfl ((sNum (bt tp td) 0 3 P).1) rfl rfl ?_
  refine V.aload_n (pc' := 28) C 0 dX7_readClock_27 rfl rfl ?_
  refine V.get (pc' := 31) C dX7_readClock_28 rfl 0 rfl rfl in_X7 2 rfl q931 rfl ?_
  refine V.bipush (pc' := 33) C dX7_readClock_31 rfl kcb_10 ?_
  refine V.aload_n (pc' := 34) C 0 dX7_readClock_33 rfl rfl ?_
  refine V.get (pc' := 37) C dX7_readClock_34 rfl 0 rfl rfl in_X7 3 rfl q932 rfl ?_
  refine V.topI hrc ?_
  refine V.iaddN (pc' := 38) C 10 rc dX7_readClock_37 rfl ?_
  refine V.aload_n (pc' := 39) C 0 dX7_readClock_38 rfl rfl ?_
  refine V.iconst (pc' := 40) C dX7_readClock_39 rfl kci_0 ?_
  refine V.bipush (pc' := 42) C dX7_readClock_40 rfl kcb_6 ?_
  refine V.callV (pc' := 45) (wr := [(ad 2, .inl (M.G.2 0, 67, .inl (upd (upd rp rc nm) (5 + rc) ((sNum (bt tp td) 0 3 P).1))))]) C (ct_X7_number M.l M.G h ad i ((sNum (bt tp td) 0 3 P).2) tp 0 6 td htd ht ((sNum_ok okt)).1 ((sNum_ok okt)).2.2) dX7_readClock_42 rfl (lw_V q1072 q1074 qs39 q71 q1075) hyv_X7_number rfl rfl 0 rfl rfl [0, 2] [1] [1, 0, 2] rfl rfl rfl (fun _ => [mO h ad (tI i ((sNum (bt tp td) 0 6 ((sNum (bt tp td) 0 3 P).2)).2)), (ad 2, .inl (M.G.2 0, 67, .inl (upd (upd rp rc nm) (5 + rc) ((sNum (bt tp td) 0 3 P).1)))), (ad 6, .inl (M.G.2 0, 160, .inl tp))]) (fun _ => rfl) rfl 0 0 rfl rfl (fun _ => [.int ((sNum (bt tp td) 0 6 ((sNum (bt tp td) 0 3 P).2)).1), .int (nI (10 + rc)), .ref (ad 2)]) (fun _ => rfl) (fun _ _ => ?_)
  refine V.weq (ws2 := [(h, .inr (7, [.ref (ad 0), .int (i 1), .ref (ad 2), .int (i 3), .int (i 4), .int (i 5), .ref (ad 6), .int (i 7), .int (i 8), .int (((sNum (bt tp td) 0 6 ((sNum (bt tp td) 0 3 P).2)).2).1), .int (((sNum (bt tp td) 0 6 ((sNum (bt tp td) 0 3 P).2)).2).2.1), .int (nI (((sNum (bt tp td) 0 6 ((sNum (bt tp td) 0 3 P).2)).2).2.2.1)), .int (nI (((sNum (bt tp td) 0 6 ((sNum (bt tp td) 0 3 P).2)).2).2.2.2.1)), .int (((sNum (bt tp td) 0 6 ((sNum (bt tp td) 0 3 P).2)).2).2.2.2.2.1), .int (((sNum (bt tp td) 0 6 ((sNum (bt tp td) 0 3 P).2)).2).2.2.2.2.2), .ref (ad 15), .ref (ad 16), .int (i 17), .int (i 18), .int (i 19), .int (i 20), .int (i 21), .int (i 22), .int (i 23), .ref (ad 24), .int (i 25), .ref (ad 26), .ref (ad 27), .ref (ad 28), .ref (ad 29), .ref (ad 30), .int (i 31)])), (ad 2, .inl (M.G.2 0, 67, .inl (upd (upd rp rc nm) (5 + rc) ((sNum (bt tp td) 0 3 P).1)))), (ad 6, .inl (M.G.2 0, 160, .inl tp))]) rfl ?_
  refine V.iast (pc' := 46) C (10 + rc) [(h, .inr (7, [.ref (ad 0), .int (i 1), .ref (ad 2), .int (i 3), .int (i 4), .int (i 5), .ref (ad 6), .int (i 7), .int (i 8), .int (((sNum (bt tp td) 0 6 ((sNum (bt tp td) 0 3 P).2)).2).1), .int (((sNum (bt tp td) 0 6 ((sNum (bt tp td) 0 3 P).2)).2).2.1), .int (nI (((sNum (bt tp td) 0 6 ((sNum (bt tp td) 0 3 P).2)).2).2.2.1)), .int (nI (((sNum (bt tp td) 0 6 ((sNum (bt tp td) 0 3 P).2)).2).2.2.2.1)), .int (((sNum (bt tp td) 0 6 ((sNum (bt tp td) 0 3 P).2)).2).2.2.2.2.1), .int (((sNum (bt tp td) 0 6 ((sNum (bt tp td) 0 3 P).2)).2).2.2.2.2.2), .ref (ad 15), .ref (ad 16), .int (i 17), .int (i 18), .int (i 19), .int (i 20), .int (i 21), .int (i 22), .int (i 23), .ref (ad 24), .int (i 25), .ref (ad 26), .ref (ad 27), .ref (ad 28), .ref (ad 29), .ref (ad 30), .int (i 31)])), (ad 2, .inl (M.G.2 0, 67, .inl (upd (upd (upd rp rc nm) (5 + rc) ((sNum (bt tp td) 0 3 P).1)) (10 + rc) ((sNum (bt tp td) 0 6 ((sNum (bt tp td) 0 3 P).2)).1)))), (ad 6, .inl (M.G.2 0, 160, .inl tp))] dX7_readClock_45 rfl 1 rfl (by omega) rfl ((sNum (bt tp td) 0 6 ((sNum (bt tp td) 0 3 P).2)).1) rfl rfl ?_
  refine V.aload_n (pc' := 47) C 0 dX7_readClock_46 rfl rfl ?_
  refine V.get (pc' := 50) C dX7_readClock_47 rfl 0 rfl rfl in_X7 2 rfl q931 rfl ?_
  refine V.bipush (pc' := 52) C dX7_readClock_50 rfl kcb_15 ?_
  refine V.aload_n (pc' := 53) C 0 dX7_readClock_52 rfl rfl ?_
  refine V.get (pc' := 56) C dX7_readClock_53 rfl 0 rfl rfl in_X7 3 rfl q932 rfl ?_
  refine V.topI hrc ?_
  refine V.iaddN (pc' := 57) C 15 rc dX7_readClock_56 rfl ?_
  refine V.bipush (pc' := 59) C dX7_readClock_57 rfl kcb_50 ?_
  refine V.iast (pc' := 60) C (15 + rc) [(h, .inr (7, [.ref (ad 0), .int (i 1), .ref (ad 2), .int (i 3), .int (i 4), .int (i 5), .ref (ad 6), .int (i 7), .int (i 8), .int (((sNum (bt tp td) 0 6 ((sNum (bt tp td) 0 3 P).2)).2).1), .int (((sNum (bt tp td) 0 6 ((sNum (bt tp td) 0 3 P).2)).2).2.1), .int (nI (((sNum (bt tp td) 0 6 ((sNum (bt tp td) 0 3 P).2)).2).2.2.1)), .int (nI (((sNum (bt tp td) 0 6 ((sNum (bt tp td) 0 3 P).2)).2).2.2.2.1)), .int (((sNum (bt tp td) 0 6 ((sNum (bt tp td) 0 3 P).2)).2).2.2.2.2.1), .int (((sNum (bt tp td) 0 6 ((sNum (bt tp td) 0 3 P).2)).2).2.2.2.2.2), .ref (ad 15), .ref (ad 16), .int (i 17), .int (i 18), .int (i 19), .int (i 20), .int (i 21), .int (i 22), .int (i 23), .ref (ad 24), .int (i 25), .ref (ad 26), .ref (ad 27), .ref (ad 28), .ref (ad 29), .ref (ad 30), .int (i 31)])), (ad 2, .inl (M.G.2 0, 67, .inl (upd (upd (upd (upd rp rc nm) (5 + rc) ((sNum (bt tp td) 0 3 P).1)) (10 + rc) ((sNum (bt tp td) 0 6 ((sNum (bt tp td) 0 3 P).2)).1)) (15 + rc) 50))), (ad 6, .inl (M.G.2 0, 160, .inl tp))] dX7_readClock_59 rfl 1 rfl (by omega) rfl 50 rfl rfl ?_
  refine V.aload_n (pc' := 61) C 0 dX7_readClock_60 rfl rfl ?_
  refine V.get (pc' := 64) C dX7_readClock_61 rfl 0 rfl rfl in_X7 9 rfl q938 rfl ?_
  refine V.if_ne (pc' := 67) C 94 dX7_readClock_64 rfl rfl (fun h1 => ?_) (fun h1 => ?_)
  · refine V.aload_n (pc' := 95) C 0 dX7_readClock_94 rfl rfl ?_
    refine V.dup (pc' := 96) C rfl dX7_readClock_95 rfl ?_
    refine V.get (pc' := 99) C dX7_readClock_96 rfl 0 rfl rfl in_X7 3 rfl q932 rfl ?_
    refine V.topI hrc ?_
    refine V.iconst (pc' := 100) C dX7_readClock_99 rfl kci_1 ?_
    refine V.iaddN (pc' := 101) C rc 1 dX7_readClock_100 rfl ?_
    refine V.put (pc' := 104) C [(h, .inr (7, [.ref (ad 0), .int (i 1), .ref (ad 2), .int (nI (rc + 1)), .int (i 4), .int (i 5), .ref (ad 6), .int (i 7), .int (i 8), .int (((sNum (bt tp td) 0 6 ((sNum (bt tp td) 0 3 P).2)).2).1), .int (((sNum (bt tp td) 0 6 ((sNum (bt tp td) 0 3 P).2)).2).2.1), .int (nI (((sNum (bt tp td) 0 6 ((sNum (bt tp td) 0 3 P).2)).2).2.2.1)), .int (nI (((sNum (bt tp td) 0 6 ((sNum (bt tp td) 0 3 P).2)).2).2.2.2.1)), .int (((sNum (bt tp td) 0 6 ((sNum (bt tp td) 0 3 P).2)).2).2.2.2.2.1), .int (((sNum (bt tp td) 0 6 ((sNum (bt tp td) 0 3 P).2)).2).2.2.2.2.2), .ref (ad 15), .ref (ad 16), .int (i 17), .int (i 18), .int (i 19), .int (i 20), .int (i 21), .int (i 22), .int (i 23), .ref (ad 24), .int (i 25), .ref (ad 26), .ref (ad 27), .ref (ad 28), .ref (ad 29), .ref (ad 30), .int (i 31)])), (ad 2, .inl (M.G.2 0, 67, .inl (upd (upd (upd (upd rp rc nm) (5 + rc) ((sNum (bt tp td) 0 3 P).1)) (10 + rc) ((sNum (bt tp td) 0 6 ((sNum (bt tp td) 0 3 P).2)).1)) (15 + rc) 50))), (ad 6, .inl (M.G.2 0, 160, .inl tp))] dX7_readClock_101 rfl 0 rfl rfl in_X7 tyX7_ok nmX7 3 rfl q932 rfl rfl rfl rfl rfl ?_
    have es : sClk (bt tp td) P rp rc nm = ((sNum (bt tp td) 0 6 ((sNum (bt tp td) 0 3 P).2)).2, upd (upd (upd (upd rp rc nm) (5 + rc) ((sNum (bt tp td) 0 3 P).1)) (10 + rc) ((sNum (bt tp td) 0 6 ((sNum (bt tp td) 0 3 P).2)).1)) (15 + rc) 50) := by
      unfold sClk
      rw [if_neg h1]
    exact V.vret C T dX7_readClock_104 () rfl trivial (by rw [es]; first | done | rfl) rfl rfl
  · refine V.aload_n (pc' := 68) C 0 dX7_readClock_67 rfl rfl ?_
    refine V.get (pc' := 71) C dX7_readClock_68 rfl 0 rfl rfl in_X7 13 rfl q942 rfl ?_
    refine V.iconst (pc' := 72) C dX7_readClock_71 rfl kci_2 ?_
    refine V.icmp_ne (pc' := 75) C 94 dX7_readClock_72 rfl rfl (fun h2 => ?_) (fun h2 => ?_)
    · refine V.aload_n (pc' := 95) C 0 dX7_readClock_94 rfl rfl ?_
      refine V.dup (pc' := 96) C rfl dX7_readClock_95 rfl ?_
      refine V.get (pc' := 99) C dX7_readClock_96 rfl 0 rfl rfl in_X7 3 rfl q932 rfl ?_
      refine V.topI hrc ?_
      refine V.iconst (pc' := 100) C dX7_readClock_99 rfl kci_1 ?_
      refine V.iaddN (pc' := 101) C rc 1 dX7_readClock_100 rfl ?_
      refine V.put (pc' := 104) C [(h, .inr (7, [.ref (ad 0), .int (i 1), .ref (ad 2), .int (nI (rc + 1)), .int (i 4), .int (i 5), .ref (ad 6), .int (i 7), .int (i 8), .int (((sNum (bt tp td) 0 6 ((sNum (bt tp td) 0 3 P).2)).2).1), .int (((sNum (bt tp td) 0 6 ((sNum (bt tp td) 0 3 P).2)).2).2.1), .int (nI (((sNum (bt tp td) 0 6 ((sNum (bt tp td) 0 3 P).2)).2).2.2.1)), .int (nI (((sNum (bt tp td) 0 6 ((sNum (bt tp td) 0 3 P).2)).2).2.2.2.1)), .int (((sNum (bt tp td) 0 6 ((sNum (bt tp td) 0 3 P).2)).2).2.2.2.2.1), .int (((sNum (bt tp td) 0 6 ((sNum (bt tp td) 0 3 P).2)).2).2.2.2.2.2), .ref (ad 15), .ref (ad 16), .int (i 17), .int (i 18), .int (i 19), .int (i 20), .int (i 21), .int (i 22), .int (i 23), .ref (ad 24), .int (i 25), .ref (ad 26), .ref (ad 27), .ref (ad 28), .ref (ad 29), .ref (ad 30), .int (i 31)])), (ad 2, .inl (M.G.2 0, 67, .inl (upd (upd (upd (upd rp rc nm) (5 + rc) ((sNum (bt tp td) 0 3 P).1)) (10 + rc) ((sNum (bt tp td) 0 6 ((sNum (bt tp td) 0 3 P).2)).1)) (15 + rc) 50))), (ad 6, .inl (M.G.2 0, 160, .inl tp))] dX7_readClock_101 rfl 0 rfl rfl in_X7 tyX7_ok nmX7 3 rfl q932 rfl rfl rfl rfl rfl ?_
      have es : sClk (bt tp td) P rp rc nm = ((sNum (bt tp td) 0 6 ((sNum (bt tp td) 0 3 P).2)).2, upd (upd (upd (upd rp rc nm) (5 + rc) ((sNum (bt tp td) 0 3 P).1)) (10 + rc) ((sNum (bt tp td) 0 6 ((sNum (bt tp td) 0 3 P).2)).1)) (15 + rc) 50) := by
        unfold sClk
        rw [if_pos h1, if_neg h2]
      exact V.vret C T dX7_readClock_104 () rfl trivial (by rw [es]; first | done | rfl) rfl rfl
    · refine V.aload_n (pc' := 76) C 0 dX7_readClock_75 rfl rfl ?_
      refine V.get (pc' := 79) C dX7_readClock_76 rfl 0 rfl rfl in_X7 2 rfl q931 rfl ?_
      refine V.bipush (pc' := 81) C dX7_readClock_79 rfl kcb_15 ?_
      refine V.aload_n (pc' := 82) C 0 dX7_readClock_81 rfl rfl ?_
      refine V.get (pc' := 85) C dX7_readClock_82 rfl 0 rfl rfl in_X7 3 rfl q932 rfl ?_
      refine V.topI hrc ?_
      refine V.iaddN (pc' := 86) C 15 rc dX7_readClock_85 rfl ?_
      refine V.aload_n (pc' := 87) C 0 dX7_readClock_86 rfl rfl ?_
      refine V.iconst (pc' := 88) C dX7_readClock_87 rfl kci_0 ?_
      refine V.bipush (pc' := 90) C dX7_readClock_88 rfl kcb_99 ?_
      refine V.callV (pc' := 93) (wr := [(ad 2, .inl (M.G.2 0, 67, .inl (upd (upd (upd (upd rp rc nm) (5 + rc) ((sNum (bt tp td) 0 3 P).1)) (10 + rc) ((sNum (bt tp td) 0 6 ((sNum (bt tp td) 0 3 P).2)).1)) (15 + rc) 50)))]) C (ct_X7_number M.l M.G h ad i ((sNum (bt tp td) 0 6 ((sNum (bt tp td) 0 3 P).2)).2) tp 0 99 td htd ht ((sNum_ok (sNum_ok okt))).1 ((sNum_ok (sNum_ok okt))).2.2) dX7_readClock_90 rfl (lw_V q1072 q1074 qs39 q71 q1075) hyv_X7_number rfl rfl 0 rfl rfl [0, 2] [1] [1, 0, 2] rfl rfl rfl (fun _ => [mO h ad (tI i ((sNum (bt tp td) 0 99 ((sNum (bt tp td) 0 6 ((sNum (bt tp td) 0 3 P).2)).2)).2)), (ad 2, .inl (M.G.2 0, 67, .inl (upd (upd (upd (upd rp rc nm) (5 + rc) ((sNum (bt tp td) 0 3 P).1)) (10 + rc) ((sNum (bt tp td) 0 6 ((sNum (bt tp td) 0 3 P).2)).1)) (15 + rc) 50))), (ad 6, .inl (M.G.2 0, 160, .inl tp))]) (fun _ => rfl) rfl 0 0 rfl rfl (fun _ => [.int ((sNum (bt tp td) 0 99 ((sNum (bt tp td) 0 6 ((sNum (bt tp td) 0 3 P).2)).2)).1), .int (nI (15 + rc)), .ref (ad 2)]) (fun _ => rfl) (fun _ _ => ?_)
      refine V.weq (ws2 := [(h, .inr (7, [.ref (ad 0), .int (i 1), .ref (ad 2), .int (i 3), .int (i 4), .int (i 5), .ref (ad 6), .int (i 7), .int (i 8), .int (((sNum (bt tp td) 0 99 ((sNum (bt tp td) 0 6 ((sNum (bt tp td) 0 3 P).2)).2)).2).1), .int (((sNum (bt tp td) 0 99 ((sNum (bt tp td) 0 6 ((sNum (bt tp td) 0 3 P).2)).2)).2).2.1), .int (nI (((sNum (bt tp td) 0 99 ((sNum (bt tp td) 0 6 ((sNum (bt tp td) 0 3 P).2)).2)).2).2.2.1)), .int (nI (((sNum (bt tp td) 0 99 ((sNum (bt tp td) 0 6 ((sNum (bt tp td) 0 3 P).2)).2)).2).2.2.2.1)), .int (((sNum (bt tp td) 0 99 ((sNum (bt tp td) 0 6 ((sNum (bt tp td) 0 3 P).2)).2)).2).2.2.2.2.1), .int (((sNum (bt tp td) 0 99 ((sNum (bt tp td) 0 6 ((sNum (bt tp td) 0 3 P).2)).2)).2).2.2.2.2.2), .ref (ad 15), .ref (ad 16), .int (i 17), .int (i 18), .int (i 19), .int (i 20), .int (i 21), .int (i 22), .int (i 23), .ref (ad 24), .int (i 25), .ref (ad 26), .ref (ad 27), .ref (ad 28), .ref (ad 29), .ref (ad 30), .int (i 31)])), (ad 2, .inl (M.G.2 0, 67, .inl (upd (upd (upd (upd rp rc nm) (5 + rc) ((sNum (bt tp td) 0 3 P).1)) (10 + rc) ((sNum (bt tp td) 0 6 ((sNum (bt tp td) 0 3 P).2)).1)) (15 + rc) 50))), (ad 6, .inl (M.G.2 0, 160, .inl tp))]) rfl ?_
      refine V.iast (pc' := 94) C (15 + rc) [(h, .inr (7, [.ref (ad 0), .int (i 1), .ref (ad 2), .int (i 3), .int (i 4), .int (i 5), .ref (ad 6), .int (i 7), .int (i 8), .int (((sNum (bt tp td) 0 99 ((sNum (bt tp td) 0 6 ((sNum (bt tp td) 0 3 P).2)).2)).2).1), .int (((sNum (bt tp td) 0 99 ((sNum (bt tp td) 0 6 ((sNum (bt tp td) 0 3 P).2)).2)).2).2.1), .int (nI (((sNum (bt tp td) 0 99 ((sNum (bt tp td) 0 6 ((sNum (bt tp td) 0 3 P).2)).2)).2).2.2.1)), .int (nI (((sNum (bt tp td) 0 99 ((sNum (bt tp td) 0 6 ((sNum (bt tp td) 0 3 P).2)).2)).2).2.2.2.1)), .int (((sNum (bt tp td) 0 99 ((sNum (bt tp td) 0 6 ((sNum (bt tp td) 0 3 P).2)).2)).2).2.2.2.2.1), .int (((sNum (bt tp td) 0 99 ((sNum (bt tp td) 0 6 ((sNum (bt tp td) 0 3 P).2)).2)).2).2.2.2.2.2), .ref (ad 15), .ref (ad 16), .int (i 17), .int (i 18), .int (i 19), .int (i 20), .int (i 21), .int (i 22), .int (i 23), .ref (ad 24), .int (i 25), .ref (ad 26), .ref (ad 27), .ref (ad 28), .ref (ad 29), .ref (ad 30), .int (i 31)])), (ad 2, .inl (M.G.2 0, 67, .inl (upd (upd (upd (upd (upd rp rc nm) (5 + rc) ((sNum (bt tp td) 0 3 P).1)) (10 + rc) ((sNum (bt tp td) 0 6 ((sNum (bt tp td) 0 3 P).2)).1)) (15 + rc) 50) (15 + rc) ((sNum (bt tp td) 0 99 ((sNum (bt tp td) 0 6 ((sNum (bt tp td) 0 3 P).2)).2)).1)))), (ad 6, .inl (M.G.2 0, 160, .inl tp))] dX7_readClock_93 rfl 1 rfl (by omega) rfl ((sNum (bt tp td) 0 99 ((sNum (bt tp td) 0 6 ((sNum (bt tp td) 0 3 P).2)).2)).1) rfl rfl ?_
      refine V.aload_n (pc' := 95) C 0 dX7_readClock_94 rfl rfl ?_
      refine V.dup (pc' := 96) C rfl dX7_readClock_95 rfl ?_
      refine V.get (pc' := 99) C dX7_readClock_96 rfl 0 rfl rfl in_X7 3 rfl q932 rfl ?_
      refine V.topI hrc ?_
      refine V.iconst (pc' := 100) C dX7_readClock_99 rfl kci_1 ?_
      refine V.iaddN (pc' := 101) C rc 1 dX7_readClock_100 rfl ?_
      refine V.put (pc' := 104) C [(h, .inr (7, [.ref (ad 0), .int (i 1), .ref (ad 2), .int (nI (rc + 1)), .int (i 4), .int (i 5), .ref (ad 6), .int (i 7), .int (i 8), .int (((sNum (bt tp td) 0 99 ((sNum (bt tp td) 0 6 ((sNum (bt tp td) 0 3 P).2)).2)).2).1), .int (((sNum (bt tp td) 0 99 ((sNum (bt tp td) 0 6 ((sNum (bt tp td) 0 3 P).2)).2)).2).2.1), .int (nI (((sNum (bt tp td) 0 99 ((sNum (bt tp td) 0 6 ((sNum (bt tp td) 0 3 P).2)).2)).2).2.2.1)), .int (nI (((sNum (bt tp td) 0 99 ((sNum (bt tp td) 0 6 ((sNum (bt tp td) 0 3 P).2)).2)).2).2.2.2.1)), .int (((sNum (bt tp td) 0 99 ((sNum (bt tp td) 0 6 ((sNum (bt tp td) 0 3 P).2)).2)).2).2.2.2.2.1), .int (((sNum (bt tp td) 0 99 ((sNum (bt tp td) 0 6 ((sNum (bt tp td) 0 3 P).2)).2)).2).2.2.2.2.2), .ref (ad 15), .ref (ad 16), .int (i 17), .int (i 18), .int (i 19), .int (i 20), .int (i 21), .int (i 22), .int (i 23), .ref (ad 24), .int (i 25), .ref (ad 26), .ref (ad 27), .ref (ad 28), .ref (ad 29), .ref (ad 30), .int (i 31)])), (ad 2, .inl (M.G.2 0, 67, .inl (upd (upd (upd (upd (upd rp rc nm) (5 + rc) ((sNum (bt tp td) 0 3 P).1)) (10 + rc) ((sNum (bt tp td) 0 6 ((sNum (bt tp td) 0 3 P).2)).1)) (15 + rc) 50) (15 + rc) ((sNum (bt tp td) 0 99 ((sNum (bt tp td) 0 6 ((sNum (bt tp td) 0 3 P).2)).2)).1)))), (ad 6, .inl (M.G.2 0, 160, .inl tp))] dX7_readClock_101 rfl 0 rfl rfl in_X7 tyX7_ok nmX7 3 rfl q932 rfl rfl rfl rfl rfl ?_
      have es : sClk (bt tp td) P rp rc nm = ((sNum (bt tp td) 0 99 ((sNum (bt tp td) 0 6 ((sNum (bt tp td) 0 3 P).2)).2)).2, upd (upd (upd (upd (upd rp rc nm) (5 + rc) ((sNum (bt tp td) 0 3 P).1)) (10 + rc) ((sNum (bt tp td) 0 6 ((sNum (bt tp td) 0 3 P).2)).1)) (15 + rc) 50) (15 + rc) ((sNum (bt tp td) 0 99 ((sNum (bt tp td) 0 6 ((sNum (bt tp td) 0 3 P).2)).2)).1)) := by
        unfold sClk
        rw [if_pos h1, if_pos h2]
      exact V.vret C T dX7_readClock_104 () rfl trivial (by rw [es]; first | done | rfl) rfl rfl
